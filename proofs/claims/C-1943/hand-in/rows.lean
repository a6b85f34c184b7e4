section
def bt (x : Int32) (i : Nat) : Bool := x.toBitVec.getLsbD i
theorem b_ext {x y : Int32} (h : ∀ i, i < 32 → bt x i = bt y i) : x = y := Int32.toBitVec_inj.mp (BitVec.eq_of_getLsbD_eq (fun i hi => h i hi))
theorem b_or (x y : Int32) (i : Nat) : bt (x ||| y) i = (bt x i || bt y i) := by unfold bt; rw [Int32.toBitVec_or, BitVec.getLsbD_or]
theorem b_and (x y : Int32) (i : Nat) : bt (x &&& y) i = (bt x i && bt y i) := by unfold bt; rw [Int32.toBitVec_and, BitVec.getLsbD_and]
theorem b_xor (x y : Int32) (i : Nat) : bt (x ^^^ y) i = (bt x i ^^ bt y i) := by unfold bt; rw [Int32.toBitVec_xor, BitVec.getLsbD_xor]
theorem b_big {x : Int32} {i : Nat} (h : 32 ≤ i) : bt x i = false := BitVec.getLsbD_of_ge _ _ h
theorem b_m1 : ∀ i, i < 32 → bt (-1) i = true := by decide +kernel
theorem b_0 (i : Nat) : bt 0 i = false := BitVec.getLsbD_zero
theorem s_l : ∀ n, n < 32 → ((nI n &&& 31).toBitVec.smod 32).toNat = n := by decide +kernel
theorem b_shl (n : Nat) (hn : n < 32) (x : Int32) {i : Nat} (hi : i < 32) : bt (x <<< (nI n &&& 31)) i = (decide (n ≤ i) && bt x (i - n)) := by
  unfold bt
  rw [Int32.toBitVec_shiftLeft]
  show (x.toBitVec <<< ((nI n &&& 31).toBitVec.smod 32).toNat).getLsbD i = _
  rw [s_l n hn, BitVec.getLsbD_shiftLeft]
  rcases Nat.lt_or_ge i n with h | h
  · simp [h, Nat.not_le.mpr h]
  · simp [hi, h, Nat.not_lt.mpr h]
theorem b_sshr (n : Nat) (hn : n < 32) (x : Int32) {i : Nat} (hi : i < 32) : bt (x >>> (nI n &&& 31)) i = if n + i < 32 then bt x (n + i) else bt x 31 := by
  unfold bt
  rw [Int32.toBitVec_shiftRight]
  show (x.toBitVec.sshiftRight ((nI n &&& 31).toBitVec.smod 32).toNat).getLsbD i = _
  rw [s_l n hn, BitVec.getLsbD_sshiftRight, BitVec.msb_eq_getLsbD_last]
  simp [hi]
theorem pk_us {f : Nat → Int32} {k : Nat} {x : Int32} : upd f k x k = x := if_pos rfl
theorem pk_un {f : Nat → Int32} {k j : Nat} {x : Int32} (h : j ≠ k) : upd f k x j = f j := if_neg h
theorem pk_sub {a b : Nat} (h : b ≤ a) : nI a - nI b = nI (a - b) := by
  obtain ⟨c, rfl⟩ : ∃ c, a = c + b := ⟨a - b, by omega⟩
  rw [← nI_add, Int32.add_sub_cancel, Nat.add_sub_cancel]
theorem pk_m1 (n : Nat) : nI (n + 1) + (-1) = nI n := by
  rw [← nI_1, Int32.add_assoc, show (1 : Int32) + (-1) = 0 from rfl, Int32.add_zero]
theorem pk_mul (a b : Nat) : nI a * nI b = nI (a * b) := (Int32.ofNat_mul a b).symm
theorem pk_ix (x : Int32) {n : Nat} (hn : n < 2 ^ 31) : x < 0 ∨ nI n ≤ x ∨ ∃ j : Nat, j < n ∧ x = nI j := by
  by_cases h : x < 0
  · exact Or.inl h
  · obtain ⟨j, hj, rfl⟩ := nI_of h
    by_cases h2 : j < n
    · exact Or.inr (Or.inr ⟨j, h2, rfl⟩)
    · exact Or.inr (Or.inl (nI_le (by omega) hj))
theorem pk_le {x y : Int32} {A B : Prop} (a b : Nat) (f : a ≤ b → A) (g : b < a → B) (hx : x = nI a := by rfl) (hy : y = nI b := by rfl) (ha : a < 2 ^ 31 := by omega) (hb : b < 2 ^ 31 := by omega) : (x ≤ y → A) ∧ (¬ x ≤ y → B) := by
  subst hx hy
  rw [nI_leI ha hb]
  exact ⟨f, fun z => g (by omega)⟩
theorem pk_lt {x y : Int32} {A B : Prop} (a b : Nat) (f : a < b → A) (g : b ≤ a → B) (hx : x = nI a := by rfl) (hy : y = nI b := by rfl) (ha : a < 2 ^ 31 := by omega) (hb : b < 2 ^ 31 := by omega) : (x < y → A) ∧ (¬ x < y → B) := by
  subst hx hy
  rw [nI_ltI ha hb]
  exact ⟨f, fun z => g (by omega)⟩
theorem pk_eq {x y : Int32} {A B : Prop} (a b : Nat) (f : a = b → A) (g : a ≠ b → B) (hx : x = nI a := by rfl) (hy : y = nI b := by rfl) (ha : a < 2 ^ 31 := by omega) (hb : b < 2 ^ 31 := by omega) : (x = y → A) ∧ (¬ x = y → B) := by
  subst hx hy
  rw [nI_eq ha hb]
  exact ⟨f, g⟩
theorem pk_in {x : Int32} (n N : Nat) (h : n < N) (hx : x = nI n := by rfl) (hN : N < 2 ^ 31 := by omega) : vp_in x N := by
  subst hx
  exact vp_in_nI h hN
theorem pk_cl {x : Int32} (n : Nat) (hx : x = nI n := by rfl) (h : n < 2 ^ 31 := by omega) : x.toNatClampNeg = n := by
  subst hx
  exact nI_clamp h
theorem pk_tn {n : Nat} (h : n < 2 ^ 32) : (nI n).toBitVec.toNat = n := Nat.mod_eq_of_lt h
theorem pk_and (x : Int32) {m : Int32} (k : Nat) (hm : m.toBitVec.toNat = 2 ^ k - 1) : x &&& m = nI (x.toBitVec.toNat % 2 ^ k) := by
  apply Int32.toBitVec_inj.mp
  apply BitVec.eq_of_toNat_eq
  rw [Int32.toBitVec_and, BitVec.toNat_and, hm, Nat.and_two_pow_sub_one_eq_mod]
  show _ = (BitVec.ofNat 32 _).toNat
  rw [BitVec.toNat_ofNat]
  exact (Nat.mod_eq_of_lt (Nat.lt_of_le_of_lt (Nat.mod_le _ _) x.toBitVec.isLt)).symm
theorem pk_andN {n : Nat} (h : n < 2 ^ 32) {m : Int32} (k : Nat) (hm : m.toBitVec.toNat = 2 ^ k - 1) : nI n &&& m = nI (n % 2 ^ k) := by
  rw [pk_and _ k hm, pk_tn h]
theorem pk_nb (z : Int32) : narrow .byte (.int z.toInt8.toInt32) = .int z.toInt8.toInt32 := congrArg Value.int (by simp)
theorem pk_vb (z : Int32) : vp_nar .byte z.toInt8.toInt32 = z.toInt8.toInt32 := by rw [vp_nar_byte]; simp
theorem pk_least (P : Nat → Prop) (h : ∃ k, P k) : ∃ k, P k ∧ ∀ j, j < k → ¬ P j := by
  obtain ⟨k, hk⟩ := h
  induction k using Nat.strongRecOn with
  | ind k ih =>
    by_cases e : ∃ j, j < k ∧ P j
    · obtain ⟨j, hj, pj⟩ := e
      exact ih j hj pj
    · exact ⟨k, hk, fun j hj pj => e ⟨j, hj, pj⟩⟩
theorem fi_not (x : Int32) {i : Nat} (hi : i < 32) : bt (x ^^^ (-1)) i = !bt x i := by
  rw [b_xor, b_m1 i hi]; cases bt x i <;> rfl
theorem fi_b1 {k i : Nat} (hk : k < 32) (hi : i < 32) : bt ((1 : Int32) <<< (nI k &&& 31)) i = decide (i = k) := by
  exact (by decide +kernel : ∀ k, k < 32 → ∀ i, i < 32 → bt ((1 : Int32) <<< (nI k &&& 31)) i = decide (i = k)) k hk i hi
theorem fi_one : ∀ i, i < 32 → bt 1 i = decide (i = 0) := by decide +kernel
theorem fi_zero {x : Int32} : x = 0 ↔ ∀ i, i < 32 → bt x i = false := by
  constructor
  · intro h i _; rw [h, b_0]
  · intro h; exact b_ext (fun i hi => by rw [h i hi, b_0])
theorem fi_nzero {x : Int32} : ¬ x = 0 ↔ ∃ i, i < 32 ∧ bt x i = true := by
  constructor
  · intro h
    refine Classical.byContradiction (fun hn => h (fi_zero.mpr (fun i hi => ?_)))
    cases e : bt x i with
    | false => rfl
    | true => exact absurd ⟨i, hi, e⟩ hn
  · rintro ⟨i, hi, e⟩ h
    rw [h, b_0] at e
    exact absurd e (by decide)
theorem fi_and1 (x : Int32) (i : Nat) (hi : i < 32) : bt (x &&& 1) i = (bt x 0 && decide (i = 0)) := by
  rw [b_and, fi_one i hi]
  by_cases h : i = 0
  · rw [h]
  · rw [decide_eq_false h, Bool.and_false, Bool.and_false]
theorem fi_tb {x : Int32} {p : Nat} (hp : p < 32) (i : Nat) (hi : i < 32) : bt ((x >>> (nI p &&& 31)) &&& 1) i = (bt x p && decide (i = 0)) := by
  rw [fi_and1 _ i hi, b_sshr p hp x (by omega), if_pos (by omega), Nat.add_zero]
theorem fi_t0 {x : Int32} {p : Nat} (hp : p < 32) : ((x >>> (nI p &&& 31)) &&& 1) = 0 ↔ bt x p = false := by
  rw [fi_zero]
  constructor
  · intro h
    have := h 0 (by omega)
    rw [fi_tb hp 0 (by omega)] at this
    simpa using this
  · intro h i hi
    rw [fi_tb hp i hi, h, Bool.false_and]
theorem fi_t1 {x : Int32} {p : Nat} (hp : p < 32) : ((x >>> (nI p &&& 31)) &&& 1) = 1 ↔ bt x p = true := by
  constructor
  · intro h
    have : bt ((x >>> (nI p &&& 31)) &&& 1) 0 = true := by rw [h]; decide
    rw [fi_tb hp 0 (by omega)] at this
    simpa using this
  · intro h
    refine b_ext (fun i hi => ?_)
    rw [fi_tb hp i hi, h, Bool.true_and, fi_one i hi]
theorem fi_63 : ∀ i, i < 32 → bt 63 i = decide (i < 6) := by decide +kernel
theorem fi_end : ∀ i, i < 32 → bt 1048576 i = decide (i = 20) := by decide +kernel
theorem fi_code : ∀ n, n ≤ 20 → ∀ i, i < 32 → bt (((1 : Int32) <<< (nI n &&& 31)) - 1) i = decide (i < n) := by decide +kernel
/-- r holds exactly the numbers of P (below 32) -/
def fi_is (r : Int32) (P : Nat → Prop) : Prop := ∀ i, i < 32 → (bt r i = true ↔ P i)
theorem fi_is_eq {r s : Int32} {P Q : Nat → Prop} (h : fi_is r P) (k : fi_is s Q) (e : ∀ i, i < 32 → (P i ↔ Q i)) : r = s := by
  refine b_ext (fun i hi => ?_)
  have := (h i hi).trans ((e i hi).trans (k i hi).symm)
  cases h1 : bt r i <;> cases h2 : bt s i <;> simp_all
theorem fi_is_0 : fi_is 0 (fun _ => False) := fun i _ => by rw [b_0]; simp
theorem fi_is_1 {k : Nat} (hk : k < 32) : fi_is ((1 : Int32) <<< (nI k &&& 31)) (fun i => i = k) := fun i hi => by rw [fi_b1 hk hi]; simp
theorem fi_is_or {r s : Int32} {P Q : Nat → Prop} (h : fi_is r P) (k : fi_is s Q) : fi_is (r ||| s) (fun i => P i ∨ Q i) := fun i hi => by
  rw [b_or, Bool.or_eq_true, h i hi, k i hi]
theorem fi_is_and {r s : Int32} {P Q : Nat → Prop} (h : fi_is r P) (k : fi_is s Q) : fi_is (r &&& s) (fun i => P i ∧ Q i) := fun i hi => by
  rw [b_and, Bool.and_eq_true, h i hi, k i hi]
theorem fi_is_not {r : Int32} {P : Nat → Prop} (h : fi_is r P) : fi_is (r ^^^ (-1)) (fun i => ¬ P i) := fun i hi => by
  rw [fi_not r hi]; show _ ↔ ¬ P i; rw [← h i hi]; cases bt r i <;> simp
theorem fi_is_c {r : Int32} {P Q : Nat → Prop} (h : fi_is r P) (e : ∀ i, i < 32 → (P i ↔ Q i)) : fi_is r Q := fun i hi => (h i hi).trans (e i hi)
theorem fi_is_t0 {r : Int32} {P : Nat → Prop} {p : Nat} (h : fi_is r P) (hp : p < 32) : ((r >>> (nI p &&& 31)) &&& 1) = 0 ↔ ¬ P p := by
  rw [fi_t0 hp, ← h p hp]; cases bt r p <;> simp
theorem fi_is_t1 {r : Int32} {P : Nat → Prop} {p : Nat} (h : fi_is r P) (hp : p < 32) : ((r >>> (nI p &&& 31)) &&& 1) = 1 ↔ P p := by
  rw [fi_t1 hp, ← h p hp]
theorem fi_is_z {r : Int32} {P : Nat → Prop} (h : fi_is r P) : r = 0 ↔ ∀ i, i < 32 → ¬ P i := by
  rw [fi_zero]
  constructor
  · intro k i hi hp
    have := (h i hi).mpr hp
    rw [k i hi] at this
    exact absurd this (by decide)
  · intro k i hi
    cases e : bt r i with
    | false => rfl
    | true => exact absurd ((h i hi).mp e) (k i hi)
theorem fi_is_20 {r : Int32} {P : Nat → Prop} (h : fi_is r P) (lo : ∀ i, i < 32 → P i → i < 21) : (r >>> ((20 : Int32) &&& 31)) = 0 ↔ ¬ P 20 := by
  have e : ∀ i, i < 32 → bt (r >>> ((20 : Int32) &&& 31)) i = if 20 + i < 32 then bt r (20 + i) else bt r 31 := fun i hi => b_sshr 20 (by omega) r hi
  have f31 : bt r 31 = false := by
    cases e : bt r 31 with
    | false => rfl
    | true => have := lo 31 (by omega) ((h 31 (by omega)).mp e); omega
  rw [fi_zero]
  constructor
  · intro k hp
    have := k 0 (by omega)
    rw [e 0 (by omega), if_pos (by omega)] at this
    have q := (h 20 (by omega)).mpr hp
    simp_all
  · intro k i hi
    rw [e i hi]
    by_cases c : 20 + i < 32
    · rw [if_pos c]
      cases e2 : bt r (20 + i) with
      | false => rfl
      | true =>
        have z := (h (20 + i) c).mp e2
        have := lo _ c z
        have : i = 0 := by omega
        subst this
        exact absurd z k
    · rw [if_neg c, f31]
theorem fi_nb {k : Nat} (h : k < 128) : vp_nar .byte (nI k).toInt8.toInt32 = nI k := by
  rw [pk_vb]
  exact (by decide +kernel : ∀ k, k < 128 → (nI k).toInt8.toInt32 = nI k) k h
theorem fi_nb' {k : Nat} (h : k < 128) : vp_nar .byte (nI k) = nI k := by
  rw [vp_nar_byte]
  exact (by decide +kernel : ∀ k, k < 128 → (nI k).toInt8.toInt32 = nI k) k h
theorem fi_nbm : vp_nar .byte (-1) = -1 := by rw [vp_nar_byte]; decide +kernel
theorem fi_nbm' : vp_nar .byte ((-1 : Int32).toInt8.toInt32) = -1 := by rw [vp_nar_byte]; decide +kernel
theorem fi_nz0 : vp_nar .boolean 0 = 0 := rfl
theorem fi_nz1 : vp_nar .boolean 1 = 1 := rfl
theorem fi_neg1 {k : Nat} (h : k < 2 ^ 31) : ¬ (nI k = -1) := by
  intro e
  have := nI_pos' h
  rw [e] at this
  exact absurd this (by decide)
end
section
/-- the least set that holds I and is closed under E -/
def fi_rc (E : Nat → Nat → Prop) (I : Nat → Prop) (z : Nat) : Prop :=
  ∀ S : Nat → Prop, (∀ a, I a → S a) → (∀ a b, S a → E a b → S b) → S z
theorem fi_rc_b {E : Nat → Nat → Prop} {I : Nat → Prop} {z : Nat} (h : I z) : fi_rc E I z := fun _ hb _ => hb z h
theorem fi_rc_s {E : Nat → Nat → Prop} {I : Nat → Prop} {a b : Nat} (h : fi_rc E I a) (e : E a b) : fi_rc E I b := fun S hb hs => hs a b (h S hb hs) e
theorem fi_rc_j {E : Nat → Nat → Prop} {I : Nat → Prop} {z : Nat} (S : Nat → Prop) (hb : ∀ a, I a → S a) (hs : ∀ a b, fi_rc E I a → S a → E a b → S b) (h : fi_rc E I z) : S z :=
  (h (fun x => fi_rc E I x ∧ S x) (fun a ha => ⟨fi_rc_b ha, hb a ha⟩) (fun a b hh e => ⟨fi_rc_s hh.1 e, hs a b hh.1 hh.2 e⟩)).2
theorem fi_rc_m {E F : Nat → Nat → Prop} {I J : Nat → Prop} {z : Nat} (hI : ∀ a, I a → J a) (hE : ∀ a b, E a b → F a b) (h : fi_rc E I z) : fi_rc F J z :=
  h _ (fun a ha => fi_rc_b (hI a ha)) (fun a b ha e => fi_rc_s ha (hE a b e))
theorem fi_rc_t {E : Nat → Nat → Prop} {I J : Nat → Prop} {z : Nat} (hI : ∀ a, I a → fi_rc E J a) (h : fi_rc E I z) : fi_rc E J z :=
  h _ hI (fun a b ha e => fi_rc_s ha e)
theorem fi_rc_cases {E : Nat → Nat → Prop} {I : Nat → Prop} {z : Nat} (h : fi_rc E I z) : I z ∨ ∃ a, fi_rc E I a ∧ E a z :=
  h (fun x => I x ∨ ∃ a, fi_rc E I a ∧ E a x) (fun a ha => Or.inl ha) (fun a b ha e => Or.inr ⟨a, by
    rcases ha with ha | ⟨c, hc, ec⟩
    · exact fi_rc_b ha
    · exact fi_rc_s hc ec, e⟩)
/-- from x to z along E is from z to x against it -/
theorem fi_rc_rev {E : Nat → Nat → Prop} {x z : Nat} (h : fi_rc E (fun a => a = x) z) : fi_rc (fun a b => E b a) (fun a => a = z) x := by
  refine h (fun y => fi_rc (fun a b => E b a) (fun a => a = y) x) (fun a ha => ?_) (fun a b ha e => ?_)
  · subst ha; exact fi_rc_b rfl
  · refine fi_rc_t (fun c hc => ?_) ha
    subst hc
    exact fi_rc_s (fi_rc_b rfl) e
/-- how many numbers below n are in P -/
noncomputable def fi_cn (P : Nat → Prop) : Nat → Nat
  | 0 => 0
  | n + 1 => fi_cn P n + @ite Nat (P n) (Classical.propDecidable _) 1 0
theorem fi_cn_t {P : Nat → Prop} {n : Nat} (h : P n) : fi_cn P (n + 1) = fi_cn P n + 1 := by
  show fi_cn P n + @ite Nat (P n) (Classical.propDecidable _) 1 0 = _
  rw [if_pos h]
theorem fi_cn_f {P : Nat → Prop} {n : Nat} (h : ¬ P n) : fi_cn P (n + 1) = fi_cn P n := by
  show fi_cn P n + @ite Nat (P n) (Classical.propDecidable _) 1 0 = _
  rw [if_neg h, Nat.add_zero]
theorem fi_cn_le {P : Nat → Prop} : ∀ n, fi_cn P n ≤ n
  | 0 => Nat.le_refl _
  | n + 1 => by
    have := fi_cn_le (P := P) n
    by_cases h : P n
    · rw [fi_cn_t h]; omega
    · rw [fi_cn_f h]; omega
theorem fi_cn_mono {P Q : Nat → Prop} : ∀ n, (∀ i, i < n → P i → Q i) → fi_cn P n ≤ fi_cn Q n
  | 0, _ => Nat.le_refl _
  | n + 1, h => by
    have := fi_cn_mono n (fun i hi => h i (by omega))
    by_cases hp : P n
    · rw [fi_cn_t hp, fi_cn_t (h n (by omega) hp)]; omega
    · rw [fi_cn_f hp]
      by_cases hq : Q n
      · rw [fi_cn_t hq]; omega
      · rw [fi_cn_f hq]; omega
theorem fi_cn_lt {P Q : Nat → Prop} : ∀ n, (∀ i, i < n → P i → Q i) → ∀ j, j < n → Q j → ¬ P j → fi_cn P n + 1 ≤ fi_cn Q n
  | 0, _, j, hj, _, _ => absurd hj (by omega)
  | n + 1, h, j, hj, hq, hp => by
    by_cases e : j = n
    · subst e
      have := fi_cn_mono j (fun i hi => h i (by omega))
      rw [fi_cn_f hp, fi_cn_t hq]; omega
    · have := fi_cn_lt n (fun i hi => h i (by omega)) j (by omega) hq hp
      by_cases hp' : P n
      · rw [fi_cn_t hp', fi_cn_t (h n (by omega) hp')]; omega
      · rw [fi_cn_f hp']
        by_cases hq' : Q n
        · rw [fi_cn_t hq']; omega
        · rw [fi_cn_f hq']; omega
theorem fi_cn_full {P : Nat → Prop} : ∀ n, n ≤ fi_cn P n → ∀ i, i < n → P i
  | 0, _, i, hi => absurd hi (by omega)
  | n + 1, h, i, hi => by
    have l := fi_cn_le (P := P) n
    by_cases hp : P n
    · rw [fi_cn_t hp] at h
      by_cases e : i = n
      · rw [e]; exact hp
      · exact fi_cn_full n (by omega) i (by omega)
    · rw [fi_cn_f hp] at h; omega
theorem fi_cn_pos {P : Nat → Prop} {n j : Nat} (hj : j < n) (h : P j) : 1 ≤ fi_cn P n := by
  have := fi_cn_lt (P := fun _ => False) n (fun _ _ z => z.elim) j hj h (fun z => z)
  omega
/-- different numbers below n are at most n -/
theorem fi_pig {f : Nat → Nat} {n : Nat} : ∀ W, (∀ i, i < W → f i < n) → (∀ i j, i < j → j < W → f i ≠ f j) → W ≤ n := by
  intro W h1 h2
  have : ∀ V, V ≤ W → V ≤ fi_cn (fun x => ∃ i, i < V ∧ f i = x) n := by
    intro V
    induction V with
    | zero => intro _; omega
    | succ V ih =>
      intro hV
      have := fi_cn_lt (P := fun x => ∃ i, i < V ∧ f i = x) (Q := fun x => ∃ i, i < V + 1 ∧ f i = x) n (fun x _ hx => by
        obtain ⟨i, hi, e⟩ := hx
        exact ⟨i, by omega, e⟩) (f V) (h1 V (by omega)) ⟨V, by omega, rfl⟩ (by
        rintro ⟨i, hi, e⟩
        exact h2 i V hi (by omega) e)
      have := ih (by omega)
      omega
  have a := this W (Nat.le_refl _)
  have b := fi_cn_le (P := fun x => ∃ i, i < W ∧ f i = x) n
  omega
/-! the tree of a first walk, in numbers: par i < i -/
def fi_it (par : Nat → Nat) : Nat → Nat → Nat
  | 0, c => c
  | k + 1, c => fi_it par k (par c)
def fi_an (par : Nat → Nat) (a c : Nat) : Prop := ∃ k, fi_it par k c = a
theorem fi_it_add {par : Nat → Nat} : ∀ k l c, fi_it par (k + l) c = fi_it par l (fi_it par k c)
  | 0, l, c => by rw [Nat.zero_add]; rfl
  | k + 1, l, c => by
    rw [show k + 1 + l = (k + l) + 1 from by omega]
    exact fi_it_add k l (par c)
theorem fi_an_r {par : Nat → Nat} (a : Nat) : fi_an par a a := ⟨0, rfl⟩
theorem fi_an_p {par : Nat → Nat} (c : Nat) : fi_an par (par c) c := ⟨1, rfl⟩
theorem fi_an_t {par : Nat → Nat} {a b c : Nat} (h : fi_an par a b) (k : fi_an par b c) : fi_an par a c := by
  obtain ⟨i, hi⟩ := h
  obtain ⟨j, hj⟩ := k
  exact ⟨j + i, by rw [fi_it_add, hj, hi]⟩
theorem fi_an_c {par : Nat → Nat} {a c : Nat} (h : fi_an par a c) : a = c ∨ fi_an par a (par c) := by
  obtain ⟨k, hk⟩ := h
  cases k with
  | zero => exact Or.inl hk.symm
  | succ k => exact Or.inr ⟨k, hk⟩
/-- what the walk gives: parents, edges, and the place of a subtree -/
def fi_tr (W : Nat) (par : Nat → Nat) (R : Nat → Nat → Prop) : Prop :=
  par 0 = 0 ∧ (∀ i, 0 < i → i < W → par i < i ∧ R (par i) i) ∧ (∀ a b, R a b → a < W ∧ b < W) ∧
  (∀ a b, R a b → a < b → fi_an par a b) ∧ (∀ a b c, c < W → fi_an par a c → a ≤ b → b ≤ c → fi_an par a b)
section
variable {W : Nat} {par : Nat → Nat} {R : Nat → Nat → Prop} {sd : Nat → Nat}
theorem fi_it_le (h0 : par 0 = 0) (h1 : ∀ i, 0 < i → i < W → par i < i) : ∀ k c, c < W → fi_it par k c ≤ c
  | 0, c, _ => Nat.le_refl _
  | k + 1, c, hc => by
    show fi_it par k (par c) ≤ c
    by_cases z : c = 0
    · subst z
      rw [h0]
      exact fi_it_le h0 h1 k 0 hc
    · have := h1 c (by omega) hc
      have := fi_it_le h0 h1 k (par c) (by omega)
      omega
theorem fi_an_le (T : fi_tr W par R) {a c : Nat} (hc : c < W) (h : fi_an par a c) : a ≤ c := by
  obtain ⟨k, rfl⟩ := h
  exact fi_it_le T.1 (fun i a b => (T.2.1 i a b).1) k c hc
theorem fi_an_cmp (T : fi_tr W par R) {a b c : Nat} (hc : c < W) (h : fi_an par a c) (k : fi_an par b c) (l : a ≤ b) : fi_an par a b := by
  obtain ⟨i, hi⟩ := h
  obtain ⟨j, hj⟩ := k
  by_cases hij : j ≤ i
  · exact ⟨i - j, by rw [← hj, ← fi_it_add, show j + (i - j) = i from by omega, hi]⟩
  · have e : b = fi_it par (j - i) a := by rw [← hi, ← fi_it_add, show i + (j - i) = j from by omega, hj]
    have ha : a < W := by
      have := fi_an_le T hc ⟨i, hi⟩
      omega
    have : b ≤ a := by rw [e]; exact fi_an_le T ha ⟨_, rfl⟩
    have : a = b := by omega
    rw [this]; exact fi_an_r b
theorem fi_an_0 (T : fi_tr W par R) : ∀ c, c < W → fi_an par 0 c := by
  intro c
  induction c using Nat.strongRecOn with
  | _ c ih =>
    intro hc
    by_cases z : c = 0
    · rw [z]; exact fi_an_r 0
    · have := (T.2.1 c (by omega) hc).1
      exact fi_an_t (ih (par c) this (by omega)) (fi_an_p c)
/-- from the root to w without d -/
def fi_av (R : Nat → Nat → Prop) (d w : Nat) : Prop := fi_rc (fun a b => R a b ∧ b ≠ d) (fun a => a = 0 ∧ a ≠ d) w
theorem fi_av_t1 (T : fi_tr W par R) {d a : Nat} (hd : d < a) (h : fi_av R d a) : ∀ c, c < W → fi_an par a c → fi_av R d c := by
  intro c
  induction c using Nat.strongRecOn with
  | _ c ih =>
    intro hc ha
    have l := fi_an_le T hc ha
    by_cases e : a = c
    · rw [← e]; exact h
    · have z : 0 < c := by omega
      have p := T.2.1 c z hc
      rcases fi_an_c ha with r | r
      · exact absurd r e
      · exact fi_rc_s (ih (par c) p.1 (by omega) r) ⟨p.2, by omega⟩
theorem fi_av_t2 (T : fi_tr W par R) {d : Nat} : ∀ c, c < W → ¬ fi_an par d c → fi_av R d c := by
  intro c
  induction c using Nat.strongRecOn with
  | _ c ih =>
    intro hc ha
    have nd : c ≠ d := fun e => ha (by rw [e]; exact fi_an_r d)
    by_cases z : c = 0
    · exact fi_rc_b ⟨z, nd⟩
    · have p := T.2.1 c (by omega) hc
      exact fi_rc_s (ih (par c) p.1 (by omega) (fun k => ha (fi_an_t k (fi_an_p c)))) ⟨p.2, nd⟩
/-- sd j is a least number: from every way in, and one way has it -/
def fi_s1 (par : Nat → Nat) (R : Nat → Nat → Prop) (sd : Nat → Nat) (j : Nat) : Prop :=
  ∀ a, R a j → (a ≤ j → sd j ≤ a) ∧ (j < a → ∀ x, fi_an par x a → j < x → sd j ≤ sd x)
def fi_s2 (par : Nat → Nat) (R : Nat → Nat → Prop) (sd : Nat → Nat) (j : Nat) : Prop :=
  (∃ a, a < j ∧ R a j ∧ sd j = a) ∨ ∃ a x, j < a ∧ R a j ∧ fi_an par x a ∧ j < x ∧ sd j = sd x
def fi_sd (W : Nat) (par : Nat → Nat) (R : Nat → Nat → Prop) (sd : Nat → Nat) : Prop := ∀ j, 0 < j → j < W → fi_s1 par R sd j ∧ fi_s2 par R sd j
theorem fi_sd_p (T : fi_tr W par R) (D : fi_sd W par R sd) {j : Nat} (h0 : 0 < j) (hj : j < W) : sd j ≤ par j := by
  have p := T.2.1 j h0 hj
  exact ((D j h0 hj).1 (par j) p.2).1 (by omega)
theorem fi_sd_an (T : fi_tr W par R) (D : fi_sd W par R sd) : ∀ m j, W - j ≤ m → 0 < j → j < W → fi_an par (sd j) j := by
  intro m
  induction m with
  | zero => intro j h1 h2 h3; omega
  | succ m ih =>
    intro j h1 h2 h3
    rcases (D j h2 h3).2 with ⟨a, b1, b2, b3⟩ | ⟨a, x, b1, b2, b3, b4, b5⟩
    · rw [b3]; exact T.2.2.2.1 a j b2 b1
    · have ha := (T.2.2.1 a j b2).1
      have hx := fi_an_le T ha b3
      have r := ih x (by omega) (by omega) (by omega)
      rw [b5]
      refine T.2.2.2.2 (sd x) j x (by omega) r ?_ (by omega)
      have := fi_sd_p T D h2 h3
      have := (T.2.1 j h2 h3).1
      omega
theorem fi_semi (T : fi_tr W par R) (D : fi_sd W par R sd) {d : Nat} : ∀ m j, W - j ≤ m → 0 < j → j < W → sd j < d → d < j → fi_av R d j := by
  intro m
  induction m with
  | zero => intro j h1 h2 h3; omega
  | succ m ih =>
    intro j h1 h2 h3 h4 h5
    rcases (D j h2 h3).2 with ⟨a, b1, b2, b3⟩ | ⟨a, x, b1, b2, b3, b4, b5⟩
    · have : fi_av R d a := fi_av_t2 T a (by omega) (fun k => by
        have := fi_an_le T (by omega) k
        omega)
      exact fi_rc_s this ⟨b2, by omega⟩
    · have ha := (T.2.2.1 a j b2).1
      have hx := fi_an_le T ha b3
      have r := ih x (by omega) (by omega) (by omega) (by omega) (by omega)
      exact fi_rc_s (fi_av_t1 T (by omega) r a ha b3) ⟨b2, by omega⟩
theorem fi_cross (T : fi_tr W par R) {b : Nat} : ∀ a, a < W → b < a → ∃ x, fi_an par x a ∧ b < x ∧ x < W ∧ par x ≤ b := by
  intro a
  induction a using Nat.strongRecOn with
  | _ a ih =>
    intro ha hb
    by_cases c : par a ≤ b
    · exact ⟨a, fi_an_r a, hb, ha, c⟩
    · have p := (T.2.1 a (by omega) ha).1
      obtain ⟨x, x1, x2⟩ := ih (par a) p (by omega) (by omega)
      exact ⟨x, fi_an_t x1 (fi_an_p a), x2⟩
/-- what is come to without d -/
theorem fi_av_iff (T : fi_tr W par R) (D : fi_sd W par R sd) {d z : Nat} (hz : z < W) : fi_av R d z ↔ (¬ fi_an par d z ∨ ∃ m, d < m ∧ fi_an par m z ∧ sd m < d) := by
  constructor
  · intro h
    refine fi_rc_j (fun z => ¬ fi_an par d z ∨ ∃ m, d < m ∧ fi_an par m z ∧ sd m < d) ?_ ?_ h
    · rintro a ⟨rfl, hd⟩
      refine Or.inl (fun k => ?_)
      have := fi_an_le T (by omega) k
      omega
    · rintro a b - hJ ⟨r, hb⟩
      have hab := T.2.2.1 a b r
      by_cases hdb : fi_an par d b
      · have l := fi_an_le T hab.2 hdb
        have l2 : d < b := by omega
        have S1 := (D b (by omega) hab.2).1 a r
        refine Or.inr ?_
        rcases hJ with hJ | ⟨m, m1, m2, m3⟩
        · rcases Nat.lt_trichotomy a b with c | c | c
          · have an := T.2.2.2.1 a b r c
            refine ⟨b, l2, fi_an_r b, ?_⟩
            by_cases e : d ≤ a
            · exact absurd (fi_an_cmp T hab.2 hdb an e) hJ
            · have := S1.1 (by omega)
              omega
          · subst c; exact absurd hdb hJ
          · obtain ⟨x, x1, x2, x3, x4⟩ := fi_cross T a hab.1 c
            refine ⟨b, l2, fi_an_r b, ?_⟩
            have q := S1.2 c x x1 x2
            have q2 := fi_sd_p T D (by omega) x3
            by_cases e : d ≤ par x
            · exact absurd (fi_an_t (fi_an_t (T.2.2.2.2 d (par x) b hab.2 hdb e x4) (fi_an_p x)) x1) hJ
            · omega
        · have ml := fi_an_le T hab.1 m2
          by_cases c : m ≤ b
          · refine ⟨m, m1, ?_, m3⟩
            by_cases c2 : a < b
            · exact fi_an_t m2 (T.2.2.2.1 a b r c2)
            · exact T.2.2.2.2 m b a hab.1 m2 c (by omega)
          · refine ⟨b, l2, fi_an_r b, ?_⟩
            have := S1.2 (by omega) m m2 (by omega)
            omega
      · exact Or.inl hdb
  · rintro (h | ⟨m, m1, m2, m3⟩)
    · exact fi_av_t2 T z hz h
    · have ml := fi_an_le T hz m2
      exact fi_av_t1 T m1 (fi_semi T D _ m (Nat.le_refl _) (by omega) (by omega) m3 m1) z hz m2
theorem fi_dom (T : fi_tr W par R) (D : fi_sd W par R sd) {d z : Nat} (hz : z < W) : ¬ fi_av R d z ↔ (fi_an par d z ∧ ∀ m, d < m → fi_an par m z → d ≤ sd m) := by
  rw [fi_av_iff T D hz]
  constructor
  · intro h
    refine ⟨Classical.byContradiction (fun k => h (Or.inl k)), fun m a b => ?_⟩
    exact Nat.le_of_not_lt (fun k => h (Or.inr ⟨m, a, b, k⟩))
  · rintro ⟨h1, h2⟩ (k | ⟨m, a, b, c⟩)
    · exact k h1
    · have := h2 m a b
      omega
theorem fi_id1 (T : fi_tr W par R) (D : fi_sd W par R sd) {w : Nat} (h0 : 0 < w) (hw : w < W) (h : ∀ m, sd w < m → fi_an par m w → sd w ≤ sd m) (d : Nat) : ¬ fi_av R d w ↔ (d = w ∨ ¬ fi_av R d (sd w)) := by
  have sl := fi_sd_p T D h0 hw
  have pl := (T.2.1 w h0 hw).1
  have sa := fi_sd_an T D _ w (Nat.le_refl _) h0 hw
  rw [fi_dom T D hw, fi_dom T D (show sd w < W by omega)]
  constructor
  · rintro ⟨a, b⟩
    by_cases e : d = w
    · exact Or.inl e
    · have l := fi_an_le T hw a
      have q := b w (by omega) (fi_an_r w)
      exact Or.inr ⟨fi_an_cmp T hw a sa q, fun m m1 m2 => b m m1 (fi_an_t m2 sa)⟩
  · rintro (rfl | ⟨a, b⟩)
    · exact ⟨fi_an_r d, fun m m1 m2 => by have := fi_an_le T hw m2; omega⟩
    · have l := fi_an_le T (show sd w < W by omega) a
      refine ⟨fi_an_t a sa, fun m m1 m2 => ?_⟩
      by_cases c : m ≤ sd w
      · exact b m m1 (fi_an_cmp T hw m2 sa c)
      · have := h m (by omega) m2
        omega
theorem fi_id2 (T : fi_tr W par R) (D : fi_sd W par R sd) {w u : Nat} (h0 : 0 < w) (hw : w < W) (hu : fi_an par u w) (h1 : sd w < u) (h2 : sd u < sd w) (h : ∀ m, sd w < m → fi_an par m w → sd u ≤ sd m) (d : Nat) : (d ≠ w ∧ ¬ fi_av R d w) ↔ (d ≠ u ∧ ¬ fi_av R d u) := by
  have sl := fi_sd_p T D h0 hw
  have pl := (T.2.1 w h0 hw).1
  have ul := fi_an_le T hw hu
  rw [fi_dom T D hw, fi_dom T D (show u < W by omega)]
  constructor
  · rintro ⟨e, a, b⟩
    have l := fi_an_le T hw a
    have q := b w (by omega) (fi_an_r w)
    exact ⟨by omega, fi_an_cmp T hw a hu (by omega), fun m m1 m2 => b m m1 (fi_an_t m2 hu)⟩
  · rintro ⟨e, a, b⟩
    have l := fi_an_le T (show u < W by omega) a
    have q := b u (by omega) (fi_an_r u)
    refine ⟨by omega, fi_an_t a hu, fun m m1 m2 => ?_⟩
    by_cases c : m ≤ u
    · exact b m m1 (fi_an_cmp T hw m2 hu c)
    · have := h m (by omega) m2
      omega
end
end
section
theorem fi_it_cg {W : Nat} {par p2 : Nat → Nat} (h : ∀ i, i < W → p2 i = par i ∧ par i < W) : ∀ k c, c < W → fi_it p2 k c = fi_it par k c
  | 0, _, _ => rfl
  | k + 1, c, hc => by
    show fi_it p2 k (p2 c) = fi_it par k (par c)
    rw [(h c hc).1]
    exact fi_it_cg h k (par c) (h c hc).2
theorem fi_an_cg {W : Nat} {par p2 : Nat → Nat} (h : ∀ i, i < W → p2 i = par i ∧ par i < W) {a c : Nat} (hc : c < W) : fi_an p2 a c ↔ fi_an par a c := by
  constructor
  · rintro ⟨k, e⟩; exact ⟨k, by rw [← fi_it_cg h k c hc, e]⟩
  · rintro ⟨k, e⟩; exact ⟨k, by rw [fi_it_cg h k c hc, e]⟩
/-- the walk on its way: W numbered nodes, D of them on the path -/
def fi_df (L : Nat → Nat → Prop) (rt W : Nat) (wn par : Nat → Nat) (D : Nat) (st : Nat → Nat) : Prop :=
  (1 ≤ W ∧ wn 0 = rt ∧ par 0 = 0) ∧ (∀ i, i < W → wn i < 21) ∧ (∀ i j, i < j → j < W → wn i ≠ wn j) ∧
  (∀ i, 0 < i → i < W → par i < i ∧ L (wn (par i)) (wn i)) ∧
  (∀ k, k < D → st k < W ∧ (k = 0 → st k = 0) ∧ (0 < k → 0 < st k ∧ par (st k) = st (k - 1))) ∧
  (∀ i, i < W → (∀ k, k < D → st k ≠ i) → ∀ y, y < 21 → L (wn i) y → ∃ j, j < W ∧ wn j = y) ∧
  (∀ k i, k < D → st k ≤ i → i < W → fi_an par (st k) i) ∧
  (∀ a b, a < b → b < W → L (wn a) (wn b) → fi_an par a b) ∧
  (∀ a b c, c < W → fi_an par a c → a ≤ b → b ≤ c → fi_an par a b)
section
variable {L : Nat → Nat → Prop} {rt W : Nat} {wn par : Nat → Nat} {D : Nat} {st : Nat → Nat}
theorem fi_df_0 (h : rt < 21) : fi_df L rt 1 (fun _ => rt) (fun _ => 0) 1 (fun _ => 0) := by
  refine ⟨⟨by omega, rfl, rfl⟩, fun _ _ => h, fun i j a b => by omega, fun i a b => by omega, fun k hk => ⟨Nat.lt_succ_self 0, fun _ => rfl, fun _ => by omega⟩, fun i hi k => ?_, fun k i _ _ hi => ?_, fun a b _ _ => by omega, fun a b c hc ha h1 h2 => ?_⟩
  · exact absurd (show (0 : Nat) = i by omega) (k 0 (by omega))
  · have : i = 0 := by omega
    subst this; exact fi_an_r 0
  · have : a = 0 := by omega
    have : b = 0 := by omega
    subst_vars; exact fi_an_r 0
theorem fi_df_an (H : fi_df L rt W wn par D st) : ∀ k, k < D → ∀ a, fi_an par a (st k) → ∃ j, j ≤ k ∧ a = st j := by
  obtain ⟨⟨h1, h2, h3⟩, h4, h5, h6, h7, h8, h9, h10, h11⟩ := H
  intro k
  induction k with
  | zero =>
    intro hk a ha
    have e := (h7 0 hk).2.1 rfl
    rw [e] at ha
    obtain ⟨m, hm⟩ := ha
    have : fi_it par m 0 ≤ 0 := fi_it_le h3 (fun i a b => (h6 i a b).1) m 0 (by omega)
    exact ⟨0, by omega, by omega⟩
  | succ k ih =>
    intro hk a ha
    rcases fi_an_c ha with r | r
    · exact ⟨k + 1, by omega, r⟩
    · have e := ((h7 (k + 1) hk).2.2 (by omega)).2
      rw [e] at r
      obtain ⟨j, j1, j2⟩ := ih (by omega) a r
      exact ⟨j, by omega, j2⟩
theorem fi_df_mono (H : fi_df L rt W wn par D st) : ∀ k, k < D → ∀ j, j ≤ k → st j ≤ st k := by
  obtain ⟨⟨h1, h2, h3⟩, h4, h5, h6, h7, h8, h9, h10, h11⟩ := H
  intro k
  induction k with
  | zero =>
    intro hk j hj
    have : j = 0 := by omega
    rw [this]; exact Nat.le_refl _
  | succ k ih =>
    intro hk j hj
    by_cases e : j = k + 1
    · rw [e]; exact Nat.le_refl _
    · have q := (h7 (k + 1) hk).2.2 (by omega)
      have q2 := (h6 _ q.1 (h7 (k + 1) hk).1).1
      have q3 := ih (by omega) j (by omega)
      rw [q.2] at q2
      have : st (k + 1 - 1) = st k := rfl
      omega
theorem fi_df_in (H : fi_df L rt W wn par D st) (hD : 0 < D) {v : Nat} (hv : v < 21) (nv : ∀ i, i < W → wn i ≠ v) (lv : L (wn (st (D - 1))) v) :
    fi_df L rt (W + 1) (fun i => if i = W then v else wn i) (fun i => if i = W then st (D - 1) else par i) (D + 1) (fun k => if k = D then W else st k) := by
  have Han := fi_df_an H
  have Hmo := fi_df_mono H
  obtain ⟨⟨h1, h2, h3⟩, h4, h5, h6, h7, h8, h9, h10, h11⟩ := H
  have t1 := (h7 (D - 1) (by omega)).1
  have cg : ∀ i, i < W → (fun i => if i = W then st (D - 1) else par i) i = par i ∧ par i < W := by
    intro i hi
    refine ⟨if_neg (by omega), ?_⟩
    by_cases z : i = 0
    · rw [z, h3]; omega
    · have := (h6 i (by omega) hi).1
      omega
  have old : ∀ i, i < W → (fun i => if i = W then v else wn i) i = wn i := fun i hi => if_neg (by omega)
  have anW : ∀ a, a < W → fi_an par a (st (D - 1)) → fi_an (fun i => if i = W then st (D - 1) else par i) a W := by
    intro a ha q
    refine fi_an_t ((fi_an_cg cg t1).mpr q) ?_
    have := fi_an_p (par := fun i => if i = W then st (D - 1) else par i) W
    simpa using this
  refine ⟨⟨by omega, ?_, ?_⟩, ?_, ?_, ?_, ?_, ?_, ?_, ?_, ?_⟩
  · show (if 0 = W then v else wn 0) = rt
    rw [if_neg (by omega), h2]
  · show (if 0 = W then st (D - 1) else par 0) = 0
    rw [if_neg (by omega), h3]
  · intro i hi
    show (if i = W then v else wn i) < 21
    by_cases e : i = W
    · rw [if_pos e]; exact hv
    · rw [if_neg e]; exact h4 i (by omega)
  · intro i j hij hj
    show (if i = W then v else wn i) ≠ (if j = W then v else wn j)
    rw [if_neg (by omega)]
    by_cases e : j = W
    · rw [if_pos e]; exact nv i (by omega)
    · rw [if_neg e]; exact h5 i j hij (by omega)
  · intro i h0 hi
    by_cases e : i = W
    · subst e
      simp only [if_true]
      rw [if_neg (by omega)]
      exact ⟨t1, lv⟩
    · have q := h6 i h0 (by omega)
      simp only [if_neg e]
      rw [if_neg (by omega)]
      exact q
  · intro k hk
    by_cases e : k = D
    · subst e
      simp only [if_true]
      rw [if_neg (by omega)]
      exact ⟨by omega, fun z => by omega, fun _ => ⟨by omega, rfl⟩⟩
    · have q := h7 k (by omega)
      simp only [if_neg e]
      rw [if_neg (by omega), if_neg (by omega)]
      exact ⟨by omega, q.2.1, q.2.2⟩
  · intro i hi hk y hy hl
    have hiW : i ≠ W := by
      intro e
      have := hk D (by omega)
      simp only [if_true] at this
      exact this e.symm
    simp only [if_neg hiW] at hl
    obtain ⟨j, j1, j2⟩ := h8 i (by omega) (fun k hk' => by
      have := hk k (by omega)
      dsimp only at this
      rwa [if_neg (by omega)] at this) y hy hl
    exact ⟨j, by omega, by dsimp only; rw [if_neg (by omega)]; exact j2⟩
  · intro k i hk hi hW
    by_cases e : k = D
    · subst e
      simp only [if_true] at hi ⊢
      have : i = W := by omega
      rw [this]; exact fi_an_r W
    · simp only [if_neg e] at hi ⊢
      by_cases e2 : i = W
      · rw [e2]
        exact anW _ (h7 k (by omega)).1 (h9 k (st (D - 1)) (by omega) (Hmo (D - 1) (by omega) k (by omega)) t1)
      · exact (fi_an_cg cg (by omega)).mpr (h9 k i (by omega) hi (by omega))
  · intro a b hab hb hl
    by_cases e : b = W
    · subst e
      simp only [if_true] at hl
      rw [if_neg (by omega)] at hl
      have : ∃ k, k < D ∧ st k = a := Classical.byContradiction (fun hn => by
        obtain ⟨j, j1, j2⟩ := h8 a hab (fun k hk e => hn ⟨k, hk, e⟩) v hv hl
        exact nv j j1 j2)
      obtain ⟨k, k1, k2⟩ := this
      refine anW a hab ?_
      rw [← k2]
      exact h9 k (st (D - 1)) k1 (Hmo (D - 1) (by omega) k (by omega)) t1
    · simp only [if_neg e] at hl
      rw [if_neg (by omega)] at hl
      exact (fi_an_cg cg (by omega)).mpr (h10 a b hab (by omega) hl)
  · intro a b c hc ha h1' h2'
    by_cases e : c = W
    · subst e
      by_cases e2 : b = c
      · rw [e2]; exact ha
      · rcases fi_an_c ha with r | r
        · omega
        · simp only [if_true] at r
          obtain ⟨j, j1, j2⟩ := Han (D - 1) (by omega) a ((fi_an_cg cg t1).mp r)
          refine (fi_an_cg cg (by omega)).mpr ?_
          rw [j2]
          exact h9 j b (by omega) (by omega) (by omega)
    · refine (fi_an_cg cg (by omega)).mpr (h11 a b c (by omega) ((fi_an_cg cg (by omega)).mp ha) h1' h2')
theorem fi_df_out (H : fi_df L rt W wn par D st) (hD : 0 < D) (hv : ∀ y, y < 21 → L (wn (st (D - 1))) y → ∃ j, j < W ∧ wn j = y) : fi_df L rt W wn par (D - 1) st := by
  obtain ⟨h1, h4, h5, h6, h7, h8, h9, h10, h11⟩ := H
  refine ⟨h1, h4, h5, h6, fun k hk => h7 k (by omega), fun i hi hk y hy hl => ?_, fun k i hk => h9 k i (by omega), h10, h11⟩
  by_cases e : st (D - 1) = i
  · rw [← e] at hl; exact hv y hy hl
  · refine h8 i hi (fun k hk' => ?_) y hy hl
    by_cases e2 : k = D - 1
    · rw [e2]; exact e
    · exact hk k (by omega)
/-- what a finished walk gives -/
def fi_dn (L : Nat → Nat → Prop) (rt W : Nat) (wn par : Nat → Nat) : Prop :=
  (1 ≤ W ∧ W ≤ 21 ∧ wn 0 = rt) ∧ (∀ i, i < W → wn i < 21) ∧ (∀ i j, i < W → j < W → wn i = wn j → i = j) ∧
  (∀ i, i < W → ∀ y, y < 21 → L (wn i) y → ∃ j, j < W ∧ wn j = y) ∧ fi_tr W par (fun a b => a < W ∧ b < W ∧ L (wn a) (wn b))
theorem fi_df_W (H : fi_df L rt W wn par D st) : W ≤ 21 := by
  obtain ⟨h1, h4, h5, _⟩ := H
  exact fi_pig W h4 h5
theorem fi_df_end (H : fi_df L rt W wn par 0 st) : fi_dn L rt W wn par := by
  have hW := fi_df_W H
  obtain ⟨⟨h1, h2, h3⟩, h4, h5, h6, h7, h8, h9, h10, h11⟩ := H
  refine ⟨⟨h1, hW, h2⟩, h4, fun i j hi hj e => ?_, fun i hi => h8 i hi (fun k hk => by omega), h3, fun i a b => ⟨(h6 i a b).1, ?_, b, (h6 i a b).2⟩, fun a b r => ⟨r.1, r.2.1⟩, fun a b r l => h10 a b l r.2.1 r.2.2, h11⟩
  · rcases Nat.lt_trichotomy i j with c | c | c
    · exact absurd e (h5 i j c hj)
    · exact c
    · exact absurd e.symm (h5 j i c hi)
  · have := (h6 i a b).1
    omega
/-- what is numbered is what is come to -/
theorem fi_dn_rc (H : fi_dn L rt W wn par) (hL : ∀ a b, L a b → b < 21) (x : Nat) : fi_rc L (fun a => a = rt) x ↔ ∃ i, i < W ∧ wn i = x := by
  obtain ⟨⟨h1, h2, h3⟩, h4, h5, h6, T⟩ := H
  constructor
  · intro h
    refine h (fun x => ∃ i, i < W ∧ wn i = x) (fun a ha => ⟨0, by omega, by rw [h3, ha]⟩) ?_
    rintro a b ⟨i, hi, rfl⟩ e
    exact h6 i hi b (hL _ _ e) e
  · rintro ⟨i, hi, rfl⟩
    induction i using Nat.strongRecOn with
    | _ i ih =>
      by_cases z : i = 0
      · rw [z]; exact fi_rc_b h3
      · have p := T.2.1 i (by omega) hi
        exact fi_rc_s (ih (par i) p.1 (by omega)) p.2.2.2
/-- without d, in numbers and in nodes -/
theorem fi_dn_av (H : fi_dn L rt W wn par) (hL : ∀ a b, L a b → b < 21) {d i : Nat} (hd : d < W) (hi : i < W) :
    fi_av (fun a b => a < W ∧ b < W ∧ L (wn a) (wn b)) d i ↔ fi_rc (fun a b => L a b ∧ b ≠ wn d) (fun a => a = rt ∧ a ≠ wn d) (wn i) := by
  obtain ⟨⟨h1, h2, h3⟩, h4, h5, h6, T⟩ := H
  constructor
  · intro h
    refine h (fun i => fi_rc (fun a b => L a b ∧ b ≠ wn d) (fun a => a = rt ∧ a ≠ wn d) (wn i)) ?_ ?_
    · rintro a ⟨rfl, q⟩
      refine fi_rc_b ⟨h3, fun e => q (h5 0 d (by omega) hd e)⟩
    · rintro a b q ⟨⟨r1, r2, r3⟩, r4⟩
      exact fi_rc_s q ⟨r3, fun e => r4 (h5 b d r2 hd e)⟩
  · intro h
    have : ∃ j, j < W ∧ wn j = wn i ∧ fi_av (fun a b => a < W ∧ b < W ∧ L (wn a) (wn b)) d j := by
      refine h (fun x => ∃ j, j < W ∧ wn j = x ∧ fi_av (fun a b => a < W ∧ b < W ∧ L (wn a) (wn b)) d j) ?_ ?_
      · rintro a ⟨e, q⟩
        subst e
        exact ⟨0, by omega, h3, fi_rc_b ⟨rfl, fun e => q (by rw [← e, h3])⟩⟩
      · rintro a b ⟨j, j1, j2, j3⟩ ⟨r1, r2⟩
        rw [← j2] at r1
        obtain ⟨k, k1, k2⟩ := h6 j j1 b (hL _ _ r1) r1
        subst k2
        exact ⟨k, k1, rfl, fi_rc_s j3 ⟨⟨j1, k1, r1⟩, fun e => r2 (by rw [e])⟩⟩
    obtain ⟨j, j1, j2, j3⟩ := this
    rw [h5 j i j1 hi j2] at j3
    exact j3
end
end
section
def fi_nd (n t : Nat) : Nat := if t < n then t else 20
def fi_gl (n : Nat) (O B : Nat → Nat) (p : Nat) : Nat := if 5 ≤ O p then fi_nd n (B p) else fi_nd n (p + 1)
/-- where one goes on -/
def fi_E (n : Nat) (O B : Nat → Nat) (p q : Nat) : Prop := p < n ∧ (q = fi_gl n O B p ∨ (O p = 6 ∧ q = fi_nd n (p + 1)))
def fi_rd (o : Nat) : Prop := (1 ≤ o ∧ o ≤ 4) ∨ o = 6
def fi_cp (o : Nat) : Prop := o = 2 ∨ o = 3
/-- the four arrays hold the code O V A B of length n -/
def fi_C (n : Nat) (O V A B : Nat → Nat) (xo xv xa xb : Nat → Int32) : Prop :=
  n ≤ 20 ∧ ∀ p, p < n → xo p = nI (O p) ∧ O p ≤ 6 ∧ (O p ≤ 3 → xv p = nI (V p) ∧ V p < 6) ∧ (fi_rd (O p) → xa p = nI (A p) ∧ A p < 6) ∧ (fi_cp (O p) → xb p = nI (B p) ∧ B p < 6) ∧ (5 ≤ O p → xb p = nI (B p) ∧ B p ≤ 20)
def fi_sm (O A B : Nat → Nat) (p q : Nat) : Prop := fi_cp (O p) ∧ O p = O q ∧ A p = A q ∧ B p = B q
def fi_nm (n : Nat) (O A B : Nat → Nat) (e : Nat) : Prop := e < n ∧ fi_cp (O e) ∧ ∀ q, q < e → ¬ fi_sm O A B q e
def fi_sp (O V A B : Nat → Nat) (p e : Nat) : Prop := O p ≤ 3 ∧ (V p = A e ∨ V p = B e)
def fi_wr (n : Nat) (O V : Nat → Nat) (v e : Nat) : Prop := e < n ∧ O e ≤ 3 ∧ V e = v
def fi_var (x : Int32) : Prop := ∃ v, v < 6 ∧ x = nI v
theorem fi_nd_lt {n t : Nat} (hn : n ≤ 20) : fi_nd n t < 21 := by unfold fi_nd; split <;> omega
theorem fi_gl_lt {n : Nat} {O B : Nat → Nat} {p : Nat} (hn : n ≤ 20) : fi_gl n O B p < 21 := by unfold fi_gl; split <;> exact fi_nd_lt hn
theorem fi_E_lt {n : Nat} {O B : Nat → Nat} {p q : Nat} (hn : n ≤ 20) (h : fi_E n O B p q) : p < n ∧ q < 21 := by
  refine ⟨h.1, ?_⟩
  rcases h.2 with r | ⟨_, r⟩
  · rw [r]; exact fi_gl_lt hn
  · rw [r]; exact fi_nd_lt hn
theorem fi_nd_n {n t : Nat} : fi_nd n t < n ∨ fi_nd n t = 20 := by unfold fi_nd; split <;> omega
theorem fi_E_n {n : Nat} {O B : Nat → Nat} {p q : Nat} (h : fi_E n O B p q) : q < n ∨ q = 20 := by
  rcases h.2 with r | ⟨_, r⟩
  · rw [r]; unfold fi_gl; split <;> exact fi_nd_n
  · rw [r]; exact fi_nd_n
theorem fi_E_ex {n : Nat} {O B : Nat → Nat} {p : Nat} (h : p < n) : ∃ q, fi_E n O B p q := ⟨_, h, Or.inl rfl⟩
theorem fi_sm_sym {O A B : Nat → Nat} {p q : Nat} (h : fi_sm O A B p q) : fi_sm O A B q p := ⟨by rw [← h.2.1]; exact h.1, h.2.1.symm, h.2.2.1.symm, h.2.2.2.symm⟩
theorem fi_sm_tr {O A B : Nat → Nat} {p q r : Nat} (h : fi_sm O A B p q) (k : fi_sm O A B q r) : fi_sm O A B p r := ⟨h.1, h.2.1.trans k.2.1, h.2.2.1.trans k.2.2.1, h.2.2.2.trans k.2.2.2⟩
theorem fi_nm_un {n : Nat} {O A B : Nat → Nat} {e f : Nat} (h : fi_nm n O A B e) (k : fi_nm n O A B f) (s : fi_sm O A B e f) : e = f := by
  rcases Nat.lt_trichotomy e f with c | c | c
  · exact absurd s (k.2.2 e c)
  · exact c
  · exact absurd (fi_sm_sym s) (h.2.2 f c)
/-- a loop over i < n that gathers numbers -/
theorem fi_lp {W : Nat → Int32 → Int32 → Prop} {n : Nat} {r : Int32} (P : Nat → Nat → Prop) (h0 : fi_is r (P 0)) (hx : ∀ m r, fi_is r (P n) → W (m + 1) r (nI n))
    (hs : ∀ m i r, i < n → fi_is r (P i) → (∀ r', fi_is r' (P (i + 1)) → W m r' (nI (i + 1))) → W (m + 1) r (nI i)) : ∃ m, W m r 0 := by
  have : ∀ d i r, i + d = n → fi_is r (P i) → W (d + 1) r (nI i) := by
    intro d
    induction d with
    | zero =>
      intro i r hi h
      have : i = n := by omega
      subst this
      exact hx 0 r h
    | succ d ih =>
      intro i r hi h
      exact hs (d + 1) i r (by omega) h (fun r' h' => ih (i + 1) r' (by omega) h')
  exact ⟨n + 1, this n 0 r (by omega) h0⟩
theorem fx_isVar {post : Int32 → Prop} {x : Int32} (h1 : fi_var x → post 1) (h0 : ¬ fi_var x → post 0) : wpX_isVariable post x := by
  by_cases c : x < 0
  · refine br_t c (h0 ?_)
    rintro ⟨v, hv, rfl⟩
    exact nI_pos (by omega) c
  · obtain ⟨j, hj, rfl⟩ := nI_of c
    refine br_f c (pk_le 6 j (fun k => h0 ?_) (fun k => h1 ⟨j, k, rfl⟩))
    rintro ⟨v, hv, e⟩
    have := (nI_eq hj (by omega)).mp e
    omega
theorem fx_writes {post : Int32 → Prop} {o : Nat} (ho : o ≤ 6) (h1 : o ≤ 3 → post 1) (h0 : ¬ o ≤ 3 → post 0) : wpX_writes post (nI o) :=
  pk_lt 3 o (fun k => h0 (by omega)) (fun k => h1 k)
theorem fx_reads {post : Int32 → Prop} {o : Nat} (ho : o ≤ 6) (h1 : fi_rd o → post 1) (h0 : ¬ fi_rd o → post 0) : wpX_readsFirst post (nI o) := by
  have q : (o < 1 ∨ 4 < o) → wX_readsFirst_10 post (nI o) := fun hc => pk_eq o 6 (fun k => h1 (Or.inr k)) (fun k => h0 (by unfold fi_rd; omega))
  exact pk_lt o 1 (fun k => q (Or.inl k)) (fun k => pk_le o 4 (fun k2 => h1 (Or.inl ⟨k, k2⟩)) (fun k2 => q (Or.inr k2)))
theorem fx_comp {post : Int32 → Prop} {o : Nat} (ho : o ≤ 6) (h1 : fi_cp o → post 1) (h0 : ¬ fi_cp o → post 0) : wpX_computes post (nI o) :=
  pk_eq o 2 (fun k => h1 (Or.inl k)) (fun k => pk_eq o 3 (fun k2 => h1 (Or.inr k2)) (fun k2 => h0 (by unfold fi_cp; omega)))
section
variable {f_count f_edges f_queueFirst f_queueSize f_backwards f_walked : Int32} {a_ops a_targets a_firsts a_seconds a_next a_other a_reached a_edgeFrom a_edgeTo a_edgeAdds a_edgeTakes a_starts a_bits a_kept a_queue a_queued a_wayThere a_wayAdds a_wayTakes a_number a_walkNode a_parent a_least a_linked a_above a_bucketFirst a_bucketNext a_pathNode : Nat → Int32}
variable {n : Nat} {O V A B : Nat → Nat}
theorem fx_nodeAt {post : Int32 → Prop} {t : Nat} (hn : n ≤ 20) (ht : t ≤ 21) (h : post (nI (fi_nd n t))) : wpX_nodeAt post (nI n, f_edges, f_queueFirst, f_queueSize, f_backwards, f_walked, a_ops, a_targets, a_firsts, a_seconds, a_next, a_other, a_reached, a_edgeFrom, a_edgeTo, a_edgeAdds, a_edgeTakes, a_starts, a_bits, a_kept, a_queue, a_queued, a_wayThere, a_wayAdds, a_wayTakes, a_number, a_walkNode, a_parent, a_least, a_linked, a_above, a_bucketFirst, a_bucketNext, a_pathNode) (nI t) := by
  unfold fi_nd at h
  refine pk_le n t (fun k => ?_) (fun k => ?_)
  · rw [if_neg (by omega)] at h; exact h
  · rw [if_pos (by omega)] at h; exact h
theorem fx_isPos {post : Int32 → Prop} {x : Int32} (hn : n ≤ 20) (h1 : ∀ p, p < n → x = nI p → post 1) (h0 : (∀ p, p < n → x ≠ nI p) → post 0) : wpX_isPosition post (nI n, f_edges, f_queueFirst, f_queueSize, f_backwards, f_walked, a_ops, a_targets, a_firsts, a_seconds, a_next, a_other, a_reached, a_edgeFrom, a_edgeTo, a_edgeAdds, a_edgeTakes, a_starts, a_bits, a_kept, a_queue, a_queued, a_wayThere, a_wayAdds, a_wayTakes, a_number, a_walkNode, a_parent, a_least, a_linked, a_above, a_bucketFirst, a_bucketNext, a_pathNode) x := by
  by_cases c : x < 0
  · refine br_t c (h0 ?_)
    rintro v hv rfl
    exact nI_pos (by omega) c
  · obtain ⟨j, hj, rfl⟩ := nI_of c
    refine br_f c (pk_le n j (fun k => h0 ?_) (fun k => h1 j k rfl))
    intro v hv e
    have := (nI_eq hj (by omega)).mp e
    omega
theorem fx_isReached {post : Int32 → Prop} {x : Int32} {RE : Nat → Prop} (hn : n ≤ 20) (hr : ∀ p, p < 21 → (a_reached p = 0 ↔ ¬ RE p)) (h1 : ∀ p, p < n → x = nI p → RE p → post 1) (h0 : (∀ p, p < n → x = nI p → ¬ RE p) → post 0) : wpX_isReached post (nI n, f_edges, f_queueFirst, f_queueSize, f_backwards, f_walked, a_ops, a_targets, a_firsts, a_seconds, a_next, a_other, a_reached, a_edgeFrom, a_edgeTo, a_edgeAdds, a_edgeTakes, a_starts, a_bits, a_kept, a_queue, a_queued, a_wayThere, a_wayAdds, a_wayTakes, a_number, a_walkNode, a_parent, a_least, a_linked, a_above, a_bucketFirst, a_bucketNext, a_pathNode) x := by
  unfold wpX_isReached
  refine fx_isPos hn (fun p hp e => ?_) (fun hc => ?_)
  · subst e
    refine br_f (by decide) ⟨vp_in_nI (by omega) (by omega), ?_⟩
    rw [nI_clamp (by omega)]
    refine br_c (fun c => h0 (fun q hq e => ?_)) (fun c => h1 p hp rfl ?_)
    · have : p = q := (nI_eq (by omega) (by omega)).mp e
      subst this
      exact (hr p (by omega)).mp c
    · exact Classical.byContradiction (fun k => c ((hr p (by omega)).mpr k))
  · exact br_t rfl (h0 (fun p hp e => absurd e (hc p hp)))
theorem fx_nameOf {post : Int32 → Prop} {p : Nat} (hC : fi_C n O V A B a_ops a_targets a_firsts a_seconds) (hp : p < n) (h0 : ¬ fi_cp (O p) → post (-1)) (h1 : ∀ q, q ≤ p → fi_nm n O A B q → fi_sm O A B p q → post (nI q)) : wpX_nameOf post (f_count, f_edges, f_queueFirst, f_queueSize, f_backwards, f_walked, a_ops, a_targets, a_firsts, a_seconds, a_next, a_other, a_reached, a_edgeFrom, a_edgeTo, a_edgeAdds, a_edgeTakes, a_starts, a_bits, a_kept, a_queue, a_queued, a_wayThere, a_wayAdds, a_wayTakes, a_number, a_walkNode, a_parent, a_least, a_linked, a_above, a_bucketFirst, a_bucketNext, a_pathNode) (nI p) := by
  obtain ⟨hn, hC⟩ := hC
  have cp := hC p hp
  refine ⟨vp_in_nI (by omega) (by omega), ?_⟩
  rw [nI_clamp (by omega), cp.1]
  refine fx_comp cp.2.1 (fun k => br_f (by decide) ?_) (fun k => br_t rfl (h0 k))
  have key : ∀ d q, q + d = p → (∀ j, j < q → ¬ fi_sm O A B p j) → wX_nameOf_16 post (nI p) f_count f_edges f_queueFirst f_queueSize f_backwards f_walked a_ops a_targets a_firsts a_seconds a_next a_other a_reached a_edgeFrom a_edgeTo a_edgeAdds a_edgeTakes a_starts a_bits a_kept a_queue a_queued a_wayThere a_wayAdds a_wayTakes a_number a_walkNode a_parent a_least a_linked a_above a_bucketFirst a_bucketNext a_pathNode (d + 1) (nI q) := by
    intro d
    induction d with
    | zero =>
      intro q hq hl
      have : q = p := by omega
      subst this
      refine ⟨vp_in_nI (by omega) (by omega), vp_in_nI (by omega) (by omega), br_t rfl ⟨vp_in_nI (by omega) (by omega), vp_in_nI (by omega) (by omega), br_t rfl ⟨vp_in_nI (by omega) (by omega), vp_in_nI (by omega) (by omega), br_t rfl ?_⟩⟩⟩
      exact h1 q (by omega) ⟨hp, k, fun j hj s => hl j hj (fi_sm_sym s)⟩ ⟨k, rfl, rfl, rfl⟩
    | succ d ih =>
      intro q hq hl
      have cq := hC q (by omega)
      have next : ¬ fi_sm O A B p q → wX_nameOf_16 post (nI p) f_count f_edges f_queueFirst f_queueSize f_backwards f_walked a_ops a_targets a_firsts a_seconds a_next a_other a_reached a_edgeFrom a_edgeTo a_edgeAdds a_edgeTakes a_starts a_bits a_kept a_queue a_queued a_wayThere a_wayAdds a_wayTakes a_number a_walkNode a_parent a_least a_linked a_above a_bucketFirst a_bucketNext a_pathNode (d + 1) (nI (q + 1)) := fun hne => ih (q + 1) (by omega) (fun j hj => by
        by_cases e : j = q
        · rw [e]; exact hne
        · exact hl j (by omega))
      refine ⟨vp_in_nI (by omega) (by omega), vp_in_nI (by omega) (by omega), ?_⟩
      rw [nI_clamp (by omega), nI_clamp (by omega), cq.1, cp.1]
      refine pk_eq (O q) (O p) (fun e => ?_) (fun e => nm_r (nI_1 q) (next (fun s => e s.2.1.symm)))
      have kq : fi_cp (O q) := by rw [e]; exact k
      have rd : ∀ o, fi_cp o → fi_rd o := fun o h => by unfold fi_cp at h; unfold fi_rd; omega
      have aq := cq.2.2.2.1 (rd _ kq)
      have ap := cp.2.2.2.1 (rd _ k)
      have bq := cq.2.2.2.2.1 kq
      have bp := cp.2.2.2.2.1 k
      refine ⟨vp_in_nI (by omega) (by omega), vp_in_nI (by omega) (by omega), ?_⟩
      rw [aq.1, ap.1]
      refine pk_eq (A q) (A p) (fun e2 => ?_) (fun e2 => nm_r (nI_1 q) (next (fun s => e2 s.2.2.1.symm)))
      refine ⟨vp_in_nI (by omega) (by omega), vp_in_nI (by omega) (by omega), ?_⟩
      rw [bq.1, bp.1]
      refine pk_eq (B q) (B p) (fun e3 => ?_) (fun e3 => nm_r (nI_1 q) (next (fun s => e3 s.2.2.2.symm)))
      exact h1 q (by omega) ⟨by omega, kq, fun j hj s => hl j hj (fi_sm_sym (fi_sm_tr s ⟨kq, e, e2, e3⟩))⟩ ⟨k, e.symm, e2.symm, e3.symm⟩
  exact ⟨_, key p 0 (by omega) (fun j hj => by omega)⟩
theorem fx_compBy {post : Int32 → Prop} {p : Nat} (hC : fi_C n O V A B a_ops a_targets a_firsts a_seconds) (hp : p < n) (h : ∀ r, fi_is r (fun e => fi_nm n O A B e ∧ fi_sm O A B p e) → post r) : wpX_computedBy post (f_count, f_edges, f_queueFirst, f_queueSize, f_backwards, f_walked, a_ops, a_targets, a_firsts, a_seconds, a_next, a_other, a_reached, a_edgeFrom, a_edgeTo, a_edgeAdds, a_edgeTakes, a_starts, a_bits, a_kept, a_queue, a_queued, a_wayThere, a_wayAdds, a_wayTakes, a_number, a_walkNode, a_parent, a_least, a_linked, a_above, a_bucketFirst, a_bucketNext, a_pathNode) (nI p) := by
  have hn := hC.1
  unfold wpX_computedBy
  refine fx_nameOf hC hp (fun k => ?_) (fun q hq h1 h2 => ?_)
  · exact br_f (by decide) (h 0 (fi_is_c fi_is_0 (fun i _ => ⟨fun z => z.elim, fun z => k z.2.1⟩)))
  · refine br_t (nI_pos' (by omega)) (h _ (fi_is_c (fi_is_1 (by omega)) (fun i _ => ⟨fun z => ?_, fun z => ?_⟩)))
    · subst z; exact ⟨h1, h2⟩
    · exact fi_nm_un z.1 h1 (fi_sm_tr (fi_sm_sym z.2) h2)
theorem fx_allNames {post : Int32 → Prop} (hC : fi_C n O V A B a_ops a_targets a_firsts a_seconds) (h : ∀ r, fi_is r (fi_nm n O A B) → post r) : wpX_allNames post (nI n, f_edges, f_queueFirst, f_queueSize, f_backwards, f_walked, a_ops, a_targets, a_firsts, a_seconds, a_next, a_other, a_reached, a_edgeFrom, a_edgeTo, a_edgeAdds, a_edgeTakes, a_starts, a_bits, a_kept, a_queue, a_queued, a_wayThere, a_wayAdds, a_wayTakes, a_number, a_walkNode, a_parent, a_least, a_linked, a_above, a_bucketFirst, a_bucketNext, a_pathNode) := by
  have hn := hC.1
  unfold wpX_allNames
  refine fi_lp (n := n) (fun i e => ∃ p, p < i ∧ fi_nm n O A B e ∧ fi_sm O A B p e) ?_ ?_ ?_
  · exact fi_is_c fi_is_0 (fun i _ => ⟨fun z => z.elim, fun ⟨p, hp, _⟩ => by omega⟩)
  · intro m r hr
    refine pk_le n n (fun _ => h r (fi_is_c hr (fun e _ => ⟨fun ⟨p, _, h2, _⟩ => h2, fun h2 => ⟨e, h2.1, h2, h2.2.1, rfl, rfl, rfl⟩⟩))) (fun k => by omega)
  · intro m i r hi hr K
    refine pk_le n i (fun k => by omega) (fun _ => fx_compBy hC hi (fun r2 h2 => ?_))
    refine nm_e (nm_r (nI_1 i) (K _ (fi_is_c (fi_is_or hr h2) (fun e _ => ⟨?_, ?_⟩))))
    · rintro (⟨p, hp, z⟩ | z)
      · exact ⟨p, by omega, z⟩
      · exact ⟨i, by omega, z⟩
    · rintro ⟨p, hp, z⟩
      by_cases e : p = i
      · subst e; exact Or.inr z
      · exact Or.inl ⟨p, by omega, z⟩
end
end
section
section
variable {f_count f_edges f_queueFirst f_queueSize f_backwards f_walked : Int32} {a_ops a_targets a_firsts a_seconds a_next a_other a_reached a_edgeFrom a_edgeTo a_edgeAdds a_edgeTakes a_starts a_bits a_kept a_queue a_queued a_wayThere a_wayAdds a_wayTakes a_number a_walkNode a_parent a_least a_linked a_above a_bucketFirst a_bucketNext a_pathNode : Nat → Int32}
variable {n : Nat} {O V A B : Nat → Nat}
theorem fi_cp_rd {o : Nat} (h : fi_cp o) : fi_rd o := by unfold fi_cp at h; unfold fi_rd; omega
theorem fx_spoiled59 {post : Int32 → Prop} {J : Int32 → Int32 → Prop} {q : Nat} {x1 x2 z : Int32} {P : Nat → Prop} {hs : Prop} (hC : fi_C n O V A B a_ops a_targets a_firsts a_seconds) (hq : q < n) (hz : fi_cp (O q) → (z = 0 ↔ ¬ hs))
    (h2 : fi_is x2 P) (K : ∀ r, fi_is r (fun e => P e ∨ (fi_cp (O q) ∧ hs ∧ fi_nm n O A B e ∧ fi_sm O A B q e)) → J r (nI (q + 1))) : wX_spoiledBy_59 post J x1 x2 (nI q) z f_count f_edges f_queueFirst f_queueSize f_backwards f_walked a_ops a_targets a_firsts a_seconds a_next a_other a_reached a_edgeFrom a_edgeTo a_edgeAdds a_edgeTakes a_starts a_bits a_kept a_queue a_queued a_wayThere a_wayAdds a_wayTakes a_number a_walkNode a_parent a_least a_linked a_above a_bucketFirst a_bucketNext a_pathNode := by
  have hn := hC.1
  have cq := hC.2 q hq
  have K0 : ¬ (fi_cp (O q) ∧ hs) → J (x2 ||| 0) (nI (q + 1)) := fun hc => K _ (fi_is_c (fi_is_or h2 fi_is_0) (fun e _ => by
    constructor
    · rintro (k | k)
      · exact Or.inl k
      · exact k.elim
    · rintro (k | k)
      · exact Or.inl k
      · exact absurd ⟨k.1, k.2.1⟩ hc))
  refine ⟨vp_in_nI (by omega) (by omega), ?_⟩
  rw [nI_clamp (by omega), cq.1]
  refine fx_comp cq.2.1 (fun k => br_f (by decide) ?_) (fun k => br_t rfl (nm_e (nm_r (nI_1 q) (K0 (fun c => k c.1)))))
  refine br_c (fun c => nm_e (nm_r (nI_1 q) (K0 (fun c2 => (hz k).mp c c2.2)))) (fun c => ?_)
  have c2 : hs := Classical.byContradiction (fun c2 => c ((hz k).mpr c2))
  refine fx_compBy hC hq (fun r hr => nm_e (nm_r (nI_1 q) (K _ (fi_is_c (fi_is_or h2 hr) (fun e _ => ?_)))))
  constructor
  · rintro (a | a)
    · exact Or.inl a
    · exact Or.inr ⟨k, c2, a⟩
  · rintro (a | a)
    · exact Or.inl a
    · exact Or.inr a.2.2
theorem fx_spoiledBy {post : Int32 → Prop} {p : Nat} (hC : fi_C n O V A B a_ops a_targets a_firsts a_seconds) (hp : p < n) (h : ∀ r, fi_is r (fun e => fi_nm n O A B e ∧ fi_sp O V A B p e) → post r) : wpX_spoiledBy post (nI n, f_edges, f_queueFirst, f_queueSize, f_backwards, f_walked, a_ops, a_targets, a_firsts, a_seconds, a_next, a_other, a_reached, a_edgeFrom, a_edgeTo, a_edgeAdds, a_edgeTakes, a_starts, a_bits, a_kept, a_queue, a_queued, a_wayThere, a_wayAdds, a_wayTakes, a_number, a_walkNode, a_parent, a_least, a_linked, a_above, a_bucketFirst, a_bucketNext, a_pathNode) (nI p) := by
  have hn := hC.1
  have cp := hC.2 p hp
  unfold wpX_spoiledBy
  have hz : ∀ x y : Int32, (1 : Int32) = 0 ↔ ¬ True := fun _ _ => ⟨fun z => absurd z (by decide), fun z => absurd trivial z⟩
  refine fi_lp (n := n) (fun i e => O p ≤ 3 ∧ ∃ q, q < i ∧ fi_cp (O q) ∧ (V p = A q ∨ V p = B q) ∧ fi_nm n O A B e ∧ fi_sm O A B q e) ?_ ?_ ?_
  · exact fi_is_c fi_is_0 (fun i _ => ⟨fun z => z.elim, fun ⟨_, q, hq, _⟩ => by omega⟩)
  · intro m r hr
    refine pk_le n n (fun _ => h r (fi_is_c hr (fun e _ => ⟨?_, ?_⟩))) (fun k => by omega)
    · rintro ⟨w, q, hq, c, d, e1, e2⟩
      refine ⟨e1, w, ?_⟩
      rw [← e2.2.2.1, ← e2.2.2.2]; exact d
    · rintro ⟨e1, w, d⟩
      exact ⟨w, e, e1.1, e1.2.1, d, e1, e1.2.1, rfl, rfl, rfl⟩
  · intro m i r hi hr K
    have ci := hC.2 i hi
    refine pk_le n i (fun k => by omega) (fun _ => ?_)
    refine ⟨vp_in_nI (by omega) (by omega), ?_⟩
    rw [nI_clamp (show p < 2 ^ 31 by omega), nI_clamp (show i < 2 ^ 31 by omega), cp.1]
    refine fx_writes cp.2.1 (fun w => br_f (by decide) ?_) (fun w => br_t rfl (h r (fi_is_c hr (fun e _ => ⟨fun z => absurd z.1 w, fun z => absurd z.2.1 w⟩))))
    have tp := cp.2.2.1 w
    have fin : ∀ z : Int32, (fi_cp (O i) → (z = 0 ↔ ¬ (V p = A i ∨ V p = B i))) → wX_spoiledBy_59 post (wX_spoiledBy_4 post (nI p) (nI n) f_edges f_queueFirst f_queueSize f_backwards f_walked a_ops a_targets a_firsts a_seconds a_next a_other a_reached a_edgeFrom a_edgeTo a_edgeAdds a_edgeTakes a_starts a_bits a_kept a_queue a_queued a_wayThere a_wayAdds a_wayTakes a_number a_walkNode a_parent a_least a_linked a_above a_bucketFirst a_bucketNext a_pathNode m) (nI p) r (nI i) z (nI n) f_edges f_queueFirst f_queueSize f_backwards f_walked a_ops a_targets a_firsts a_seconds a_next a_other a_reached a_edgeFrom a_edgeTo a_edgeAdds a_edgeTakes a_starts a_bits a_kept a_queue a_queued a_wayThere a_wayAdds a_wayTakes a_number a_walkNode a_parent a_least a_linked a_above a_bucketFirst a_bucketNext a_pathNode := by
      intro z hz
      refine fx_spoiled59 hC hi hz hr (fun r2 h2 => K r2 (fi_is_c h2 (fun e _ => ⟨?_, ?_⟩)))
      · rintro (⟨_, q, hq, k⟩ | ⟨a, b, c⟩)
        · exact ⟨w, q, by omega, k⟩
        · exact ⟨w, i, by omega, a, b, c⟩
      · rintro ⟨_, q, hq, k⟩
        by_cases e : q = i
        · subst e; exact Or.inr k
        · exact Or.inl ⟨w, q, by omega, k⟩
    refine ⟨vp_in_nI (by omega) (by omega), vp_in_nI (by omega) (by omega), ?_⟩
    rw [tp.1]
    refine br_c (fun c => ?_) (fun c => ⟨vp_in_nI (by omega) (by omega), vp_in_nI (by omega) (by omega), br_c (fun c2 => ?_) (fun c2 => ?_)⟩)
    · refine fin 1 (fun k => ⟨fun z => absurd z (by decide), fun z => absurd (Or.inl ?_) z⟩)
      have q := ci.2.2.2.1 (fi_cp_rd k)
      rw [q.1] at c
      exact ((nI_eq (by omega) (by omega)).mp c).symm
    · refine fin 1 (fun k => ⟨fun z => absurd z (by decide), fun z => absurd (Or.inr ?_) z⟩)
      have q := ci.2.2.2.2.1 k
      rw [q.1] at c2
      exact ((nI_eq (by omega) (by omega)).mp c2).symm
    · refine fin 0 (fun k => ⟨fun _ => ?_, fun _ => rfl⟩)
      have q := ci.2.2.2.1 (fi_cp_rd k)
      have q2 := ci.2.2.2.2.1 k
      rintro (e | e)
      · exact c (by rw [q.1, e])
      · exact c2 (by rw [q2.1, e])
theorem fx_writtenBy {post : Int32 → Prop} {p : Nat} (hC : fi_C n O V A B a_ops a_targets a_firsts a_seconds) (hp : p < n) (h : ∀ r, fi_is r (fun e => O p ≤ 3 ∧ e = V p) → post r) : wpX_writtenBy post (f_count, f_edges, f_queueFirst, f_queueSize, f_backwards, f_walked, a_ops, a_targets, a_firsts, a_seconds, a_next, a_other, a_reached, a_edgeFrom, a_edgeTo, a_edgeAdds, a_edgeTakes, a_starts, a_bits, a_kept, a_queue, a_queued, a_wayThere, a_wayAdds, a_wayTakes, a_number, a_walkNode, a_parent, a_least, a_linked, a_above, a_bucketFirst, a_bucketNext, a_pathNode) (nI p) := by
  have hn := hC.1
  have cp := hC.2 p hp
  refine ⟨vp_in_nI (by omega) (by omega), ?_⟩
  rw [nI_clamp (by omega), cp.1]
  refine fx_writes cp.2.1 (fun w => br_f (by decide) ⟨vp_in_nI (by omega) (by omega), ?_⟩) (fun w => br_t rfl (h 0 (fi_is_c fi_is_0 (fun e _ => ⟨fun z => z.elim, fun z => w z.1⟩))))
  have tp := cp.2.2.1 w
  rw [tp.1]
  exact h _ (fi_is_c (fi_is_1 (by omega)) (fun e _ => ⟨fun z => ⟨w, z⟩, fun z => z.2⟩))
theorem fx_readBy24 {post : Int32 → Prop} {p : Nat} {z : Int32} {P : Nat → Prop} (hC : fi_C n O V A B a_ops a_targets a_firsts a_seconds) (hp : p < n) (hz : fi_is z P) (h : ∀ r, fi_is r (fun e => P e ∨ (fi_cp (O p) ∧ e = B p)) → post r) : wX_readBy_24 post (nI p) z f_count f_edges f_queueFirst f_queueSize f_backwards f_walked a_ops a_targets a_firsts a_seconds a_next a_other a_reached a_edgeFrom a_edgeTo a_edgeAdds a_edgeTakes a_starts a_bits a_kept a_queue a_queued a_wayThere a_wayAdds a_wayTakes a_number a_walkNode a_parent a_least a_linked a_above a_bucketFirst a_bucketNext a_pathNode := by
  have hn := hC.1
  have cp := hC.2 p hp
  refine ⟨vp_in_nI (by omega) (by omega), ?_⟩
  rw [nI_clamp (by omega), cp.1]
  refine fx_comp cp.2.1 (fun k => br_f (by decide) ⟨vp_in_nI (by omega) (by omega), ?_⟩) (fun k => br_t rfl (h _ (fi_is_c (fi_is_or hz fi_is_0) (fun e _ => ?_))))
  · have bp := cp.2.2.2.2.1 k
    rw [bp.1]
    exact h _ (fi_is_c (fi_is_or hz (fi_is_1 (by omega))) (fun e _ => ⟨fun z => z.imp (fun a => a) (fun a => ⟨k, a⟩), fun z => z.imp (fun a => a) (fun a => a.2)⟩))
  · exact ⟨fun z => z.imp (fun a => a) (fun a => a.elim), fun z => z.imp (fun a => a) (fun a => k a.1)⟩
theorem fx_readBy {post : Int32 → Prop} {p : Nat} (hC : fi_C n O V A B a_ops a_targets a_firsts a_seconds) (hp : p < n) (h : ∀ r, fi_is r (fun e => (fi_rd (O p) ∧ e = A p) ∨ (fi_cp (O p) ∧ e = B p)) → post r) : wpX_readBy post (f_count, f_edges, f_queueFirst, f_queueSize, f_backwards, f_walked, a_ops, a_targets, a_firsts, a_seconds, a_next, a_other, a_reached, a_edgeFrom, a_edgeTo, a_edgeAdds, a_edgeTakes, a_starts, a_bits, a_kept, a_queue, a_queued, a_wayThere, a_wayAdds, a_wayTakes, a_number, a_walkNode, a_parent, a_least, a_linked, a_above, a_bucketFirst, a_bucketNext, a_pathNode) (nI p) := by
  have hn := hC.1
  have cp := hC.2 p hp
  refine ⟨vp_in_nI (by omega) (by omega), ?_⟩
  rw [nI_clamp (by omega), cp.1]
  refine fx_reads cp.2.1 (fun k => br_f (by decide) ⟨vp_in_nI (by omega) (by omega), ?_⟩) (fun k => br_t rfl (fx_readBy24 hC hp fi_is_0 (fun r hr => h r (fi_is_c hr (fun e _ => ?_)))))
  · have bp := cp.2.2.2.1 k
    rw [bp.1]
    exact fx_readBy24 hC hp (fi_is_1 (by omega)) (fun r hr => h r (fi_is_c hr (fun e _ => ⟨fun z => z.imp (fun a => ⟨k, a⟩) (fun a => a), fun z => z.imp (fun a => a.2) (fun a => a)⟩)))
  · exact ⟨fun z => z.imp (fun a => a.elim) (fun a => a), fun z => z.imp (fun a => k a.1) (fun a => a)⟩
theorem fi_wr_s {i : Nat} {v : Nat} (r : Int32) (h : fi_is r (fun e => e < i ∧ fi_wr n O V v e)) (k : ¬ fi_wr n O V v i) : fi_is r (fun e => e < i + 1 ∧ fi_wr n O V v e) := by
  refine fi_is_c h (fun e _ => ⟨fun z => ⟨by omega, z.2⟩, fun z => ⟨?_, z.2⟩⟩)
  by_cases c : e = i
  · subst c; exact absurd z.2 k
  · omega
theorem fi_wr_t {i : Nat} {v : Nat} (r : Int32) (h : fi_is r (fun e => e < i ∧ fi_wr n O V v e)) (hi : i < 32) (k : fi_wr n O V v i) : fi_is (r ||| ((1 : Int32) <<< (nI i &&& 31))) (fun e => e < i + 1 ∧ fi_wr n O V v e) := by
  refine fi_is_c (fi_is_or h (fi_is_1 hi)) (fun e _ => ⟨?_, fun z => ?_⟩)
  · rintro (z | z)
    · exact ⟨by omega, z.2⟩
    · subst z; exact ⟨by omega, k⟩
  · by_cases c : e = i
    · exact Or.inr c
    · exact Or.inl ⟨by omega, z.2⟩
theorem fi_or0 {r : Int32} {P : Nat → Prop} (h : fi_is r P) : fi_is (r ||| 0) P := fi_is_c (fi_is_or h fi_is_0) (fun _ _ => ⟨fun z => z.elim id False.elim, Or.inl⟩)
theorem fx_writersOf {post : Int32 → Prop} {v : Nat} (hv : v < 6) (hC : fi_C n O V A B a_ops a_targets a_firsts a_seconds) (h : ∀ r, fi_is r (fi_wr n O V v) → post r) : wpX_writersOf post (nI n, f_edges, f_queueFirst, f_queueSize, f_backwards, f_walked, a_ops, a_targets, a_firsts, a_seconds, a_next, a_other, a_reached, a_edgeFrom, a_edgeTo, a_edgeAdds, a_edgeTakes, a_starts, a_bits, a_kept, a_queue, a_queued, a_wayThere, a_wayAdds, a_wayTakes, a_number, a_walkNode, a_parent, a_least, a_linked, a_above, a_bucketFirst, a_bucketNext, a_pathNode) (nI v) := by
  have hn := hC.1
  unfold wpX_writersOf
  refine fi_lp (n := n) (fun i e => e < i ∧ fi_wr n O V v e) ?_ ?_ ?_
  · exact fi_is_c fi_is_0 (fun i _ => ⟨fun z => z.elim, fun z => by omega⟩)
  · intro m r hr
    exact pk_le n n (fun _ => h r (fi_is_c hr (fun e _ => ⟨fun z => z.2, fun z => ⟨z.1, z⟩⟩))) (fun k => by omega)
  · intro m i r hi hr K
    have ci := hC.2 i hi
    refine pk_le n i (fun k => by omega) (fun _ => ⟨vp_in_nI (by omega) (by omega), ?_⟩)
    rw [nI_clamp (by omega), ci.1]
    refine fx_writes ci.2.1 (fun w => br_f (by decide) ⟨vp_in_nI (by omega) (by omega), ?_⟩) (fun w => br_t rfl (nm_e (nm_r (nI_1 i) (K _ (fi_or0 (fi_wr_s r hr (fun z => w z.2.1)))))))
    have ti := ci.2.2.1 w
    rw [ti.1]
    exact pk_eq (V i) v (fun e => nm_e (nm_r (nI_1 i) (K _ (fi_wr_t r hr (by omega) ⟨hi, w, e⟩)))) (fun e => nm_e (nm_r (nI_1 i) (K _ (fi_or0 (fi_wr_s r hr (fun z => e z.2.2))))))
/-- what a step adds and takes, by the number of the fact -/
def fi_AD (n : Nat) (O V A B : Nat → Nat) (f p e : Nat) : Prop :=
  (f = 0 ∧ O p ≤ 3 ∧ e = p) ∨ (f = 1 ∧ ((fi_rd (O p) ∧ e = A p) ∨ (fi_cp (O p) ∧ e = B p))) ∨ (f = 2 ∧ fi_nm n O A B e ∧ fi_sp O V A B p e) ∨ (f = 3 ∧ fi_nm n O A B e ∧ fi_sp O V A B p e ∧ ¬ fi_sm O A B p e)
def fi_TK (n : Nat) (O V A B : Nat → Nat) (f p e : Nat) : Prop :=
  (f = 0 ∧ O p ≤ 3 ∧ fi_wr n O V (V p) e) ∨ (f = 1 ∧ O p ≤ 3 ∧ e = V p) ∨ ((f = 2 ∨ f = 3) ∧ fi_nm n O A B e ∧ fi_sm O A B p e) ∨ (f = 4 ∧ O p ≤ 3 ∧ e = V p)
theorem fi_AD0 {p e : Nat} : fi_AD n O V A B 0 p e ↔ (O p ≤ 3 ∧ e = p) := by simp [fi_AD]
theorem fi_AD1 {p e : Nat} : fi_AD n O V A B 1 p e ↔ ((fi_rd (O p) ∧ e = A p) ∨ (fi_cp (O p) ∧ e = B p)) := by simp [fi_AD]
theorem fi_AD2 {p e : Nat} : fi_AD n O V A B 2 p e ↔ (fi_nm n O A B e ∧ fi_sp O V A B p e) := by simp [fi_AD]
theorem fi_AD3 {p e : Nat} : fi_AD n O V A B 3 p e ↔ (fi_nm n O A B e ∧ fi_sp O V A B p e ∧ ¬ fi_sm O A B p e) := by simp [fi_AD]
theorem fi_AD4 {p e : Nat} : ¬ fi_AD n O V A B 4 p e := by simp [fi_AD]
theorem fi_TK0 {p e : Nat} : fi_TK n O V A B 0 p e ↔ (O p ≤ 3 ∧ fi_wr n O V (V p) e) := by simp [fi_TK]
theorem fi_TK1 {p e : Nat} : fi_TK n O V A B 1 p e ↔ (O p ≤ 3 ∧ e = V p) := by simp [fi_TK]
theorem fi_TK2 {p e : Nat} : fi_TK n O V A B 2 p e ↔ (fi_nm n O A B e ∧ fi_sm O A B p e) := by simp [fi_TK]
theorem fi_TK3 {p e : Nat} : fi_TK n O V A B 3 p e ↔ (fi_nm n O A B e ∧ fi_sm O A B p e) := by simp [fi_TK]
theorem fi_TK4 {p e : Nat} : fi_TK n O V A B 4 p e ↔ (O p ≤ 3 ∧ e = V p) := by simp [fi_TK]
theorem fx_addedBy {post : Int32 → Prop} {f p : Nat} (hf : f ≤ 4) (hC : fi_C n O V A B a_ops a_targets a_firsts a_seconds) (hp : p < n) (h : ∀ r, fi_is r (fi_AD n O V A B f p) → post r) : wpX_addedBy post (nI n, f_edges, f_queueFirst, f_queueSize, f_backwards, f_walked, a_ops, a_targets, a_firsts, a_seconds, a_next, a_other, a_reached, a_edgeFrom, a_edgeTo, a_edgeAdds, a_edgeTakes, a_starts, a_bits, a_kept, a_queue, a_queued, a_wayThere, a_wayAdds, a_wayTakes, a_number, a_walkNode, a_parent, a_least, a_linked, a_above, a_bucketFirst, a_bucketNext, a_pathNode) (nI f) (nI p) := by
  have hn := hC.1
  have cp := hC.2 p hp
  refine br_f (nI_pos (by omega)) (pk_lt 3 f (fun c => ?_) (fun c => ?_))
  · have : f = 4 := by omega
    subst this
    exact h 0 (fi_is_c fi_is_0 (fun e _ => ⟨fun z => z.elim, fun z => fi_AD4 z⟩))
  · refine pk_eq f 0 (fun c0 => ?_) (fun c0 => pk_eq f 1 (fun c1 => ?_) (fun c1 => pk_eq f 2 (fun c2 => ?_) (fun c2 => pk_eq f 3 (fun c3 => ?_) (fun c3 => by omega))))
    · subst c0
      refine ⟨vp_in_nI (by omega) (by omega), ?_⟩
      rw [nI_clamp (by omega), cp.1]
      refine fx_writes cp.2.1 (fun w => br_f (by decide) (h _ (fi_is_c (fi_is_1 (by omega)) (fun e _ => ?_)))) (fun w => br_t rfl (h 0 (fi_is_c fi_is_0 (fun e _ => ?_))))
      · rw [fi_AD0]; exact ⟨fun z => ⟨w, z⟩, fun z => z.2⟩
      · rw [fi_AD0]; exact ⟨fun z => z.elim, fun z => w z.1⟩
    · subst c1
      exact fx_readBy hC hp (fun r hr => h r (fi_is_c hr (fun e _ => fi_AD1.symm)))
    · subst c2
      exact fx_spoiledBy hC hp (fun r hr => h r (fi_is_c hr (fun e _ => fi_AD2.symm)))
    · subst c3
      refine fx_spoiledBy hC hp (fun r hr => fx_compBy hC hp (fun r2 hr2 => h _ (fi_is_c (fi_is_and hr (fi_is_not hr2)) (fun e _ => ?_))))
      rw [fi_AD3]
      exact ⟨fun z => ⟨z.1.1, z.1.2, fun s => z.2 ⟨z.1.1, s⟩⟩, fun z => ⟨⟨z.1, z.2.1⟩, fun s => z.2.2 s.2⟩⟩
theorem fx_takenBy {post : Int32 → Prop} {f p : Nat} (hf : f ≤ 4) (hC : fi_C n O V A B a_ops a_targets a_firsts a_seconds) (hp : p < n) (h : ∀ r, fi_is r (fi_TK n O V A B f p) → post r) : wpX_takenBy post (nI n, f_edges, f_queueFirst, f_queueSize, f_backwards, f_walked, a_ops, a_targets, a_firsts, a_seconds, a_next, a_other, a_reached, a_edgeFrom, a_edgeTo, a_edgeAdds, a_edgeTakes, a_starts, a_bits, a_kept, a_queue, a_queued, a_wayThere, a_wayAdds, a_wayTakes, a_number, a_walkNode, a_parent, a_least, a_linked, a_above, a_bucketFirst, a_bucketNext, a_pathNode) (nI f) (nI p) := by
  have hn := hC.1
  have cp := hC.2 p hp
  refine br_f (nI_pos (by omega)) (pk_lt 3 f (fun c => ?_) (fun c => ?_))
  · have : f = 4 := by omega
    subst this
    exact fx_writtenBy hC hp (fun r hr => h r (fi_is_c hr (fun e _ => fi_TK4.symm)))
  · refine pk_eq f 0 (fun c0 => ?_) (fun c0 => pk_eq f 1 (fun c1 => ?_) (fun c1 => pk_eq f 2 (fun c2 => ?_) (fun c2 => pk_eq f 3 (fun c3 => ?_) (fun c3 => by omega))))
    · subst c0
      refine ⟨vp_in_nI (by omega) (by omega), ?_⟩
      rw [nI_clamp (by omega), cp.1]
      refine fx_writes cp.2.1 (fun w => br_f (by decide) ⟨vp_in_nI (by omega) (by omega), ?_⟩) (fun w => br_t rfl (h 0 (fi_is_c fi_is_0 (fun e _ => ?_))))
      · have tp := cp.2.2.1 w
        rw [tp.1]
        exact fx_writersOf tp.2 hC (fun r hr => h r (fi_is_c hr (fun e _ => by rw [fi_TK0]; exact ⟨fun z => ⟨w, z⟩, fun z => z.2⟩)))
      · rw [fi_TK0]; exact ⟨fun z => z.elim, fun z => w z.1⟩
    · subst c1
      exact fx_writtenBy hC hp (fun r hr => h r (fi_is_c hr (fun e _ => fi_TK1.symm)))
    · subst c2
      exact fx_compBy hC hp (fun r hr => h r (fi_is_c hr (fun e _ => fi_TK2.symm)))
    · subst c3
      exact fx_compBy hC hp (fun r hr => h r (fi_is_c hr (fun e _ => fi_TK3.symm)))
end
end
section
/-- next and other hold the graph -/
def fi_nx (E : Nat → Nat → Prop) (nx ot : Nat → Int32) : Prop := ∀ p q, p < 21 → q < 21 → ((nx p = nI q ∨ ot p = nI q) ↔ E p q)
def fi_ld (L : Nat → Nat → Prop) (bw : Int32) (nx ot : Nat → Int32) : Prop := (bw = 0 ∧ fi_nx L nx ot) ∨ (bw = 1 ∧ fi_nx (fun a b => L b a) nx ot)
/-- the walk's arrays hold its numbers -/
def fi_dx (W : Nat) (wn par : Nat → Nat) (nu wk pa : Nat → Int32) : Prop :=
  (∀ i, i < W → nu (wn i) = nI i ∧ wk i = nI (wn i)) ∧ (∀ x, x < 21 → (∀ i, i < W → wn i ≠ x) → nu x = -1) ∧ (∀ i, 0 < i → i < W → pa (wn i) = nI (wn (par i)))
section
variable {f_count f_edges f_queueFirst f_queueSize f_backwards f_walked : Int32} {a_ops a_targets a_firsts a_seconds a_next a_other a_reached a_edgeFrom a_edgeTo a_edgeAdds a_edgeTakes a_starts a_bits a_kept a_queue a_queued a_wayThere a_wayAdds a_wayTakes a_number a_walkNode a_parent a_least a_linked a_above a_bucketFirst a_bucketNext a_pathNode : Nat → Int32}
theorem fx_goesOn {post : Int32 → Prop} {E : Nat → Nat → Prop} {p q : Nat} (hx : fi_nx E a_next a_other) (hp : p < 21) (hq : q < 21) (h1 : E p q → post 1) (h0 : ¬ E p q → post 0) : wpX_goesOn post (f_count, f_edges, f_queueFirst, f_queueSize, f_backwards, f_walked, a_ops, a_targets, a_firsts, a_seconds, a_next, a_other, a_reached, a_edgeFrom, a_edgeTo, a_edgeAdds, a_edgeTakes, a_starts, a_bits, a_kept, a_queue, a_queued, a_wayThere, a_wayAdds, a_wayTakes, a_number, a_walkNode, a_parent, a_least, a_linked, a_above, a_bucketFirst, a_bucketNext, a_pathNode) (nI p) (nI q) := by
  have hx := hx p q hp hq
  refine ⟨vp_in_nI hp (by omega), ?_⟩
  rw [nI_clamp (by omega)]
  refine br_c (fun c => h1 (hx.mp (Or.inl c))) (fun c => ⟨vp_in_nI hp (by omega), br_c (fun c2 => h1 (hx.mp (Or.inr c2))) (fun c2 => h0 (fun e => ?_))⟩)
  rcases hx.mpr e with k | k
  · exact c k
  · exact c2 k
theorem fx_leads {post : Int32 → Prop} {L : Nat → Nat → Prop} {p q : Nat} (hx : fi_ld L f_backwards a_next a_other) (hp : p < 21) (hq : q < 21) (h1 : L p q → post 1) (h0 : ¬ L p q → post 0) : wpX_leads post (f_count, f_edges, f_queueFirst, f_queueSize, f_backwards, f_walked, a_ops, a_targets, a_firsts, a_seconds, a_next, a_other, a_reached, a_edgeFrom, a_edgeTo, a_edgeAdds, a_edgeTakes, a_starts, a_bits, a_kept, a_queue, a_queued, a_wayThere, a_wayAdds, a_wayTakes, a_number, a_walkNode, a_parent, a_least, a_linked, a_above, a_bucketFirst, a_bucketNext, a_pathNode) (nI p) (nI q) := by
  rcases hx with ⟨e, hx⟩ | ⟨e, hx⟩
  · refine br_t e (fx_goesOn hx hp hq (fun k => ⟨narrow_b1, h1 k⟩) (fun k => ⟨narrow_b0, h0 k⟩))
  · refine br_f (by rw [e]; decide) (fx_goesOn hx hq hp (fun k => ⟨narrow_b1, h1 k⟩) (fun k => ⟨narrow_b0, h0 k⟩))
theorem fx_unnum {post : Int32 → Prop} {L : Nat → Nat → Prop} {nb : Nat → Prop} {u : Nat} (hx : fi_ld L f_backwards a_next a_other) (hu : u < 21) (hn : ∀ v, v < 21 → (0 ≤ a_number v ↔ nb v)) (h1 : ∀ v, v < 21 → ¬ nb v → L u v → post (nI v)) (h0 : (∀ v, v < 21 → L u v → nb v) → post (-1)) : wpX_unnumbered post (f_count, f_edges, f_queueFirst, f_queueSize, f_backwards, f_walked, a_ops, a_targets, a_firsts, a_seconds, a_next, a_other, a_reached, a_edgeFrom, a_edgeTo, a_edgeAdds, a_edgeTakes, a_starts, a_bits, a_kept, a_queue, a_queued, a_wayThere, a_wayAdds, a_wayTakes, a_number, a_walkNode, a_parent, a_least, a_linked, a_above, a_bucketFirst, a_bucketNext, a_pathNode) (nI u) := by
  have key : ∀ d v, v + d = 21 → (∀ j, j < v → L u j → nb j) → wX_unnumbered_2 post (nI u) f_count f_edges f_queueFirst f_queueSize f_backwards f_walked a_ops a_targets a_firsts a_seconds a_next a_other a_reached a_edgeFrom a_edgeTo a_edgeAdds a_edgeTakes a_starts a_bits a_kept a_queue a_queued a_wayThere a_wayAdds a_wayTakes a_number a_walkNode a_parent a_least a_linked a_above a_bucketFirst a_bucketNext a_pathNode (d + 1) (nI v) := by
    intro d
    induction d with
    | zero =>
      intro v hv hl
      exact pk_le 21 v (fun _ => h0 (fun j hj => hl j (by omega))) (fun k => by omega)
    | succ d ih =>
      intro v hv hl
      have nxt : (L u v → nb v) → wX_unnumbered_2 post (nI u) f_count f_edges f_queueFirst f_queueSize f_backwards f_walked a_ops a_targets a_firsts a_seconds a_next a_other a_reached a_edgeFrom a_edgeTo a_edgeAdds a_edgeTakes a_starts a_bits a_kept a_queue a_queued a_wayThere a_wayAdds a_wayTakes a_number a_walkNode a_parent a_least a_linked a_above a_bucketFirst a_bucketNext a_pathNode (d + 1) (nI (v + 1)) := fun hh => ih (v + 1) (by omega) (fun j hj => by
        by_cases e : j = v
        · rw [e]; exact hh
        · exact hl j (by omega))
      refine pk_le 21 v (fun k => by omega) (fun _ => ⟨vp_in_nI (by omega) (by omega), ?_⟩)
      rw [nI_clamp (by omega)]
      have hv2 := hn v (by omega)
      refine br_c (fun c => nm_r (nI_1 v) (nxt (fun _ => hv2.mp c))) (fun c => fx_leads hx hu (by omega) (fun k => br_f (by decide) (h1 v (by omega) (fun z => c (hv2.mpr z)) k)) (fun k => br_t rfl (nm_r (nI_1 v) (nxt (fun z => absurd z k)))))
  exact ⟨_, key 21 0 (by omega) (fun j hj => by omega)⟩
theorem fx_enter {post : SX → Prop} {W v : Nat} (hW : W < 21) (hv : v < 21) (h : post (f_count, f_edges, f_queueFirst, f_queueSize, f_backwards, nI (W + 1), a_ops, a_targets, a_firsts, a_seconds, a_next, a_other, a_reached, a_edgeFrom, a_edgeTo, a_edgeAdds, a_edgeTakes, a_starts, a_bits, a_kept, a_queue, a_queued, a_wayThere, a_wayAdds, a_wayTakes, upd a_number v (nI W), upd a_walkNode W (nI v), a_parent, a_least, a_linked, a_above, a_bucketFirst, a_bucketNext, a_pathNode)) : wpX_enter post (f_count, f_edges, f_queueFirst, f_queueSize, f_backwards, nI W, a_ops, a_targets, a_firsts, a_seconds, a_next, a_other, a_reached, a_edgeFrom, a_edgeTo, a_edgeAdds, a_edgeTakes, a_starts, a_bits, a_kept, a_queue, a_queued, a_wayThere, a_wayAdds, a_wayTakes, a_number, a_walkNode, a_parent, a_least, a_linked, a_above, a_bucketFirst, a_bucketNext, a_pathNode) (nI v) := by
  refine ⟨vp_in_nI hv (by omega), ?_⟩
  rw [nI_clamp (by omega), fi_nb (by omega)]
  refine nm_e ⟨vp_in_nI hW (by omega), ?_⟩
  rw [nI_clamp (by omega), fi_nb (by omega)]
  exact nm_e (nm_r (nI_1 W) h)
theorem fx_walk56 {post : SX → Prop} {L : Nat → Nat → Prop} {rt : Nat} (hx : fi_ld L f_backwards a_next a_other)
    (h : ∀ W wn par nu wk pa pn, fi_dn L rt W wn par → fi_dx W wn par nu wk pa → post (f_count, f_edges, f_queueFirst, f_queueSize, f_backwards, nI W, a_ops, a_targets, a_firsts, a_seconds, a_next, a_other, a_reached, a_edgeFrom, a_edgeTo, a_edgeAdds, a_edgeTakes, a_starts, a_bits, a_kept, a_queue, a_queued, a_wayThere, a_wayAdds, a_wayTakes, nu, wk, pa, a_least, a_linked, a_above, a_bucketFirst, a_bucketNext, pn)) :
    ∀ m W wn par D st rd nu wk pa pn, 42 ≤ m + rd → 2 * W = D + 1 + rd → D ≤ W → fi_df L rt W wn par D st → fi_dx W wn par nu wk pa → (∀ k, k < D → pn k = nI (wn (st k))) →
      wX_walk_56 post (m + 1) (nI D) (nI rd) f_count f_edges f_queueFirst f_queueSize f_backwards (nI W) a_ops a_targets a_firsts a_seconds a_next a_other a_reached a_edgeFrom a_edgeTo a_edgeAdds a_edgeTakes a_starts a_bits a_kept a_queue a_queued a_wayThere a_wayAdds a_wayTakes nu wk pa a_least a_linked a_above a_bucketFirst a_bucketNext pn := by
  intro m
  induction m with
  | zero =>
    intro W wn par D st rd nu wk pa pn h1 h2 h3 H X P
    have := fi_df_W H
    omega
  | succ m ih =>
    intro W wn par D st rd nu wk pa pn h1 h2 h3 H X P
    have hW := fi_df_W H
    refine pk_le 42 rd (fun k => by omega) (fun _ => ?_)
    cases D with
    | zero => exact pk_le 0 0 (fun _ => h W wn par nu wk pa pn (fi_df_end H) X) (fun k => by omega)
    | succ D =>
      refine pk_le (D + 1) 0 (fun k => by omega) (fun _ => ?_)
      rw [nI_pred]
      have t1 : st D < W := (H.2.2.2.2.1 D (by omega)).1
      have t2 : wn (st D) < 21 := H.2.1 _ t1
      refine ⟨vp_in_nI (by omega) (by omega), nm_r (e' := nI (wn (st D))) (by rw [nI_clamp (by omega)]; exact P D (by omega)) ?_⟩
      refine fx_unnum (nb := fun v => ∃ i, i < W ∧ wn i = v) hx t2 (fun v hv => ?_) (fun v hv nv lv => ?_) (fun hc => ?_)
      · constructor
        · intro c
          refine Classical.byContradiction (fun k => ?_)
          rw [X.2.1 v hv (fun i hi e => k ⟨i, hi, e⟩)] at c
          exact absurd c (by decide)
        · rintro ⟨i, hi, rfl⟩
          rw [(X.1 i hi).1]
          exact nI_pos' (by omega)
      · have H2 := fi_df_in H (by omega) hv (fun i hi e => nv ⟨i, hi, e⟩) lv
        have hW2 := fi_df_W H2
        refine br_t (nI_pos' (by omega)) ⟨vp_in_nI hv (by omega), nm_r (e' := upd pa v (nI (wn (st D)))) (by rw [nI_clamp (by omega), fi_nb (by omega)]) ?_⟩
        refine fx_enter (by omega) hv ⟨vp_in_nI (by omega) (by omega), nm_r (e' := upd pn (D + 1) (nI v)) (by rw [nI_clamp (by omega), fi_nb (by omega)]) (nm_r (nI_1 _) (nm_r (nI_1 _) ?_))⟩
        refine ih (W + 1) _ _ (D + 1 + 1) _ (rd + 1) _ _ _ _ (by omega) (by omega) (by omega) H2 ⟨?_, ?_, ?_⟩ ?_
        · intro i hi
          by_cases e : i = W
          · subst e
            simp only [if_true]
            exact ⟨pk_us, pk_us⟩
          · simp only [if_neg e]
            have q := X.1 i (by omega)
            rw [pk_un (fun e => nv ⟨i, by omega, e⟩), pk_un e]
            exact q
        · intro x hx2 hn
          have e1 := hn W (by omega)
          simp only [if_true] at e1
          rw [pk_un (fun e => e1 e.symm)]
          refine X.2.1 x hx2 (fun i hi => ?_)
          have := hn i (by omega)
          dsimp only at this
          rwa [if_neg (by omega)] at this
        · intro i h0 hi
          by_cases e : i = W
          · subst e
            simp only [if_true, Nat.add_sub_cancel]
            rw [if_neg (by omega)]
            exact pk_us
          · simp only [if_neg e]
            have q := H.2.2.2.1 i h0 (by omega)
            rw [if_neg (by omega), pk_un (fun e => nv ⟨i, by omega, e⟩)]
            exact X.2.2 i h0 (by omega)
        · intro k hk
          by_cases e : k = D + 1
          · subst e
            simp only [if_true]
            exact pk_us
          · have q := H.2.2.2.2.1 k (by omega)
            simp only [if_neg e]
            rw [if_neg (by omega), pk_un e]
            exact P k (by omega)
      · refine br_f (by decide) (nm_r (pk_m1 D) (nm_r (nI_1 rd) ?_))
        have H2 := fi_df_out H (by omega) hc
        exact ih W wn par D st (rd + 1) nu wk pa pn (by omega) (by omega) (by omega) H2 X (fun k hk => P k (by omega))
theorem fx_walk {post : SX → Prop} {L : Nat → Nat → Prop} {rt : Nat} {bw : Int32} (hb : bw = 0 ∨ bw = 1) (hr : rt < 21) (hx : fi_ld L bw a_next a_other)
    (h : ∀ W wn par nu wk pa pn, fi_dn L rt W wn par → fi_dx W wn par nu wk pa → post (f_count, f_edges, f_queueFirst, f_queueSize, bw, nI W, a_ops, a_targets, a_firsts, a_seconds, a_next, a_other, a_reached, a_edgeFrom, a_edgeTo, a_edgeAdds, a_edgeTakes, a_starts, a_bits, a_kept, a_queue, a_queued, a_wayThere, a_wayAdds, a_wayTakes, nu, wk, pa, a_least, a_linked, a_above, a_bucketFirst, a_bucketNext, pn)) : wpX_walk post (f_count, f_edges, f_queueFirst, f_queueSize, f_backwards, f_walked, a_ops, a_targets, a_firsts, a_seconds, a_next, a_other, a_reached, a_edgeFrom, a_edgeTo, a_edgeAdds, a_edgeTakes, a_starts, a_bits, a_kept, a_queue, a_queued, a_wayThere, a_wayAdds, a_wayTakes, a_number, a_walkNode, a_parent, a_least, a_linked, a_above, a_bucketFirst, a_bucketNext, a_pathNode) (nI rt) bw := by
  have key : ∀ d i nu pa, i + d = 21 → (∀ x, x < i → nu x = -1) → wX_walk_12 post (nI rt) f_count f_edges f_queueFirst f_queueSize bw 0 (d + 1) (nI i) a_ops a_targets a_firsts a_seconds a_next a_other a_reached a_edgeFrom a_edgeTo a_edgeAdds a_edgeTakes a_starts a_bits a_kept a_queue a_queued a_wayThere a_wayAdds a_wayTakes nu a_walkNode pa a_least a_linked a_above a_bucketFirst a_bucketNext a_pathNode := by
    intro d
    induction d with
    | zero =>
      intro i nu pa hi hl
      refine pk_le 21 i (fun _ => nm_r (e' := upd a_pathNode 0 (nI rt)) (by rw [fi_nb (by omega)]) ?_) (fun k => by omega)
      refine fx_enter (W := 0) (by omega) hr ⟨_, fx_walk56 hx h 42 1 (fun _ => rt) (fun _ => 0) 1 (fun _ => 0) 0 _ _ _ _ (by omega) (by omega) (by omega) (fi_df_0 hr) ⟨?_, ?_, ?_⟩ ?_⟩
      · intro i hi
        have : i = 0 := by omega
        subst this
        exact ⟨pk_us, pk_us⟩
      · intro x hx2 hn
        have e1 := hn 0 (by omega)
        rw [pk_un (fun e => e1 e.symm)]
        exact hl x (by omega)
      · intro i h0 hi; omega
      · intro k hk
        have : k = 0 := by omega
        subst this
        exact pk_us
    | succ d ih =>
      intro i nu pa hi hl
      refine pk_le 21 i (fun k => by omega) (fun _ => ⟨vp_in_nI (by omega) (by omega), nm_r (e' := upd nu i (-1)) (by rw [nI_clamp (by omega), fi_nbm]) ⟨vp_in_nI (by omega) (by omega), nm_r (e' := upd pa i (-1)) (by rw [nI_clamp (by omega), fi_nbm]) (nm_r (nI_1 i) (ih (i + 1) _ _ (by omega) (fun x hx2 => ?_)))⟩⟩)
      by_cases e : x = i
      · subst e; exact pk_us
      · rw [pk_un e]; exact hl x (by omega)
  have hb1 : narrow .boolean (.int bw) = .int bw := by rcases hb with e | e <;> rw [e] <;> rfl
  have hb2 : fits .boolean (.int bw) = true := by rcases hb with e | e <;> rw [e] <;> rfl
  exact ⟨hb1, hb2, _, key 21 0 a_number a_parent (by omega) (fun x hx2 => by omega)⟩
end
end
section
def fi_ot (n : Nat) (O B : Nat → Nat) (p : Nat) : Int32 := if O p = 6 ∧ fi_gl n O B p ≠ fi_nd n (p + 1) then nI (fi_nd n (p + 1)) else -1
def fi_nti (n : Nat) (O B : Nat → Nat) (i : Nat) (nx ot : Nat → Int32) : Prop := ∀ p, p < 21 → (p < i → nx p = nI (fi_gl n O B p) ∧ ot p = fi_ot n O B p) ∧ (i ≤ p → nx p = -1 ∧ ot p = -1)
def fi_RE (n : Nat) (O B : Nat → Nat) (p : Nat) : Prop := fi_rc (fi_E n O B) (fun a => a = fi_nd n 0) p
theorem fi_nt_nx {n : Nat} {O B : Nat → Nat} {nx ot : Nat → Int32} (hn : n ≤ 20) (h : fi_nti n O B n nx ot) : fi_nx (fi_E n O B) nx ot := by
  intro p q hp hq
  have g1 := fi_gl_lt (O := O) (B := B) (p := p) hn
  have g2 := fi_nd_lt (t := p + 1) hn
  have ng : ¬ ((-1 : Int32) = nI q) := fun e => fi_neg1 (k := q) (by omega) e.symm
  by_cases c : p < n
  · obtain ⟨h1, h2⟩ := (h p hp).1 c
    rw [h1, h2, nI_eq (by omega) (by omega)]
    unfold fi_ot fi_E
    constructor
    · rintro (e | e)
      · exact ⟨c, Or.inl e.symm⟩
      · split at e
        · rename_i k
          exact ⟨c, Or.inr ⟨k.1, ((nI_eq (by omega) (by omega)).mp e).symm⟩⟩
        · exact absurd e ng
    · rintro ⟨_, e | ⟨e1, e2⟩⟩
      · exact Or.inl e.symm
      · by_cases k : fi_gl n O B p = fi_nd n (p + 1)
        · exact Or.inl (by rw [k, e2])
        · right; rw [if_pos ⟨e1, k⟩, e2]
  · obtain ⟨h1, h2⟩ := (h p hp).2 (by omega)
    rw [h1, h2]
    constructor
    · rintro (e | e) <;> exact absurd e ng
    · intro e; exact absurd e.1 c
section
variable {f_count f_edges f_queueFirst f_queueSize f_backwards f_walked : Int32} {a_ops a_targets a_firsts a_seconds a_next a_other a_reached a_edgeFrom a_edgeTo a_edgeAdds a_edgeTakes a_starts a_bits a_kept a_queue a_queued a_wayThere a_wayAdds a_wayTakes a_number a_walkNode a_parent a_least a_linked a_above a_bucketFirst a_bucketNext a_pathNode : Nat → Int32}
variable {n : Nat} {O V A B : Nat → Nat}
theorem fx_next77 {post : SX → Prop} {J : Int32 → (Nat → Int32) → (Nat → Int32) → (Nat → Int32) → (Nat → Int32) → (Nat → Int32) → (Nat → Int32) → (Nat → Int32) → (Nat → Int32) → (Nat → Int32) → (Nat → Int32) → (Nat → Int32) → (Nat → Int32) → (Nat → Int32) → (Nat → Int32) → (Nat → Int32) → (Nat → Int32) → (Nat → Int32) → (Nat → Int32) → (Nat → Int32) → (Nat → Int32) → (Nat → Int32) → (Nat → Int32) → (Nat → Int32) → (Nat → Int32) → (Nat → Int32) → (Nat → Int32) → (Nat → Int32) → (Nat → Int32) → Prop} {p on g : Nat} (hp : p < 20) (ho : on < 21) (hg : g < 21) (hO : O p ≤ 6) (hop : a_ops p = nI (O p))
    (K : J (nI (p + 1)) a_ops a_targets a_firsts a_seconds (upd a_next p (nI g)) (upd a_other p (if O p = 6 ∧ g ≠ on then nI on else -1)) a_reached a_edgeFrom a_edgeTo a_edgeAdds a_edgeTakes a_starts a_bits a_kept a_queue a_queued a_wayThere a_wayAdds a_wayTakes a_number a_walkNode a_parent a_least a_linked a_above a_bucketFirst a_bucketNext a_pathNode) : wX_findNext_77 post J (nI p) (nI on) (nI g) f_count f_edges f_queueFirst f_queueSize f_backwards f_walked a_ops a_targets a_firsts a_seconds a_next a_other a_reached a_edgeFrom a_edgeTo a_edgeAdds a_edgeTakes a_starts a_bits a_kept a_queue a_queued a_wayThere a_wayAdds a_wayTakes a_number a_walkNode a_parent a_least a_linked a_above a_bucketFirst a_bucketNext a_pathNode := by
  refine ⟨vp_in_nI (by omega) (by omega), nm_r (e' := upd a_next p (nI g)) (by rw [nI_clamp (by omega), fi_nb (by omega)]) ⟨vp_in_nI (by omega) (by omega), ?_⟩⟩
  rw [nI_clamp (by omega), hop]
  refine pk_eq (O p) 6 (fun e => pk_eq g on (fun e2 => ?_) (fun e2 => ?_)) (fun e => ?_)
  · rw [if_neg (fun z => z.2 e2)] at K
    exact ⟨vp_in_nI (by omega) (by omega), nm_r (e' := upd a_other p (-1)) (by rw [fi_nbm']) (nm_r (nI_1 p) K)⟩
  · rw [if_pos ⟨e, e2⟩] at K
    exact ⟨vp_in_nI (by omega) (by omega), nm_r (e' := upd a_other p (nI on)) (by rw [fi_nb (by omega)]) (nm_r (nI_1 p) K)⟩
  · rw [if_neg (fun z => e z.1)] at K
    exact ⟨vp_in_nI (by omega) (by omega), nm_r (e' := upd a_other p (-1)) (by rw [fi_nbm']) (nm_r (nI_1 p) K)⟩
theorem fx_next134 {post : SX → Prop} {W : Nat} {wn : Nat → Nat} (hW : W ≤ 21) (hw : ∀ i, i < W → wn i < 21 ∧ a_walkNode i = nI (wn i))
    (h : ∀ re, (∀ x, x < 21 → (re x = 0 ↔ ¬ ∃ j, j < W ∧ wn j = x)) → post (f_count, f_edges, f_queueFirst, f_queueSize, f_backwards, nI W, a_ops, a_targets, a_firsts, a_seconds, a_next, a_other, re, a_edgeFrom, a_edgeTo, a_edgeAdds, a_edgeTakes, a_starts, a_bits, a_kept, a_queue, a_queued, a_wayThere, a_wayAdds, a_wayTakes, a_number, a_walkNode, a_parent, a_least, a_linked, a_above, a_bucketFirst, a_bucketNext, a_pathNode)) : ∀ d i re, i + d = W → (∀ x, x < 21 → (re x = 0 ↔ ¬ ∃ j, j < i ∧ wn j = x)) → wX_findNext_134 post f_count f_edges f_queueFirst f_queueSize f_backwards (nI W) (d + 1) (nI i) a_ops a_targets a_firsts a_seconds a_next a_other re a_edgeFrom a_edgeTo a_edgeAdds a_edgeTakes a_starts a_bits a_kept a_queue a_queued a_wayThere a_wayAdds a_wayTakes a_number a_walkNode a_parent a_least a_linked a_above a_bucketFirst a_bucketNext a_pathNode := by
  intro d
  induction d with
  | zero =>
    intro i re hi hr
    have : i = W := by omega
    subst this
    exact pk_le i i (fun _ => h re hr) (fun k => by omega)
  | succ d ih =>
    intro i re hi hr
    obtain ⟨w1, w2⟩ := hw i (by omega)
    refine pk_le W i (fun k => by omega) (fun _ => ⟨vp_in_nI (by omega) (by omega), ?_⟩)
    rw [nI_clamp (by omega), w2, nI_clamp (by omega)]
    refine ⟨vp_in_nI w1 (by omega), nm_e (nm_r (nI_1 i) (ih (i + 1) _ (by omega) (fun x hx => ?_)))⟩
    by_cases e : x = wn i
    · subst e
      rw [pk_us]
      exact ⟨fun z => absurd z (by decide), fun z => absurd ⟨i, by omega, rfl⟩ z⟩
    · rw [pk_un e, hr x hx]
      refine not_congr ⟨fun ⟨j, j1, j2⟩ => ⟨j, by omega, j2⟩, fun ⟨j, j1, j2⟩ => ⟨j, ?_, j2⟩⟩
      by_cases e2 : j = i
      · subst e2; exact absurd j2.symm e
      · omega
theorem fx_findNext {post : SX → Prop} (hC : fi_C n O V A B a_ops a_targets a_firsts a_seconds)
    (h : ∀ nx ot re W wn par nu wk pa pn, fi_nti n O B n nx ot → (∀ p, p < 21 → (re p = 0 ↔ ¬ fi_RE n O B p)) → fi_dn (fi_E n O B) (fi_nd n 0) W wn par → fi_dx W wn par nu wk pa → post (nI n, f_edges, f_queueFirst, f_queueSize, 0, nI W, a_ops, a_targets, a_firsts, a_seconds, nx, ot, re, a_edgeFrom, a_edgeTo, a_edgeAdds, a_edgeTakes, a_starts, a_bits, a_kept, a_queue, a_queued, a_wayThere, a_wayAdds, a_wayTakes, nu, wk, pa, a_least, a_linked, a_above, a_bucketFirst, a_bucketNext, pn)) :
    wpX_findNext post (nI n, f_edges, f_queueFirst, f_queueSize, f_backwards, f_walked, a_ops, a_targets, a_firsts, a_seconds, a_next, a_other, a_reached, a_edgeFrom, a_edgeTo, a_edgeAdds, a_edgeTakes, a_starts, a_bits, a_kept, a_queue, a_queued, a_wayThere, a_wayAdds, a_wayTakes, a_number, a_walkNode, a_parent, a_least, a_linked, a_above, a_bucketFirst, a_bucketNext, a_pathNode) := by
  have hn := hC.1
  have k37 : ∀ d i nx ot re, i + d = n → fi_nti n O B i nx ot → (∀ p, p < 21 → re p = 0) → wX_findNext_37 post (nI n) f_edges f_queueFirst f_queueSize f_backwards f_walked (d + 1) (nI i) a_ops a_targets a_firsts a_seconds nx ot re a_edgeFrom a_edgeTo a_edgeAdds a_edgeTakes a_starts a_bits a_kept a_queue a_queued a_wayThere a_wayAdds a_wayTakes a_number a_walkNode a_parent a_least a_linked a_above a_bucketFirst a_bucketNext a_pathNode := by
    intro d
    induction d with
    | zero =>
      intro i nx ot re hi H hr
      have : i = n := by omega
      subst this
      refine pk_le i i (fun _ => fx_nodeAt (t := 0) hn (by omega) ?_) (fun k => by omega)
      have hx := fi_nt_nx hn H
      refine fx_walk (L := fi_E i O B) (Or.inl rfl) (fi_nd_lt hn) (Or.inl ⟨rfl, hx⟩) (fun W wn par nu wk pa pn N X => ?_)
      refine ⟨_, fx_next134 (W := W) (wn := wn) N.1.2.1 (fun j hj => ⟨N.2.1 j hj, (X.1 j hj).2⟩) (fun re2 hr2 => ?_) W 0 re (by omega) (fun x hx2 => ?_)⟩
      · refine h nx ot re2 W wn par nu wk pa pn H (fun p hp => ?_) N X
        rw [hr2 p hp]
        exact not_congr (fi_dn_rc N (fun a b e => (fi_E_lt hn e).2) p).symm
      · exact ⟨fun _ => fun ⟨j, hj, _⟩ => by omega, fun _ => hr x hx2⟩
    | succ d ih =>
      intro i nx ot re hi H hr
      have ci := hC.2 i (by omega)
      have g1 := fi_gl_lt (O := O) (B := B) (p := i) hn
      have g2 := fi_nd_lt (t := i + 1) hn
      have K : ∀ g, g = fi_gl n O B i → wX_findNext_37 post (nI n) f_edges f_queueFirst f_queueSize f_backwards f_walked (d + 1) (nI (i + 1)) a_ops a_targets a_firsts a_seconds (upd nx i (nI g)) (upd ot i (if O i = 6 ∧ g ≠ fi_nd n (i + 1) then nI (fi_nd n (i + 1)) else -1)) re a_edgeFrom a_edgeTo a_edgeAdds a_edgeTakes a_starts a_bits a_kept a_queue a_queued a_wayThere a_wayAdds a_wayTakes a_number a_walkNode a_parent a_least a_linked a_above a_bucketFirst a_bucketNext a_pathNode := by
        intro g eg
        subst eg
        refine ih (i + 1) _ _ re (by omega) (fun p hp => ⟨fun c => ?_, fun c => ?_⟩) hr
        · by_cases e : p = i
          · subst e; exact ⟨pk_us, pk_us⟩
          · rw [pk_un e, pk_un e]; exact (H p hp).1 (by omega)
        · rw [pk_un (by omega), pk_un (by omega)]; exact (H p hp).2 (by omega)
      refine pk_le n i (fun k => by omega) (fun _ => ?_)
      rw [nI_1]
      refine fx_nodeAt hn (by omega) ⟨vp_in_nI (by omega) (by omega), ?_⟩
      rw [nI_clamp (by omega), ci.1]
      refine pk_lt (O i) 5 (fun c => ?_) (fun c => ?_)
      · refine fx_next77 (by omega) g2 g2 ci.2.1 ci.1 (K _ ?_)
        unfold fi_gl; rw [if_neg (by omega)]
      · refine ⟨vp_in_nI (by omega) (by omega), ?_⟩
        have b := ci.2.2.2.2.2 c
        rw [b.1]
        refine fx_nodeAt hn (by omega) (fx_next77 (by omega) g2 (fi_nd_lt hn) ci.2.1 ci.1 (K _ ?_))
        unfold fi_gl; rw [if_pos c]
  have k2 : ∀ d i nx ot re, i + d = 21 → (∀ p, p < i → nx p = -1 ∧ ot p = -1 ∧ re p = 0) → wX_findNext_2 post (nI n) f_edges f_queueFirst f_queueSize f_backwards f_walked (d + 1) (nI i) a_ops a_targets a_firsts a_seconds nx ot re a_edgeFrom a_edgeTo a_edgeAdds a_edgeTakes a_starts a_bits a_kept a_queue a_queued a_wayThere a_wayAdds a_wayTakes a_number a_walkNode a_parent a_least a_linked a_above a_bucketFirst a_bucketNext a_pathNode := by
    intro d
    induction d with
    | zero =>
      intro i nx ot re hi H
      exact pk_le 21 i (fun _ => ⟨_, k37 n 0 nx ot re (by omega) (fun p hp => ⟨fun c => by omega, fun _ => ⟨(H p (by omega)).1, (H p (by omega)).2.1⟩⟩) (fun p hp => (H p (by omega)).2.2)⟩) (fun k => by omega)
    | succ d ih =>
      intro i nx ot re hi H
      refine pk_le 21 i (fun k => by omega) (fun _ => ⟨vp_in_nI (by omega) (by omega), nm_r (e' := upd nx i (-1)) (by rw [nI_clamp (by omega), fi_nbm]) ⟨vp_in_nI (by omega) (by omega), nm_r (e' := upd ot i (-1)) (by rw [nI_clamp (by omega), fi_nbm]) ⟨vp_in_nI (by omega) (by omega), nm_r (e' := upd re i 0) (by rw [nI_clamp (by omega), fi_nz0]) (nm_r (nI_1 i) (ih (i + 1) _ _ _ (by omega) (fun p hp => ?_)))⟩⟩⟩)
      by_cases e : p = i
      · subst e; exact ⟨pk_us, pk_us, pk_us⟩
      · rw [pk_un e, pk_un e, pk_un e]; exact H p (by omega)
  exact ⟨_, k2 21 0 a_next a_other a_reached (by omega) (fun p hp => by omega)⟩
theorem fx_reachable {post : Int32 → SX → Prop} (hC : fi_C n O V A B a_ops a_targets a_firsts a_seconds)
    (h : ∀ r, fi_is r (fun p => p < n ∧ fi_RE n O B p) → ∀ nx ot re wd nu wk pa pn, post r (nI n, f_edges, f_queueFirst, f_queueSize, 0, wd, a_ops, a_targets, a_firsts, a_seconds, nx, ot, re, a_edgeFrom, a_edgeTo, a_edgeAdds, a_edgeTakes, a_starts, a_bits, a_kept, a_queue, a_queued, a_wayThere, a_wayAdds, a_wayTakes, nu, wk, pa, a_least, a_linked, a_above, a_bucketFirst, a_bucketNext, pn)) : wpX_reachable post (nI n, f_edges, f_queueFirst, f_queueSize, f_backwards, f_walked, a_ops, a_targets, a_firsts, a_seconds, a_next, a_other, a_reached, a_edgeFrom, a_edgeTo, a_edgeAdds, a_edgeTakes, a_starts, a_bits, a_kept, a_queue, a_queued, a_wayThere, a_wayAdds, a_wayTakes, a_number, a_walkNode, a_parent, a_least, a_linked, a_above, a_bucketFirst, a_bucketNext, a_pathNode) := by
  have hn := hC.1
  unfold wpX_reachable
  refine fx_findNext hC (fun nx ot re W wn par nu wk pa pn H hr N X => ?_)
  refine fi_lp (n := n) (fun i e => e < i ∧ fi_RE n O B e) ?_ ?_ ?_
  · exact fi_is_c fi_is_0 (fun i _ => ⟨fun z => z.elim, fun z => by omega⟩)
  · intro m r hr2
    exact pk_le n n (fun _ => h r hr2 _ _ _ _ _ _ _ _) (fun k => by omega)
  · intro m i r hi hr2 K
    refine pk_le n i (fun k => by omega) (fun _ => ⟨vp_in_nI (by omega) (by omega), ?_⟩)
    rw [nI_clamp (by omega)]
    have q := hr i (by omega)
    refine br_c (fun c => nm_e (nm_r (nI_1 i) (K _ (fi_or0 (fi_is_c hr2 (fun e _ => ⟨fun z => ⟨by omega, z.2⟩, fun z => ⟨?_, z.2⟩⟩)))))) (fun c => nm_e (nm_r (nI_1 i) (K _ (fi_is_c (fi_is_or hr2 (fi_is_1 (by omega))) (fun e _ => ⟨?_, fun z => ?_⟩)))))
    · by_cases e2 : e = i
      · subst e2; exact absurd z.2 (q.mp c)
      · omega
    · rintro (z | z)
      · exact ⟨by omega, z.2⟩
      · subst z; exact ⟨by omega, Classical.byContradiction (fun k => c (q.mpr k))⟩
    · by_cases e2 : e = i
      · exact Or.inr e2
      · exact Or.inl ⟨by omega, z.2⟩
end
end
section
/-- the least bits that hold the starts and go along the edges -/
def fi_lf (m : Nat) (ef et : Nat → Nat) (ad tk st : Nat → Int32) (x e : Nat) : Prop :=
  ∀ S : Nat → Prop, (∀ y, y < 21 → bt (st y) e = true → S y) → (∀ k, k < m → bt (ad k) e = true → S (et k)) → (∀ k, k < m → S (ef k) → bt (tk k) e = false → S (et k)) → S x
def fi_pb (m : Nat) (ef et : Nat → Nat) (xf xt ad st : Nat → Int32) : Prop :=
  m ≤ 40 ∧ (∀ k, k < m → xf k = nI (ef k) ∧ ef k < 21 ∧ xt k = nI (et k) ∧ et k < 21) ∧ (∀ k e, k < m → 20 ≤ e → e < 32 → bt (ad k) e = false) ∧ (∀ x e, x < 21 → 20 ≤ e → e < 32 → bt (st x) e = false)
def fi_so (m : Nat) (ef et : Nat → Nat) (ad tk st b : Nat → Int32) : Prop := ∀ x e, x < 21 → e < 32 → bt (b x) e = true → fi_lf m ef et ad tk st x e
def fi_ba (st b : Nat → Int32) : Prop := ∀ x e, x < 21 → e < 32 → bt (st x) e = true → bt (b x) e = true
def fi_ck (ef et : Nat → Nat) (ad tk b : Nat → Int32) (k : Nat) : Prop := ∀ e, e < 32 → (bt (ad k) e = true → bt (b (et k)) e = true) ∧ (bt (b (ef k)) e = true → bt (tk k) e = false → bt (b (et k)) e = true)
noncomputable def fi_ct (b : Nat → Int32) : Nat := fi_cn (fun j => bt (b (j / 20)) (j % 20) = true) 420
theorem fi_ct_le (b : Nat → Int32) : fi_ct b ≤ 420 := fi_cn_le 420
section
variable {m : Nat} {ef et : Nat → Nat} {xf xt ad tk st b : Nat → Int32} {k : Nat} {w : Int32}
theorem fi_lf_st {x e : Nat} (hx : x < 21) (h : bt (st x) e = true) : fi_lf m ef et ad tk st x e := fun S h1 _ _ => h1 x hx h
theorem fi_lf_ad {e : Nat} (hk : k < m) (h : bt (ad k) e = true) : fi_lf m ef et ad tk st (et k) e := fun S _ h2 _ => h2 k hk h
theorem fi_lf_tk {e : Nat} (hk : k < m) (h : fi_lf m ef et ad tk st (ef k) e) (ht : bt (tk k) e = false) : fi_lf m ef et ad tk st (et k) e := fun S h1 h2 h3 => h3 k hk (h S h1 h2 h3) ht
theorem fi_lf_lo (P : fi_pb m ef et xf xt ad st) {x e : Nat} (h1 : 20 ≤ e) (h2 : e < 32) : ¬ fi_lf m ef et ad tk st x e := by
  intro h
  refine h (fun _ => False) (fun y hy z => ?_) (fun k hk z => ?_) (fun k hk z => z.elim)
  · rw [P.2.2.2 y e hy h1 h2] at z; exact absurd z (by decide)
  · rw [P.2.2.1 k e hk h1 h2] at z; exact absurd z (by decide)
theorem fi_so_st (h : ∀ x, x < 21 → b x = st x) : fi_so m ef et ad tk st b := fun x e hx he z => fi_lf_st hx (by rw [← h x hx]; exact z)
theorem fi_ba_st (h : ∀ x, x < 21 → b x = st x) : fi_ba st b := fun x e hx he z => by rw [h x hx]; exact z
theorem fi_ps_b {e : Nat} (hw : w = ad k ||| (b (ef k) &&& (tk k ^^^ (-1)))) (he : e < 32) : bt w e = true ↔ (bt (ad k) e = true ∨ (bt (b (ef k)) e = true ∧ bt (tk k) e = false)) := by
  rw [hw, b_or, b_and, fi_not _ he]; simp
theorem fi_ps_eq {t : Nat} (h : (w &&& (b t ^^^ (-1))) = 0) : upd b t (b t ||| w) = b := by
  funext j
  by_cases e : j = t
  · subst e
    rw [pk_us]
    refine b_ext (fun i hi => ?_)
    have := fi_zero.mp h i hi
    rw [b_and, fi_not _ hi] at this
    rw [b_or]
    cases h1 : bt (b j) i <;> cases h2 : bt w i <;> simp_all
  · rw [pk_un e]
theorem fi_ps_bt {t x e : Nat} : bt (upd b t (b t ||| w) x) e = true ↔ (bt (b x) e = true ∨ (x = t ∧ bt w e = true)) := by
  by_cases c : x = t
  · subst c; rw [pk_us, b_or]; simp
  · rw [pk_un c]; simp [c]
theorem fi_ps_so (hk : k < m) (hf : ef k < 21) (hw : w = ad k ||| (b (ef k) &&& (tk k ^^^ (-1)))) (h : fi_so m ef et ad tk st b) : fi_so m ef et ad tk st (upd b (et k) (b (et k) ||| w)) := by
  intro x e hx he z
  rcases fi_ps_bt.mp z with z | ⟨c, y⟩
  · exact h x e hx he z
  · subst c
    rcases (fi_ps_b hw he).mp y with y | y
    · exact fi_lf_ad hk y
    · exact fi_lf_tk hk (h _ e hf he y.1) y.2
theorem fi_ps_ba {t : Nat} (h : fi_ba st b) : fi_ba st (upd b t (b t ||| w)) := fun x e hx he z => fi_ps_bt.mpr (Or.inl (h x e hx he z))
theorem fi_ps_ck (hw : w = ad k ||| (b (ef k) &&& (tk k ^^^ (-1)))) : fi_ck ef et ad tk (upd b (et k) (b (et k) ||| w)) k := by
  intro e he
  refine ⟨fun z => fi_ps_bt.mpr (Or.inr ⟨rfl, (fi_ps_b hw he).mpr (Or.inl z)⟩), fun z1 z2 => ?_⟩
  rcases fi_ps_bt.mp z1 with z | ⟨c, z⟩
  · exact fi_ps_bt.mpr (Or.inr ⟨rfl, (fi_ps_b hw he).mpr (Or.inr ⟨z, z2⟩)⟩)
  · exact fi_ps_bt.mpr (Or.inr ⟨rfl, z⟩)
theorem fi_ps_ck2 {t j : Nat} (h : fi_ck ef et ad tk b j) (c : ef j ≠ t) : fi_ck ef et ad tk (upd b t (b t ||| w)) j := by
  intro e he
  refine ⟨fun z => fi_ps_bt.mpr (Or.inl ((h e he).1 z)), fun z1 z2 => ?_⟩
  rcases fi_ps_bt.mp z1 with z | ⟨c2, z⟩
  · exact fi_ps_bt.mpr (Or.inl ((h e he).2 z z2))
  · exact absurd c2 c
theorem fi_ps_ct (P : fi_pb m ef et xf xt ad st) {t : Nat} (ht : t < 21) (h : ¬ (w &&& (b t ^^^ (-1))) = 0) (so : fi_so m ef et ad tk st (upd b t (b t ||| w))) : fi_ct b + 1 ≤ fi_ct (upd b t (b t ||| w)) := by
  obtain ⟨e, he, q⟩ := fi_nzero.mp h
  rw [b_and, fi_not _ he] at q
  simp at q
  have hb : bt (upd b t (b t ||| w) t) e = true := fi_ps_bt.mpr (Or.inr ⟨rfl, q.1⟩)
  have e20 : e < 20 := Nat.lt_of_not_le (fun c => fi_lf_lo P c he (so t e ht he hb))
  have d1 : (t * 20 + e) / 20 = t := by omega
  have d2 : (t * 20 + e) % 20 = e := by omega
  refine fi_cn_lt 420 (fun i hi z => fi_ps_bt.mpr (Or.inl z)) (t * 20 + e) (by omega) ?_ ?_
  · rw [d1, d2]; exact hb
  · rw [d1, d2]; simp [q.2]
theorem fi_ct_up {t : Nat} : fi_ct b ≤ fi_ct (upd b t (b t ||| w)) := fi_cn_mono 420 (fun i hi z => fi_ps_bt.mpr (Or.inl z))
theorem fi_fin (P : fi_pb m ef et xf xt ad st) (so : fi_so m ef et ad tk st b) (ba : fi_ba st b) (ck : ∀ k, k < m → fi_ck ef et ad tk b k) : ∀ x, x < 21 → fi_is (b x) (fi_lf m ef et ad tk st x) := by
  intro x hx e he
  refine ⟨fun z => so x e hx he z, fun z => ?_⟩
  have : x < 21 → bt (b x) e = true := z (fun y => y < 21 → bt (b y) e = true) (fun y _ c hy => ba y e hy he c) (fun k hk c _ => (ck k hk e he).1 c) (fun k hk c t _ => (ck k hk e he).2 (c (P.2.1 k hk).2.1) t)
  exact this hx
end
section
variable {f_count f_edges f_queueFirst f_queueSize f_backwards f_walked : Int32} {a_ops a_targets a_firsts a_seconds a_next a_other a_reached a_edgeFrom a_edgeTo a_edgeAdds a_edgeTakes a_starts a_bits a_kept a_queue a_queued a_wayThere a_wayAdds a_wayTakes a_number a_walkNode a_parent a_least a_linked a_above a_bucketFirst a_bucketNext a_pathNode : Nat → Int32}
variable {m : Nat} {ef et : Nat → Nat}
theorem fx_pass {post : Int32 → SX → Prop} {k : Nat} (P : fi_pb m ef et a_edgeFrom a_edgeTo a_edgeAdds a_starts) (hk : k < m)
    (h : ∀ w, w = a_edgeAdds k ||| (a_bits (ef k) &&& (a_edgeTakes k ^^^ (-1))) → ((w &&& (a_bits (et k) ^^^ (-1))) = 0 → post 0 (f_count, f_edges, f_queueFirst, f_queueSize, f_backwards, f_walked, a_ops, a_targets, a_firsts, a_seconds, a_next, a_other, a_reached, a_edgeFrom, a_edgeTo, a_edgeAdds, a_edgeTakes, a_starts, upd a_bits (et k) (a_bits (et k) ||| w), a_kept, a_queue, a_queued, a_wayThere, a_wayAdds, a_wayTakes, a_number, a_walkNode, a_parent, a_least, a_linked, a_above, a_bucketFirst, a_bucketNext, a_pathNode)) ∧ (¬ (w &&& (a_bits (et k) ^^^ (-1))) = 0 → post 1 (f_count, f_edges, f_queueFirst, f_queueSize, f_backwards, f_walked, a_ops, a_targets, a_firsts, a_seconds, a_next, a_other, a_reached, a_edgeFrom, a_edgeTo, a_edgeAdds, a_edgeTakes, a_starts, upd a_bits (et k) (a_bits (et k) ||| w), a_kept, a_queue, a_queued, a_wayThere, a_wayAdds, a_wayTakes, a_number, a_walkNode, a_parent, a_least, a_linked, a_above, a_bucketFirst, a_bucketNext, a_pathNode))) : wpX_pass post (f_count, f_edges, f_queueFirst, f_queueSize, f_backwards, f_walked, a_ops, a_targets, a_firsts, a_seconds, a_next, a_other, a_reached, a_edgeFrom, a_edgeTo, a_edgeAdds, a_edgeTakes, a_starts, a_bits, a_kept, a_queue, a_queued, a_wayThere, a_wayAdds, a_wayTakes, a_number, a_walkNode, a_parent, a_least, a_linked, a_above, a_bucketFirst, a_bucketNext, a_pathNode) (nI k) := by
  obtain ⟨hm, p1, _⟩ := P
  obtain ⟨q1, q2, q3, q4⟩ := p1 k hk
  have ik : vp_in (nI k) 40 := vp_in_nI (by omega) (by omega)
  refine ⟨ik, ik, ?_⟩
  rw [nI_clamp (by omega), q1, q3, nI_clamp (by omega)]
  refine ⟨vp_in_nI q2 (by omega), ik, ?_⟩
  intro w hw
  obtain ⟨h0, h1⟩ := h w hw
  refine ⟨ik, nm_e ⟨vp_in_nI q4 (by omega), ?_⟩⟩
  rw [nI_clamp (by omega)]
  refine br_c (fun c => ?_) (fun c => ?_)
  · refine ⟨vp_in_nI q4 (by omega), vp_in_nI q4 (by omega), ?_⟩
    rw [nI_clamp (by omega)]
    exact nm_e ⟨narrow_b0, h0 c⟩
  · refine ⟨vp_in_nI q4 (by omega), vp_in_nI q4 (by omega), ?_⟩
    rw [nI_clamp (by omega)]
    exact nm_e ⟨narrow_b1, h1 c⟩
theorem fx_startBits {post : SX → Prop} (h : ∀ b, (∀ x, x < 21 → b x = a_starts x) → post (f_count, f_edges, f_queueFirst, f_queueSize, f_backwards, f_walked, a_ops, a_targets, a_firsts, a_seconds, a_next, a_other, a_reached, a_edgeFrom, a_edgeTo, a_edgeAdds, a_edgeTakes, a_starts, b, a_kept, a_queue, a_queued, a_wayThere, a_wayAdds, a_wayTakes, a_number, a_walkNode, a_parent, a_least, a_linked, a_above, a_bucketFirst, a_bucketNext, a_pathNode)) : wpX_startBits post (f_count, f_edges, f_queueFirst, f_queueSize, f_backwards, f_walked, a_ops, a_targets, a_firsts, a_seconds, a_next, a_other, a_reached, a_edgeFrom, a_edgeTo, a_edgeAdds, a_edgeTakes, a_starts, a_bits, a_kept, a_queue, a_queued, a_wayThere, a_wayAdds, a_wayTakes, a_number, a_walkNode, a_parent, a_least, a_linked, a_above, a_bucketFirst, a_bucketNext, a_pathNode) := by
  have key : ∀ d i b, i + d = 21 → (∀ x, x < i → b x = a_starts x) → wX_startBits_2 post f_count f_edges f_queueFirst f_queueSize f_backwards f_walked (d + 1) (nI i) a_ops a_targets a_firsts a_seconds a_next a_other a_reached a_edgeFrom a_edgeTo a_edgeAdds a_edgeTakes a_starts b a_kept a_queue a_queued a_wayThere a_wayAdds a_wayTakes a_number a_walkNode a_parent a_least a_linked a_above a_bucketFirst a_bucketNext a_pathNode := by
    intro d
    induction d with
    | zero => intro i b hi H; exact pk_le 21 i (fun _ => h b (fun x hx => H x (by omega))) (fun k => by omega)
    | succ d ih =>
      intro i b hi H
      refine pk_le 21 i (fun k => by omega) (fun _ => ⟨vp_in_nI (by omega) (by omega), vp_in_nI (by omega) (by omega), ?_⟩)
      rw [nI_clamp (by omega)]
      refine nm_e (nm_r (nI_1 i) (ih (i + 1) _ (by omega) (fun x hx => ?_)))
      by_cases e : x = i
      · subst e; exact pk_us
      · rw [pk_un e]; exact H x (by omega)
  exact ⟨_, key 21 0 a_bits (by omega) (fun x hx => by omega)⟩
/-- engine 0 -/
theorem fx_rounds {post : SX → Prop} (P : fi_pb m ef et a_edgeFrom a_edgeTo a_edgeAdds a_starts)
    (h : ∀ b, (∀ x, x < 21 → fi_is (b x) (fi_lf m ef et a_edgeAdds a_edgeTakes a_starts x)) → post (f_count, nI m, f_queueFirst, f_queueSize, f_backwards, f_walked, a_ops, a_targets, a_firsts, a_seconds, a_next, a_other, a_reached, a_edgeFrom, a_edgeTo, a_edgeAdds, a_edgeTakes, a_starts, b, a_kept, a_queue, a_queued, a_wayThere, a_wayAdds, a_wayTakes, a_number, a_walkNode, a_parent, a_least, a_linked, a_above, a_bucketFirst, a_bucketNext, a_pathNode)) : wpX_solveInRounds post (f_count, nI m, f_queueFirst, f_queueSize, f_backwards, f_walked, a_ops, a_targets, a_firsts, a_seconds, a_next, a_other, a_reached, a_edgeFrom, a_edgeTo, a_edgeAdds, a_edgeTakes, a_starts, a_bits, a_kept, a_queue, a_queued, a_wayThere, a_wayAdds, a_wayTakes, a_number, a_walkNode, a_parent, a_least, a_linked, a_above, a_bucketFirst, a_bucketNext, a_pathNode) := by
  have hm := P.1
  have k8 : ∀ d i r b, i + d = 441 → fi_so m ef et a_edgeAdds a_edgeTakes a_starts b → fi_ba a_starts b → (¬ r = 0 → i ≤ fi_ct b) → (r = 0 → ∀ k, k < m → fi_ck ef et a_edgeAdds a_edgeTakes b k) →
      wX_solveInRounds_8 post (d + 1) r (nI i) f_count (nI m) f_queueFirst f_queueSize f_backwards f_walked a_ops a_targets a_firsts a_seconds a_next a_other a_reached a_edgeFrom a_edgeTo a_edgeAdds a_edgeTakes a_starts b a_kept a_queue a_queued a_wayThere a_wayAdds a_wayTakes a_number a_walkNode a_parent a_least a_linked a_above a_bucketFirst a_bucketNext a_pathNode := by
    intro d
    induction d with
    | zero =>
      intro i r b hi so ba h1 h2
      have hr : r = 0 := Classical.byContradiction (fun c => by
        have := h1 c
        have := fi_ct_le b
        omega)
      exact pk_le 441 i (fun _ => h b (fi_fin P so ba (h2 hr))) (fun k => by omega)
    | succ d ih =>
      intro i r b hi so ba h1 h2
      refine pk_le 441 i (fun k => by omega) (fun _ => br_c (fun c => h b (fi_fin P so ba (h2 c))) (fun c => ?_))
      have k23 : ∀ d2 k r2 b2, k + d2 = m → fi_so m ef et a_edgeAdds a_edgeTakes a_starts b2 → fi_ba a_starts b2 → (r2 = 0 ∨ r2 = 1) → (r2 = 0 → b2 = b ∧ ∀ j, j < k → fi_ck ef et a_edgeAdds a_edgeTakes b2 j) → (¬ r2 = 0 → fi_ct b + 1 ≤ fi_ct b2) →
          wX_solveInRounds_23 post (wX_solveInRounds_8 post (d + 1)) (nI i) (d2 + 1) r2 (nI k) f_count (nI m) f_queueFirst f_queueSize f_backwards f_walked a_ops a_targets a_firsts a_seconds a_next a_other a_reached a_edgeFrom a_edgeTo a_edgeAdds a_edgeTakes a_starts b2 a_kept a_queue a_queued a_wayThere a_wayAdds a_wayTakes a_number a_walkNode a_parent a_least a_linked a_above a_bucketFirst a_bucketNext a_pathNode := by
        intro d2
        induction d2 with
        | zero =>
          intro k r2 b2 hk so2 ba2 r01 e1 e2
          have : k = m := by omega
          subst this
          refine pk_le k k (fun _ => nm_r (nI_1 i) (ih (i + 1) r2 b2 (by omega) so2 ba2 (fun z => ?_) (fun z => (e1 z).2))) (fun k => by omega)
          have := e2 z
          have := h1 c
          omega
        | succ d2 ih2 =>
          intro k r2 b2 hk so2 ba2 r01 e1 e2
          refine pk_le m k (fun k => by omega) (fun _ => fx_pass P (by omega) (fun w hw => ⟨fun z => ?_, fun z => ?_⟩))
          · have eb := fi_ps_eq z
            have ck := fi_ps_ck (et := et) hw
            rw [eb] at ck ⊢
            refine nm_r (e' := r2) (by rcases r01 with e | e <;> rw [e] <;> rfl) (nm_r (nI_1 k) (ih2 (k + 1) r2 b2 (by omega) so2 ba2 r01 (fun z2 => ⟨(e1 z2).1, fun j hj => ?_⟩) e2))
            by_cases e : j = k
            · subst e; exact ck
            · exact (e1 z2).2 j (by omega)
          · have so3 := fi_ps_so (show k < m by omega) (P.2.1 k (by omega)).2.1 hw so2
            have ct := fi_ps_ct P (P.2.1 k (by omega)).2.2.2 z so3
            refine nm_r (e' := 1) (by rcases r01 with e | e <;> rw [e] <;> rfl) (nm_r (nI_1 k) (ih2 (k + 1) 1 _ (by omega) so3 (fi_ps_ba ba2) (Or.inr rfl) (fun z2 => absurd z2 (by decide)) (fun _ => ?_)))
            by_cases c2 : r2 = 0
            · rw [← (e1 c2).1]; exact ct
            · have := e2 c2
              omega
      exact ⟨_, k23 m 0 0 b (by omega) so ba (Or.inl rfl) (fun _ => ⟨rfl, fun j hj => by omega⟩) (fun z => absurd rfl z)⟩
  unfold wpX_solveInRounds
  refine fx_startBits (fun b hb => ⟨_, k8 441 0 1 b (by omega) (fi_so_st hb) (fi_ba_st hb) (fun _ => by omega) (fun z => absurd z (by decide))⟩)
end
end
section
/-- the ring holds the nodes lq 0 .. lq (qs - 1), each once, and queued says which -/
def fi_q (qf qs : Nat) (lq : Nat → Nat) (qu qd : Nat → Int32) : Prop :=
  qf < 32 ∧ (∀ i, i < qs → lq i < 21 ∧ qu ((qf + i) % 32) = nI (lq i)) ∧ (∀ i j, i < j → j < qs → lq i ≠ lq j) ∧ (∀ x, x < 21 → (qd x = 0 ↔ ¬ ∃ i, i < qs ∧ lq i = x))
def fi_iq (qs : Nat) (lq : Nat → Nat) (x : Nat) : Prop := ∃ i, i < qs ∧ lq i = x
theorem fi_q_le {qf qs : Nat} {lq : Nat → Nat} {qu qd : Nat → Int32} (h : fi_q qf qs lq qu qd) : qs ≤ 21 := fi_pig qs (fun i hi => (h.2.1 i hi).1) h.2.2.1
theorem fi_q_in {qf qs : Nat} {lq : Nat → Nat} {qu qd : Nat → Int32} (h : fi_q qf qs lq qu qd) {x : Nat} (hx : x < 21) (hd : qd x = 0) :
    fi_q qf (qs + 1) (fun i => if i = qs then x else lq i) (upd qu ((qf + qs) % 32) (nI x)) (upd qd x 1) := by
  have hq := fi_q_le h
  obtain ⟨h1, h2, h3, h4⟩ := h
  have nx := (h4 x hx).mp hd
  have hq2 : qs < 32 := by omega
  refine ⟨h1, fun i hi => ?_, fun i j hij hj => ?_, fun y hy => ?_⟩
  · by_cases e : i = qs
    · subst e
      simp only [if_true]
      exact ⟨hx, pk_us⟩
    · simp only [if_neg e]
      rw [pk_un (by omega)]
      exact h2 i (by omega)
  · show (if i = qs then x else lq i) ≠ (if j = qs then x else lq j)
    rw [if_neg (by omega)]
    by_cases e : j = qs
    · rw [if_pos e]; exact fun z => nx ⟨i, by omega, z⟩
    · rw [if_neg e]; exact h3 i j hij (by omega)
  · by_cases e : y = x
    · subst e
      rw [pk_us]
      exact ⟨fun z => absurd z (by decide), fun z => absurd ⟨qs, by omega, if_pos rfl⟩ z⟩
    · rw [pk_un e, h4 y hy]
      refine not_congr ⟨fun ⟨i, i1, i2⟩ => ⟨i, by omega, by dsimp only; rw [if_neg (by omega)]; exact i2⟩, fun ⟨i, i1, i2⟩ => ?_⟩
      dsimp only at i2
      by_cases e2 : i = qs
      · rw [if_pos e2] at i2; exact absurd i2.symm e
      · rw [if_neg e2] at i2; exact ⟨i, by omega, i2⟩
theorem fi_q_out {qf qs : Nat} {lq : Nat → Nat} {qu qd : Nat → Int32} (h : fi_q qf (qs + 1) lq qu qd) : fi_q ((qf + 1) % 32) qs (fun i => lq (i + 1)) qu (upd qd (lq 0) 0) := by
  obtain ⟨h1, h2, h3, h4⟩ := h
  refine ⟨by omega, fun i hi => ?_, fun i j hij hj => h3 (i + 1) (j + 1) (by omega) (by omega), fun y hy => ?_⟩
  · have q := h2 (i + 1) (by omega)
    rw [show ((qf + 1) % 32 + i) % 32 = (qf + (i + 1)) % 32 from by omega]
    exact q
  · by_cases e : y = lq 0
    · subst e
      rw [pk_us]
      refine ⟨fun _ => fun ⟨i, i1, i2⟩ => h3 0 (i + 1) (by omega) (by omega) i2.symm, fun _ => rfl⟩
    · rw [pk_un e, h4 y hy]
      refine not_congr ⟨fun ⟨i, i1, i2⟩ => ?_, fun ⟨i, i1, i2⟩ => ⟨i + 1, by omega, i2⟩⟩
      cases i with
      | zero => exact absurd i2.symm e
      | succ i => exact ⟨i, by omega, i2⟩
theorem fi_q_31 (a : Nat) (h : a < 2 ^ 31) : nI a &&& 31 = nI (a % 32) := pk_andN (m := 31) (by omega) 5 (by decide)
section
variable {f_count f_edges f_queueFirst f_queueSize f_backwards f_walked : Int32} {a_ops a_targets a_firsts a_seconds a_next a_other a_reached a_edgeFrom a_edgeTo a_edgeAdds a_edgeTakes a_starts a_bits a_kept a_queue a_queued a_wayThere a_wayAdds a_wayTakes a_number a_walkNode a_parent a_least a_linked a_above a_bucketFirst a_bucketNext a_pathNode : Nat → Int32}
variable {m : Nat} {ef et : Nat → Nat}
theorem fx_enqueue {post : SX → Prop} {qf qs x : Nat} {lq : Nat → Nat} (Q : fi_q qf qs lq a_queue a_queued) (hx : x < 21)
    (h : ∀ qs2 lq2 qu qd, fi_q qf qs2 lq2 qu qd → qs2 ≤ qs + 1 → (∀ y, fi_iq qs lq y → fi_iq qs2 lq2 y) → fi_iq qs2 lq2 x → post (f_count, f_edges, nI qf, nI qs2, f_backwards, f_walked, a_ops, a_targets, a_firsts, a_seconds, a_next, a_other, a_reached, a_edgeFrom, a_edgeTo, a_edgeAdds, a_edgeTakes, a_starts, a_bits, a_kept, qu, qd, a_wayThere, a_wayAdds, a_wayTakes, a_number, a_walkNode, a_parent, a_least, a_linked, a_above, a_bucketFirst, a_bucketNext, a_pathNode)) : wpX_enqueue post (f_count, f_edges, nI qf, nI qs, f_backwards, f_walked, a_ops, a_targets, a_firsts, a_seconds, a_next, a_other, a_reached, a_edgeFrom, a_edgeTo, a_edgeAdds, a_edgeTakes, a_starts, a_bits, a_kept, a_queue, a_queued, a_wayThere, a_wayAdds, a_wayTakes, a_number, a_walkNode, a_parent, a_least, a_linked, a_above, a_bucketFirst, a_bucketNext, a_pathNode) (nI x) := by
  have hq := fi_q_le Q
  have hf := Q.1
  refine ⟨vp_in_nI hx (by omega), ?_⟩
  rw [nI_clamp (by omega)]
  refine br_c (fun c => ?_) (fun c => ?_)
  · rw [nI_add, fi_q_31 _ (by omega), nI_clamp (by omega), fi_nb (by omega)]
    refine ⟨vp_in_nI (by omega) (by omega), nm_e (nm_r (nI_1 qs) ⟨vp_in_nI hx (by omega), nm_e ?_⟩)⟩
    refine h (qs + 1) _ _ _ (fi_q_in Q hx c) (by omega) (fun y ⟨i, i1, i2⟩ => ⟨i, by omega, ?_⟩) ⟨qs, by omega, if_pos rfl⟩
    dsimp only
    rw [if_neg (show ¬ i = qs by omega)]; exact i2
  · refine h qs lq _ _ Q (by omega) (fun y z => z) ?_
    exact Classical.byContradiction (fun k => c ((Q.2.2.2 x hx).mpr k))
/-- engine 1 -/
theorem fx_queue {post : SX → Prop} (P : fi_pb m ef et a_edgeFrom a_edgeTo a_edgeAdds a_starts)
    (h : ∀ b qf qs qu qd, (∀ x, x < 21 → fi_is (b x) (fi_lf m ef et a_edgeAdds a_edgeTakes a_starts x)) → post (f_count, nI m, qf, qs, f_backwards, f_walked, a_ops, a_targets, a_firsts, a_seconds, a_next, a_other, a_reached, a_edgeFrom, a_edgeTo, a_edgeAdds, a_edgeTakes, a_starts, b, a_kept, qu, qd, a_wayThere, a_wayAdds, a_wayTakes, a_number, a_walkNode, a_parent, a_least, a_linked, a_above, a_bucketFirst, a_bucketNext, a_pathNode)) : wpX_solveByQueue post (f_count, nI m, f_queueFirst, f_queueSize, f_backwards, f_walked, a_ops, a_targets, a_firsts, a_seconds, a_next, a_other, a_reached, a_edgeFrom, a_edgeTo, a_edgeAdds, a_edgeTakes, a_starts, a_bits, a_kept, a_queue, a_queued, a_wayThere, a_wayAdds, a_wayTakes, a_number, a_walkNode, a_parent, a_least, a_linked, a_above, a_bucketFirst, a_bucketNext, a_pathNode) := by
  have hm := P.1
  have k61 : ∀ f b qf qs lq qu qd, 420 + qs ≤ f + fi_ct b → fi_so m ef et a_edgeAdds a_edgeTakes a_starts b → fi_ba a_starts b → fi_q qf qs lq qu qd → (∀ k, k < m → fi_iq qs lq (ef k) ∨ fi_ck ef et a_edgeAdds a_edgeTakes b k) →
      wX_solveByQueue_61 post (f + 1) f_count (nI m) (nI qf) (nI qs) f_backwards f_walked a_ops a_targets a_firsts a_seconds a_next a_other a_reached a_edgeFrom a_edgeTo a_edgeAdds a_edgeTakes a_starts b a_kept qu qd a_wayThere a_wayAdds a_wayTakes a_number a_walkNode a_parent a_least a_linked a_above a_bucketFirst a_bucketNext a_pathNode := by
    intro f
    induction f with
    | zero =>
      intro b qf qs lq qu qd hf so ba Q C
      have := fi_ct_le b
      have : qs = 0 := by omega
      subst this
      refine pk_le 0 0 (fun _ => h b _ _ _ _ (fi_fin P so ba (fun k hk => ?_))) (fun k => by omega)
      rcases C k hk with ⟨i, i1, _⟩ | c
      · omega
      · exact c
    | succ f ih =>
      intro b qf qs lq qu qd hf so ba Q C
      have hq := fi_q_le Q
      have hqf := Q.1
      cases qs with
      | zero =>
        refine pk_le 0 0 (fun _ => h b _ _ _ _ (fi_fin P so ba (fun k hk => ?_))) (fun k => by omega)
        rcases C k hk with ⟨i, i1, _⟩ | c
        · omega
        · exact c
      | succ qs =>
        refine pk_le (qs + 1) 0 (fun k => by omega) (fun _ => ⟨vp_in_nI hqf (by omega), ?_⟩)
        obtain ⟨l0, l1⟩ := Q.2.1 0 (by omega)
        rw [Nat.add_zero, Nat.mod_eq_of_lt hqf] at l1
        refine nm_r (e' := nI (lq 0)) (by rw [nI_clamp (by omega)]; exact l1) (nm_r (e' := nI ((qf + 1) % 32)) (by rw [nI_1, fi_q_31 _ (by omega)]) (nm_r (nI_pred qs) ⟨vp_in_nI l0 (by omega), nm_r (e' := upd qd (lq 0) 0) (by rw [nI_clamp (by omega)]; rfl) ?_⟩))
        have k110 : ∀ d k b2 qf2 qs2 lq2 qu2 qd2, k + d = m → qs2 + fi_ct b ≤ qs + fi_ct b2 → fi_so m ef et a_edgeAdds a_edgeTakes a_starts b2 → fi_ba a_starts b2 → fi_q qf2 qs2 lq2 qu2 qd2 → (∀ j, j < m → fi_iq qs2 lq2 (ef j) ∨ fi_ck ef et a_edgeAdds a_edgeTakes b2 j ∨ (ef j = lq 0 ∧ k ≤ j)) →
            wX_solveByQueue_110 post (wX_solveByQueue_61 post (f + 1)) (nI (lq 0)) (d + 1) (nI k) f_count (nI m) (nI qf2) (nI qs2) f_backwards f_walked a_ops a_targets a_firsts a_seconds a_next a_other a_reached a_edgeFrom a_edgeTo a_edgeAdds a_edgeTakes a_starts b2 a_kept qu2 qd2 a_wayThere a_wayAdds a_wayTakes a_number a_walkNode a_parent a_least a_linked a_above a_bucketFirst a_bucketNext a_pathNode := by
          intro d
          induction d with
          | zero =>
            intro k b2 qf2 qs2 lq2 qu2 qd2 hk hc so2 ba2 Q2 C2
            refine pk_le m k (fun _ => ih b2 qf2 qs2 lq2 qu2 qd2 (by omega) so2 ba2 Q2 (fun j hj => ?_)) (fun k => by omega)
            rcases C2 j hj with c | c | c
            · exact Or.inl c
            · exact Or.inr c
            · omega
          | succ d ih2 =>
            intro k b2 qf2 qs2 lq2 qu2 qd2 hk hc so2 ba2 Q2 C2
            obtain ⟨p1, p2, p3, p4⟩ := P.2.1 k (by omega)
            refine pk_le m k (fun k => by omega) (fun _ => ⟨vp_in_nI (by omega) (by omega), ?_⟩)
            rw [nI_clamp (by omega), p1]
            refine pk_eq (ef k) (lq 0) (fun e => ?_) (fun e => nm_r (nI_1 k) (ih2 (k + 1) b2 qf2 qs2 lq2 qu2 qd2 (by omega) hc so2 ba2 Q2 (fun j hj => ?_)))
            · refine fx_pass P (by omega) (fun w hw => ⟨fun z => ?_, fun z => ?_⟩)
              · have eb := fi_ps_eq z
                have ck := fi_ps_ck (et := et) hw
                rw [eb] at ck ⊢
                refine br_t rfl (nm_r (nI_1 k) (ih2 (k + 1) b2 qf2 qs2 lq2 qu2 qd2 (by omega) hc so2 ba2 Q2 (fun j hj => ?_)))
                by_cases e2 : j = k
                · subst e2; exact Or.inr (Or.inl ck)
                · rcases C2 j hj with c | c | c
                  · exact Or.inl c
                  · exact Or.inr (Or.inl c)
                  · exact Or.inr (Or.inr ⟨c.1, by omega⟩)
              · have so3 := fi_ps_so (show k < m by omega) p2 hw so2
                have ct := fi_ps_ct P p4 z so3
                refine br_f (by decide) ⟨vp_in_nI (by omega) (by omega), ?_⟩
                rw [p3]
                refine fx_enqueue Q2 p4 (fun qs3 lq3 qu3 qd3 Q3 g1 g2 g3 => nm_r (nI_1 k) (ih2 (k + 1) _ qf2 qs3 lq3 qu3 qd3 (by omega) (by omega) so3 (fi_ps_ba ba2) Q3 (fun j hj => ?_)))
                by_cases e2 : ef j = et k
                · rw [e2]; exact Or.inl g3
                · by_cases e3 : j = k
                  · subst e3; exact Or.inr (Or.inl (fi_ps_ck hw))
                  · rcases C2 j hj with c | c | c
                    · exact Or.inl (g2 _ c)
                    · exact Or.inr (Or.inl (fi_ps_ck2 c e2))
                    · exact Or.inr (Or.inr ⟨c.1, by omega⟩)
            · rcases C2 j hj with c | c | c
              · exact Or.inl c
              · exact Or.inr (Or.inl c)
              · refine Or.inr (Or.inr ⟨c.1, ?_⟩)
                by_cases e3 : j = k
                · subst e3; exact absurd c.1 e
                · omega
        refine ⟨_, k110 m 0 b _ qs (fun i => lq (i + 1)) qu _ (by omega) (by omega) so ba (fi_q_out Q) (fun j hj => ?_)⟩
        rcases C j hj with ⟨i, i1, i2⟩ | c
        · cases i with
          | zero => exact Or.inr (Or.inr ⟨i2.symm, by omega⟩)
          | succ i => exact Or.inl ⟨i, by omega, i2⟩
        · exact Or.inr (Or.inl c)
  have k37 : ∀ d k b qf qs lq qu qd, k + d = m → fi_so m ef et a_edgeAdds a_edgeTakes a_starts b → fi_ba a_starts b → fi_q qf qs lq qu qd → (∀ j, j < k → fi_iq qs lq (ef j)) →
      wX_solveByQueue_37 post (d + 1) (nI k) f_count (nI m) (nI qf) (nI qs) f_backwards f_walked a_ops a_targets a_firsts a_seconds a_next a_other a_reached a_edgeFrom a_edgeTo a_edgeAdds a_edgeTakes a_starts b a_kept qu qd a_wayThere a_wayAdds a_wayTakes a_number a_walkNode a_parent a_least a_linked a_above a_bucketFirst a_bucketNext a_pathNode := by
    intro d
    induction d with
    | zero =>
      intro k b qf qs lq qu qd hk so ba Q C
      exact pk_le m k (fun _ => ⟨_, k61 (420 + qs) b qf qs lq qu qd (by omega) so ba Q (fun j hj => Or.inl (C j (by omega)))⟩) (fun k => by omega)
    | succ d ih =>
      intro k b qf qs lq qu qd hk so ba Q C
      obtain ⟨p1, p2, p3, p4⟩ := P.2.1 k (by omega)
      refine pk_le m k (fun k => by omega) (fun _ => ⟨vp_in_nI (by omega) (by omega), ?_⟩)
      rw [nI_clamp (by omega), p1]
      refine fx_enqueue Q p2 (fun qs3 lq3 qu3 qd3 Q3 g1 g2 g3 => nm_r (nI_1 k) (ih (k + 1) b qf qs3 lq3 qu3 qd3 (by omega) so ba Q3 (fun j hj => ?_)))
      by_cases e : j = k
      · subst e; exact g3
      · exact g2 _ (C j (by omega))
  have k16 : ∀ d i b qd, i + d = 21 → fi_so m ef et a_edgeAdds a_edgeTakes a_starts b → fi_ba a_starts b → (∀ x, x < i → qd x = 0) → wX_solveByQueue_16 post f_count (nI m) 0 0 f_backwards f_walked (d + 1) (nI i) a_ops a_targets a_firsts a_seconds a_next a_other a_reached a_edgeFrom a_edgeTo a_edgeAdds a_edgeTakes a_starts b a_kept a_queue qd a_wayThere a_wayAdds a_wayTakes a_number a_walkNode a_parent a_least a_linked a_above a_bucketFirst a_bucketNext a_pathNode := by
    intro d
    induction d with
    | zero =>
      intro i b qd hi so ba H
      refine pk_le 21 i (fun _ => ⟨_, k37 m 0 b 0 0 (fun _ => 0) a_queue qd (by omega) so ba ⟨by omega, fun i hi => by omega, fun i j _ _ => by omega, fun x hx => ⟨fun _ => fun ⟨i, i1, _⟩ => by omega, fun _ => H x (by omega)⟩⟩ (fun j hj => by omega)⟩) (fun k => by omega)
    | succ d ih =>
      intro i b qd hi so ba H
      refine pk_le 21 i (fun k => by omega) (fun _ => ⟨vp_in_nI (by omega) (by omega), nm_r (e' := upd qd i 0) (by rw [nI_clamp (by omega)]; rfl) (nm_r (nI_1 i) (ih (i + 1) b _ (by omega) so ba (fun x hx => ?_)))⟩)
      by_cases e : x = i
      · subst e; exact pk_us
      · rw [pk_un e]; exact H x (by omega)
  unfold wpX_solveByQueue
  exact fx_startBits (fun b hb => ⟨_, k16 21 0 b a_queued (by omega) (fi_so_st hb) (fi_ba_st hb) (fun x hx => by omega)⟩)
end
end
section
/-- a way by one bit: is it there, does it keep the bit, does it add the bit -/
def fi_M (h t g : Prop) (s s2 : Bool) : Prop := match s, s2 with
  | false, false => h
  | true, true => t
  | false, true => g
  | true, false => False
def fi_Mc (th ad tk : Nat → Int32) (e : Nat) (s s2 : Bool) (c : Nat) : Prop := fi_M (¬ th c = 0) (¬ th c = 0 ∧ bt (tk c) e = false) (¬ th c = 0 ∧ bt (ad c) e = true) s s2
def fi_Mw (a t : Int32) (e : Nat) (s s2 : Bool) : Prop := fi_M True (bt t e = false) (bt a e = true) s s2
def fi_K (th ad tk : Nat → Int32) (e : Nat) (s s2 : Bool) (i j : Nat) : Prop := fi_Mc th ad tk e s s2 (i * 21 + j)
/-- over the middle m, around it any number of times -/
def fi_X (K : Bool → Bool → Nat → Nat → Prop) (m : Nat) (s s2 : Bool) (i j : Nat) : Prop := ∃ s1 s3, K s s1 i m ∧ (s1 = s3 ∨ K s1 s3 m m) ∧ K s3 s2 m j
theorem fi_M_tf {h t g : Prop} : ¬ fi_M h t g true false := fun z => z
theorem fi_way {th ad tk : Nat → Int32} {e c0 c1 c2 : Nat} {x5 : Int32} (he : e < 32) (h1 : ¬ th c1 = 0) (h2 : ¬ th c2 = 0) (hx : bt x5 e = true ↔ (bt (ad c1) e = true ∨ (¬ th c0 = 0 ∧ bt (ad c0) e = true))) (s s2 : Bool) :
    fi_Mw (ad c2 ||| (x5 &&& (tk c2 ^^^ (-1)))) (tk c1 ||| tk c2) e s s2 ↔ ∃ s1 s3, fi_Mc th ad tk e s s1 c1 ∧ (s1 = s3 ∨ fi_Mc th ad tk e s1 s3 c0) ∧ fi_Mc th ad tk e s3 s2 c2 := by
  have ea : bt (ad c2 ||| (x5 &&& (tk c2 ^^^ (-1)))) e = true ↔ (bt (ad c2) e = true ∨ ((bt (ad c1) e = true ∨ (¬ th c0 = 0 ∧ bt (ad c0) e = true)) ∧ bt (tk c2) e = false)) := by
    rw [← hx, b_or, b_and, fi_not _ he]; simp
  have et : bt (tk c1 ||| tk c2) e = false ↔ (bt (tk c1) e = false ∧ bt (tk c2) e = false) := by
    rw [b_or]; simp
  cases s <;> cases s2
  · exact ⟨fun _ => ⟨false, false, h1, Or.inl rfl, h2⟩, fun _ => trivial⟩
  · show bt (ad c2 ||| (x5 &&& (tk c2 ^^^ (-1)))) e = true ↔ _
    rw [ea]
    constructor
    · rintro (z | ⟨z | z, y⟩)
      · exact ⟨false, false, h1, Or.inl rfl, h2, z⟩
      · exact ⟨true, true, ⟨h1, z⟩, Or.inl rfl, h2, y⟩
      · exact ⟨false, true, h1, Or.inr z, h2, y⟩
    · rintro ⟨s1, s3, a, b, c⟩
      cases s1 <;> cases s3
      · exact Or.inl c.2
      · rcases b with b | b
        · exact absurd b (by decide)
        · exact Or.inr ⟨Or.inr b, c.2⟩
      · rcases b with b | b
        · exact absurd b (by decide)
        · exact b.elim
      · exact Or.inr ⟨Or.inl a.2, c.2⟩
  · refine ⟨fun z => z.elim, ?_⟩
    rintro ⟨s1, s3, a, b, c⟩
    cases s1 <;> cases s3
    · exact a.elim
    · exact a.elim
    · rcases b with b | b
      · exact absurd b (by decide)
      · exact b.elim
    · exact c.elim
  · show bt (tk c1 ||| tk c2) e = false ↔ _
    rw [et]
    constructor
    · rintro ⟨y, z⟩
      exact ⟨true, true, ⟨h1, y⟩, Or.inl rfl, h2, z⟩
    · rintro ⟨s1, s3, a, b, c⟩
      cases s1 <;> cases s3
      · exact a.elim
      · exact a.elim
      · rcases b with b | b
        · exact absurd b (by decide)
        · exact b.elim
      · exact ⟨a.2, c.2⟩
section
variable {K K2 : Bool → Bool → Nat → Nat → Prop} {m : Nat}
theorem fi_st_all (hK : ∀ i j, ¬ K true false i j) {i j : Nat} {s s2 : Bool}
    (h : K2 s s2 i j ↔ (K s s2 i j ∨ (i ≠ m ∧ j ≠ m ∧ fi_X K m s s2 i j) ∨ (i ≠ m ∧ j = m ∧ s = false ∧ s2 = true ∧ K false false i m ∧ K false true m m) ∨ (i = m ∧ j ≠ m ∧ s = false ∧ s2 = true ∧ K false true m m ∧ K true true m j))) :
    K2 s s2 i j ↔ (K s s2 i j ∨ fi_X K m s s2 i j) := by
  rw [h]
  constructor
  · rintro (a | ⟨_, _, a⟩ | ⟨_, a1, a2, a3, a4, a5⟩ | ⟨a1, _, a2, a3, a4, a5⟩)
    · exact Or.inl a
    · exact Or.inr a
    · subst a1 a2 a3; exact Or.inr ⟨false, false, a4, Or.inl rfl, a5⟩
    · subst a1 a2 a3; exact Or.inr ⟨true, true, a4, Or.inl rfl, a5⟩
  · rintro (a | ⟨s1, s3, a, b, c⟩)
    · exact Or.inl a
    · by_cases e1 : i = m
      · by_cases e2 : j = m
        · subst e1; subst e2
          left
          cases s <;> cases s2 <;> cases s1 <;> cases s3 <;> simp_all
        · subst e1
          cases s <;> cases s2 <;> cases s1 <;> cases s3 <;> simp_all
      · by_cases e2 : j = m
        · subst e2
          cases s <;> cases s2 <;> cases s1 <;> cases s3 <;> simp_all
        · exact Or.inr (Or.inl ⟨e1, e2, s1, s3, a, b, c⟩)
theorem fi_st_star (hK : ∀ i j, ¬ K true false i j) {s1 s2 s3 : Bool} (a : s1 = s2 ∨ K s1 s2 m m) (b : s2 = s3 ∨ K s2 s3 m m) : s1 = s3 ∨ K s1 s3 m m := by
  cases s1 <;> cases s2 <;> cases s3 <;> simp_all
/-- one more middle -/
theorem fi_st_cl (hK : ∀ i j, ¬ K true false i j) (hm : m < 21) (h : ∀ i j s s2, i < 21 → j < 21 → (K2 s s2 i j ↔ (K s s2 i j ∨ fi_X K m s s2 i j)))
    (cl : ∀ k, k < m → ∀ i j s s1 s2, i < 21 → j < 21 → K s s1 i k → K s1 s2 k j → K s s2 i j) :
    ∀ k, k < m + 1 → ∀ i j s s1 s2, i < 21 → j < 21 → K2 s s1 i k → K2 s1 s2 k j → K2 s s2 i j := by
  intro k hk i j s s1 s2 hi hj a b
  rw [h i k s s1 hi (by omega)] at a
  rw [h k j s1 s2 (by omega) hj] at b
  rw [h i j s s2 hi hj]
  by_cases e : k = m
  · subst e
    rcases a with a | ⟨p1, p2, a1, a2, a3⟩
    · rcases b with b | ⟨q1, q2, b1, b2, b3⟩
      · exact Or.inr ⟨s1, s1, a, Or.inl rfl, b⟩
      · exact Or.inr ⟨s1, q2, a, fi_st_star hK (Or.inr b1) b2, b3⟩
    · rcases b with b | ⟨q1, q2, b1, b2, b3⟩
      · exact Or.inr ⟨p1, s1, a1, fi_st_star hK a2 (Or.inr a3), b⟩
      · exact Or.inr ⟨p1, q2, a1, fi_st_star hK (fi_st_star hK a2 (Or.inr a3)) (fi_st_star hK (Or.inr b1) b2), b3⟩
  · have k' : k < m := by omega
    rcases a with a | ⟨p1, p2, a1, a2, a3⟩
    · rcases b with b | ⟨q1, q2, b1, b2, b3⟩
      · exact Or.inl (cl k k' i j s s1 s2 hi hj a b)
      · exact Or.inr ⟨q1, q2, cl k k' i m s s1 q1 hi hm a b1, b2, b3⟩
    · rcases b with b | ⟨q1, q2, b1, b2, b3⟩
      · exact Or.inr ⟨p1, p2, a1, a2, cl k k' m j p2 s1 s2 hm hj a3 b⟩
      · exact Or.inr ⟨p1, q2, a1, fi_st_star hK (fi_st_star hK a2 (Or.inr (cl k k' m m p2 s1 q1 hm hm a3 b1))) b2, b3⟩
/-- nothing is brought that isn't due -/
theorem fi_st_so (hK : ∀ i j, ¬ K true false i j) (hm : m < 21) {D : Nat → Prop} (h : ∀ i j s s2, i < 21 → j < 21 → (K2 s s2 i j ↔ (K s s2 i j ∨ fi_X K m s s2 i j)))
    (so : ∀ i j, i < 21 → j < 21 → (K false true i j → D j) ∧ (K true true i j → D i → D j)) : ∀ i j, i < 21 → j < 21 → (K2 false true i j → D j) ∧ (K2 true true i j → D i → D j) := by
  intro i j hi hj
  rw [h i j _ _ hi hj, h i j _ _ hi hj]
  have s1 := so i j hi hj
  have s2 := so i m hi hm
  have s3 := so m m hm hm
  have s4 := so m j hm hj
  constructor
  · rintro (a | ⟨p1, p2, a, b, c⟩)
    · exact s1.1 a
    · cases p1 <;> cases p2
      · exact s4.1 c
      · rcases b with b | b
        · exact absurd b (by decide)
        · exact s4.2 c (s3.1 b)
      · rcases b with b | b
        · exact absurd b (by decide)
        · exact absurd b (hK _ _)
      · exact s4.2 c (s2.1 a)
  · rintro (a | ⟨p1, p2, a, b, c⟩) d
    · exact s1.2 a d
    · cases p1 <;> cases p2
      · exact absurd a (hK _ _)
      · exact absurd a (hK _ _)
      · rcases b with b | b
        · exact absurd b (by decide)
        · exact absurd b (hK _ _)
      · exact s4.2 c (s2.2 a d)
end
section
variable {f_count f_edges f_queueFirst f_queueSize f_backwards f_walked : Int32} {a_ops a_targets a_firsts a_seconds a_next a_other a_reached a_edgeFrom a_edgeTo a_edgeAdds a_edgeTakes a_starts a_bits a_kept a_queue a_queued a_wayThere a_wayAdds a_wayTakes a_number a_walkNode a_parent a_least a_linked a_above a_bucketFirst a_bucketNext a_pathNode : Nat → Int32}
variable {m : Nat} {ef et : Nat → Nat}
theorem fi_Mc_join {th ad tk th2 ad2 tk2 : Nat → Int32} {c0 : Nat} {a t : Int32} (h1 : th2 = upd th c0 1) (h2 : (th c0 = 0 ∧ ad2 = upd ad c0 a ∧ tk2 = upd tk c0 t) ∨ (¬ th c0 = 0 ∧ ad2 = upd ad c0 (ad c0 ||| a) ∧ tk2 = upd tk c0 (tk c0 &&& t))) (e : Nat) (s s2 : Bool) (c : Nat) :
    fi_Mc th2 ad2 tk2 e s s2 c ↔ (fi_Mc th ad tk e s s2 c ∨ (c = c0 ∧ fi_Mw a t e s s2)) := by
  by_cases ec : c = c0
  · subst ec
    rcases h2 with ⟨g, g1, g2⟩ | ⟨g, g1, g2⟩
    · cases s <;> cases s2 <;> simp [fi_Mc, fi_Mw, fi_M, h1, g1, g2, g, pk_us]
    · cases s <;> cases s2 <;> simp [fi_Mc, fi_Mw, fi_M, h1, g1, g2, g, pk_us, b_or, b_and]
      cases bt (tk c) e <;> cases bt t e <;> simp
  · have e1 : th2 c = th c := by rw [h1, pk_un ec]
    have e2 : ad2 c = ad c := by rcases h2 with ⟨g, g1, g2⟩ | ⟨g, g1, g2⟩ <;> rw [g1, pk_un ec]
    have e3 : tk2 c = tk c := by rcases h2 with ⟨g, g1, g2⟩ | ⟨g, g1, g2⟩ <;> rw [g2, pk_un ec]
    unfold fi_Mc
    rw [e1, e2, e3]
    exact ⟨Or.inl, fun z => z.elim id (fun y => absurd y.1 ec)⟩
theorem fx_joinWay {post : SX → Prop} {c0 : Nat} {a t : Int32} (hc : c0 < 441)
    (h : ∀ th ad tk, (∀ e s s2 c, fi_Mc th ad tk e s s2 c ↔ (fi_Mc a_wayThere a_wayAdds a_wayTakes e s s2 c ∨ (c = c0 ∧ fi_Mw a t e s s2))) → (∀ c, c ≠ c0 → th c = a_wayThere c ∧ ad c = a_wayAdds c ∧ tk c = a_wayTakes c) → post (f_count, f_edges, f_queueFirst, f_queueSize, f_backwards, f_walked, a_ops, a_targets, a_firsts, a_seconds, a_next, a_other, a_reached, a_edgeFrom, a_edgeTo, a_edgeAdds, a_edgeTakes, a_starts, a_bits, a_kept, a_queue, a_queued, th, ad, tk, a_number, a_walkNode, a_parent, a_least, a_linked, a_above, a_bucketFirst, a_bucketNext, a_pathNode)) : wpX_joinWay post (f_count, f_edges, f_queueFirst, f_queueSize, f_backwards, f_walked, a_ops, a_targets, a_firsts, a_seconds, a_next, a_other, a_reached, a_edgeFrom, a_edgeTo, a_edgeAdds, a_edgeTakes, a_starts, a_bits, a_kept, a_queue, a_queued, a_wayThere, a_wayAdds, a_wayTakes, a_number, a_walkNode, a_parent, a_least, a_linked, a_above, a_bucketFirst, a_bucketNext, a_pathNode) (nI c0) a t := by
  have ic : vp_in (nI c0) 441 := vp_in_nI hc (by omega)
  refine ⟨ic, ?_⟩
  rw [nI_clamp (by omega)]
  refine br_c (fun c => ?_) (fun c => ⟨ic, ?_⟩)
  · refine ⟨ic, nm_r (e' := upd a_wayAdds c0 a) (by rw [nI_clamp (by omega)]) ⟨ic, ?_⟩⟩
    rw [nI_clamp (by omega)]
    refine br_t c ⟨ic, nm_e ⟨ic, nm_e ?_⟩⟩
    exact h _ _ _ (fi_Mc_join rfl (Or.inl ⟨c, rfl, rfl⟩)) (fun c hc => ⟨pk_un hc, pk_un hc, pk_un hc⟩)
  · refine ⟨ic, nm_r (e' := upd a_wayAdds c0 (a_wayAdds c0 ||| a)) (by rw [nI_clamp (by omega)]) ⟨ic, ?_⟩⟩
    rw [nI_clamp (by omega)]
    refine br_f c ⟨ic, ic, nm_e ⟨ic, nm_e ?_⟩⟩
    exact h _ _ _ (fi_Mc_join rfl (Or.inr ⟨c, rfl, rfl⟩)) (fun c hc => ⟨pk_un hc, pk_un hc, pk_un hc⟩)
end
end
section
theorem fi_cell (i j : Nat) : nI i * 21 + nI j = nI (i * 21 + j) := by
  show nI i * nI 21 + nI j = _
  rw [pk_mul, nI_add]
theorem fi_K_th {th ad tk : Nat → Int32} {e i j : Nat} {s s2 : Bool} (h : fi_K th ad tk e s s2 i j) : ¬ th (i * 21 + j) = 0 := by
  unfold fi_K fi_Mc at h
  cases s <;> cases s2
  · exact h
  · exact h.1
  · exact h.elim
  · exact h.1
theorem fi_K_cg {th ad tk th2 ad2 tk2 : Nat → Int32} {e i j : Nat} {s s2 : Bool} (h : th2 (i * 21 + j) = th (i * 21 + j) ∧ ad2 (i * 21 + j) = ad (i * 21 + j) ∧ tk2 (i * 21 + j) = tk (i * 21 + j)) : fi_K th2 ad2 tk2 e s s2 i j ↔ fi_K th ad tk e s s2 i j := by
  unfold fi_K fi_Mc
  rw [h.1, h.2.1, h.2.2]
theorem fi_K_tf {th ad tk : Nat → Int32} {e : Nat} (i j : Nat) : ¬ fi_K th ad tk e true false i j := fun z => z
section
variable {f_count f_edges f_queueFirst f_queueSize f_backwards f_walked : Int32} {a_ops a_targets a_firsts a_seconds a_next a_other a_reached a_edgeFrom a_edgeTo a_edgeAdds a_edgeTakes a_starts a_bits a_kept a_queue a_queued a_wayThere a_wayAdds a_wayTakes a_number a_walkNode a_parent a_least a_linked a_above a_bucketFirst a_bucketNext a_pathNode : Nat → Int32}
theorem fx_over71 {post : SX → Prop} {i mm : Nat} {th0 ad0 tk0 : Nat → Int32} {x5 : Int32} (hi : i < 21) (hm : mm < 21) (him : i ≠ mm) (h1 : ¬ th0 (i * 21 + mm) = 0)
    (hx : ∀ e, e < 32 → (bt x5 e = true ↔ (bt (ad0 (i * 21 + mm)) e = true ∨ (¬ th0 (mm * 21 + mm) = 0 ∧ bt (ad0 (mm * 21 + mm)) e = true))))
    (h : ∀ th ad tk, (∀ e s s2 p j, e < 32 → p < 21 → j < 21 → (fi_K th ad tk e s s2 p j ↔ (fi_K th0 ad0 tk0 e s s2 p j ∨ (p = i ∧ i ≠ mm ∧ j ≠ mm ∧ fi_X (fi_K th0 ad0 tk0 e) mm s s2 i j)))) → post (f_count, f_edges, f_queueFirst, f_queueSize, f_backwards, f_walked, a_ops, a_targets, a_firsts, a_seconds, a_next, a_other, a_reached, a_edgeFrom, a_edgeTo, a_edgeAdds, a_edgeTakes, a_starts, a_bits, a_kept, a_queue, a_queued, th, ad, tk, a_number, a_walkNode, a_parent, a_least, a_linked, a_above, a_bucketFirst, a_bucketNext, a_pathNode)) :
    ∀ d j th ad tk, j + d = 21 → (∀ p q, p < 21 → q < 21 → (p ≠ i ∨ j ≤ q ∨ q = mm) → th (p * 21 + q) = th0 (p * 21 + q) ∧ ad (p * 21 + q) = ad0 (p * 21 + q) ∧ tk (p * 21 + q) = tk0 (p * 21 + q)) →
      (∀ q, q < j → q ≠ mm → ∀ e s s2, e < 32 → (fi_K th ad tk e s s2 i q ↔ (fi_K th0 ad0 tk0 e s s2 i q ∨ fi_X (fi_K th0 ad0 tk0 e) mm s s2 i q))) →
      wX_joinOver_71 post (nI i) (nI mm) x5 (tk0 (i * 21 + mm)) (d + 1) (nI j) f_count f_edges f_queueFirst f_queueSize f_backwards f_walked a_ops a_targets a_firsts a_seconds a_next a_other a_reached a_edgeFrom a_edgeTo a_edgeAdds a_edgeTakes a_starts a_bits a_kept a_queue a_queued th ad tk a_number a_walkNode a_parent a_least a_linked a_above a_bucketFirst a_bucketNext a_pathNode := by
  intro d
  induction d with
  | zero =>
    intro j th ad tk hj H1 H2
    refine pk_le 21 j (fun _ => h th ad tk (fun e s s2 p q he hp hq => ?_)) (fun k => by omega)
    by_cases c : p = i ∧ q ≠ mm
    · obtain ⟨c1, c2⟩ := c
      subst c1
      rw [H2 q (by omega) c2 e s s2 he]
      exact ⟨fun z => z.imp id (fun y => ⟨rfl, him, c2, y⟩), fun z => z.imp id (fun y => y.2.2.2)⟩
    · rw [fi_K_cg (H1 p q hp hq (by omega))]
      exact ⟨Or.inl, fun z => z.elim id (fun y => absurd ⟨y.1, y.2.2.1⟩ c)⟩
  | succ d ih =>
    intro j th ad tk hj H1 H2
    have skip : (∀ e s s2, e < 32 → j ≠ mm → ¬ fi_X (fi_K th0 ad0 tk0 e) mm s s2 i j) → wX_joinOver_71 post (nI i) (nI mm) x5 (tk0 (i * 21 + mm)) (d + 1) (nI (j + 1)) f_count f_edges f_queueFirst f_queueSize f_backwards f_walked a_ops a_targets a_firsts a_seconds a_next a_other a_reached a_edgeFrom a_edgeTo a_edgeAdds a_edgeTakes a_starts a_bits a_kept a_queue a_queued th ad tk a_number a_walkNode a_parent a_least a_linked a_above a_bucketFirst a_bucketNext a_pathNode := by
      intro hX
      refine ih (j + 1) th ad tk (by omega) (fun p q hp hq c => H1 p q hp hq (by omega)) (fun q hq hqm e s s2 he => ?_)
      by_cases c : q = j
      · subst c
        rw [fi_K_cg (H1 i q hi (by omega) (by omega))]
        exact ⟨Or.inl, fun z => z.elim id (fun y => absurd y (hX e s s2 he hqm))⟩
      · exact H2 q (by omega) hqm e s s2 he
    obtain ⟨r1, r2, r3⟩ := H1 mm j hm (by omega) (by omega)
    have cl : mm * 21 + j < 441 := by omega
    have cl2 : i * 21 + j < 441 := by omega
    refine pk_le 21 j (fun k => by omega) (fun _ => nm_r (fi_cell mm j) ⟨vp_in_nI cl (by omega), ?_⟩)
    rw [nI_clamp (by omega)]
    refine br_c (fun c => nm_r (nI_1 j) (skip (fun e s s2 he hjm => ?_))) (fun c => pk_eq j mm (fun c2 => nm_r (nI_1 j) (skip (fun e s s2 he hjm => absurd c2 hjm))) (fun c2 => ⟨vp_in_nI cl (by omega), vp_in_nI cl (by omega), nm_e ⟨vp_in_nI cl (by omega), ?_⟩⟩))
    · rintro ⟨s1, s3, _, _, z⟩
      rw [r1] at c
      exact fi_K_th z c
    · rw [r2, r3, fi_cell]
      rw [r1] at c
      refine fx_joinWay cl2 (fun th2 ad2 tk2 g1 g2 => nm_r (nI_1 j) (ih (j + 1) th2 ad2 tk2 (by omega) (fun p q hp hq cc => ?_) (fun q hq hqm e s s2 he => ?_)))
      · obtain ⟨t1, t2, t3⟩ := g2 (p * 21 + q) (by omega)
        obtain ⟨u1, u2, u3⟩ := H1 p q hp hq (by omega)
        exact ⟨t1.trans u1, t2.trans u2, t3.trans u3⟩
      · by_cases e2 : q = j
        · subst e2
          have w := fi_way (tk := tk0) he h1 c (hx e he) s s2
          show fi_Mc th2 ad2 tk2 e s s2 (i * 21 + q) ↔ _
          rw [g1 e s s2 (i * 21 + q), w]
          have k := fi_K_cg (e := e) (s := s) (s2 := s2) (H1 i q hi (by omega) (by omega))
          unfold fi_K at k
          rw [k]
          exact ⟨fun z => z.imp id (fun y => y.2), fun z => z.imp id (fun y => ⟨rfl, y⟩)⟩
        · rw [fi_K_cg (g2 (i * 21 + q) (by omega))]
          exact H2 q (by omega) hqm e s s2 he
theorem fx_joinOver {post : SX → Prop} {i mm : Nat} (hi : i < 21) (hm : mm < 21)
    (h : ∀ th ad tk, (∀ e s s2 p j, e < 32 → p < 21 → j < 21 → (fi_K th ad tk e s s2 p j ↔ (fi_K a_wayThere a_wayAdds a_wayTakes e s s2 p j ∨ (p = i ∧ i ≠ mm ∧ j ≠ mm ∧ fi_X (fi_K a_wayThere a_wayAdds a_wayTakes e) mm s s2 i j)))) → post (f_count, f_edges, f_queueFirst, f_queueSize, f_backwards, f_walked, a_ops, a_targets, a_firsts, a_seconds, a_next, a_other, a_reached, a_edgeFrom, a_edgeTo, a_edgeAdds, a_edgeTakes, a_starts, a_bits, a_kept, a_queue, a_queued, th, ad, tk, a_number, a_walkNode, a_parent, a_least, a_linked, a_above, a_bucketFirst, a_bucketNext, a_pathNode)) :
    wpX_joinOver post (f_count, f_edges, f_queueFirst, f_queueSize, f_backwards, f_walked, a_ops, a_targets, a_firsts, a_seconds, a_next, a_other, a_reached, a_edgeFrom, a_edgeTo, a_edgeAdds, a_edgeTakes, a_starts, a_bits, a_kept, a_queue, a_queued, a_wayThere, a_wayAdds, a_wayTakes, a_number, a_walkNode, a_parent, a_least, a_linked, a_above, a_bucketFirst, a_bucketNext, a_pathNode) (nI i) (nI mm) := by
  have c1 : i * 21 + mm < 441 := by omega
  have c2 : mm * 21 + mm < 441 := by omega
  have i1 : vp_in (nI (i * 21 + mm)) 441 := vp_in_nI c1 (by omega)
  have i2 : vp_in (nI (mm * 21 + mm)) 441 := vp_in_nI c2 (by omega)
  refine nm_r (fi_cell i mm) (nm_r (fi_cell mm mm) ⟨i1, ?_⟩)
  rw [nI_clamp (by omega), nI_clamp (by omega)]
  refine br_c (fun c => h _ _ _ (fun e s s2 p j he hp hj => ⟨Or.inl, fun z => z.elim id (fun ⟨_, _, _, s1, s3, y, _⟩ => absurd c (fi_K_th y))⟩)) (fun c => ?_)
  refine pk_eq i mm (fun c2 => h _ _ _ (fun e s s2 p j he hp hj => ⟨Or.inl, fun z => z.elim id (fun y => absurd c2 y.2.1)⟩)) (fun him => ⟨i1, i2, ?_⟩)
  have fin : ∀ z0 : Int32, (∀ e, e < 32 → (bt z0 e = true ↔ (¬ a_wayThere (mm * 21 + mm) = 0 ∧ bt (a_wayAdds (mm * 21 + mm)) e = true))) → wX_joinOver_57 post (nI i) (nI mm) (nI (i * 21 + mm)) z0 (a_wayAdds (i * 21 + mm)) f_count f_edges f_queueFirst f_queueSize f_backwards f_walked a_ops a_targets a_firsts a_seconds a_next a_other a_reached a_edgeFrom a_edgeTo a_edgeAdds a_edgeTakes a_starts a_bits a_kept a_queue a_queued a_wayThere a_wayAdds a_wayTakes a_number a_walkNode a_parent a_least a_linked a_above a_bucketFirst a_bucketNext a_pathNode := by
    intro z0 hz
    refine nm_e ⟨i1, nm_r (e' := a_wayTakes (i * 21 + mm)) (by rw [nI_clamp (by omega)]) ?_⟩
    refine ⟨_, fx_over71 hi hm him c (fun e he => ?_) h 21 0 _ _ _ (by omega) (fun p q hp hq _ => ⟨rfl, rfl, rfl⟩) (fun q hq => by omega)⟩
    rw [b_or, Bool.or_eq_true, hz e he]
  refine br_c (fun c2 => fin 0 (fun e he => ?_)) (fun c2 => ⟨i2, fin _ (fun e he => ⟨fun z => ⟨c2, z⟩, fun z => z.2⟩)⟩)
  rw [b_0]
  exact ⟨fun z => absurd z (by decide), fun z => absurd c2 z.1⟩
/-- the ring at mm closed: ad is what the adds are now -/
def fi_rg (n mm : Nat) (more : Int32) (th ad0 tk ad : Nat → Int32) : Prop := ∀ i j e, i < 21 → j < 21 → e < 32 → (bt (ad (i * 21 + j)) e = true ↔
  (bt (ad0 (i * 21 + j)) e = true ∨ (i < n ∧ i ≠ mm ∧ j = mm ∧ ¬ th (i * 21 + mm) = 0 ∧ bt more e = true) ∨ (i = mm ∧ j < n ∧ j ≠ mm ∧ ¬ th (mm * 21 + j) = 0 ∧ bt more e = true ∧ bt (tk (mm * 21 + j)) e = false)))
theorem fi_rg_s {k mm : Nat} {more : Int32} {th ad0 tk ad ad2 ad3 : Nat → Int32} (hk : k < 21) (hm : mm < 21) (H : fi_rg k mm more th ad0 tk ad)
    (h1 : (ad2 = ad ∧ (k = mm ∨ th (k * 21 + mm) = 0)) ∨ (ad2 = upd ad (k * 21 + mm) (ad (k * 21 + mm) ||| more) ∧ k ≠ mm ∧ ¬ th (k * 21 + mm) = 0))
    (h2 : (ad3 = ad2 ∧ (k = mm ∨ th (mm * 21 + k) = 0)) ∨ (ad3 = upd ad2 (mm * 21 + k) (ad2 (mm * 21 + k) ||| (more &&& (tk (mm * 21 + k) ^^^ (-1)))) ∧ k ≠ mm ∧ ¬ th (mm * 21 + k) = 0)) : fi_rg (k + 1) mm more th ad0 tk ad3 := by
  intro i j e hi hj he
  have e2 : bt (ad2 (i * 21 + j)) e = true ↔ (bt (ad (i * 21 + j)) e = true ∨ (i = k ∧ j = mm ∧ k ≠ mm ∧ ¬ th (k * 21 + mm) = 0 ∧ bt more e = true)) := by
    rcases h1 with ⟨a, b⟩ | ⟨a, b, c⟩
    · rw [a]
      refine ⟨Or.inl, fun z => z.elim id (fun y => ?_)⟩
      rcases b with b | b
      · exact absurd b y.2.2.1
      · exact absurd b y.2.2.2.1
    · rw [a]
      by_cases q : i = k ∧ j = mm
      · rw [q.1, q.2, pk_us, b_or]
        simp [b, c]
      · rw [pk_un (by omega)]
        exact ⟨Or.inl, fun z => z.elim id (fun y => absurd ⟨y.1, y.2.1⟩ q)⟩
  have e3 : bt (ad3 (i * 21 + j)) e = true ↔ (bt (ad2 (i * 21 + j)) e = true ∨ (i = mm ∧ j = k ∧ k ≠ mm ∧ ¬ th (mm * 21 + k) = 0 ∧ bt more e = true ∧ bt (tk (mm * 21 + k)) e = false)) := by
    rcases h2 with ⟨a, b⟩ | ⟨a, b, c⟩
    · rw [a]
      refine ⟨Or.inl, fun z => z.elim id (fun y => ?_)⟩
      rcases b with b | b
      · exact absurd b y.2.2.1
      · exact absurd b y.2.2.2.1
    · rw [a]
      by_cases q : i = mm ∧ j = k
      · rw [q.1, q.2, pk_us, b_or, b_and, fi_not _ he]
        simp [b, c]
      · rw [pk_un (by omega)]
        exact ⟨Or.inl, fun z => z.elim id (fun y => absurd ⟨y.1, y.2.1⟩ q)⟩
  rw [e3, e2, H i j e hi hj he]
  constructor
  · rintro (((z | z | z) | z) | z)
    · exact Or.inl z
    · exact Or.inr (Or.inl ⟨by omega, z.2⟩)
    · exact Or.inr (Or.inr ⟨z.1, by omega, z.2.2⟩)
    · obtain ⟨z1, z2, z3, z4, z5⟩ := z
      exact Or.inr (Or.inl ⟨by omega, by omega, z2, by rw [z1]; exact z4, z5⟩)
    · obtain ⟨z1, z2, z3, z4, z5, z6⟩ := z
      exact Or.inr (Or.inr ⟨z1, by omega, by omega, by rw [z2]; exact z4, z5, by rw [z2]; exact z6⟩)
  · rintro (z | ⟨z1, z2, z3, z4, z5⟩ | ⟨z1, z2, z3, z4, z5, z6⟩)
    · exact Or.inl (Or.inl (Or.inl z))
    · by_cases c : i = k
      · subst c; exact Or.inl (Or.inr ⟨rfl, z3, z2, z4, z5⟩)
      · exact Or.inl (Or.inl (Or.inr (Or.inl ⟨by omega, z2, z3, z4, z5⟩)))
    · by_cases c : j = k
      · subst c; exact Or.inr ⟨z1, rfl, z3, z4, z5, z6⟩
      · exact Or.inl (Or.inl (Or.inr (Or.inr ⟨z1, by omega, z3, z4, z5, z6⟩)))
theorem fx_ring27 {post : SX → Prop} {mm : Nat} {more : Int32} {ad0 : Nat → Int32} (hm : mm < 21) (h : ∀ ad, fi_rg 21 mm more a_wayThere ad0 a_wayTakes ad → post (f_count, f_edges, f_queueFirst, f_queueSize, f_backwards, f_walked, a_ops, a_targets, a_firsts, a_seconds, a_next, a_other, a_reached, a_edgeFrom, a_edgeTo, a_edgeAdds, a_edgeTakes, a_starts, a_bits, a_kept, a_queue, a_queued, a_wayThere, ad, a_wayTakes, a_number, a_walkNode, a_parent, a_least, a_linked, a_above, a_bucketFirst, a_bucketNext, a_pathNode)) :
    ∀ d k ad, k + d = 21 → fi_rg k mm more a_wayThere ad0 a_wayTakes ad → wX_closeRing_27 post (nI mm) more f_count f_edges f_queueFirst f_queueSize f_backwards f_walked (d + 1) (nI k) a_ops a_targets a_firsts a_seconds a_next a_other a_reached a_edgeFrom a_edgeTo a_edgeAdds a_edgeTakes a_starts a_bits a_kept a_queue a_queued a_wayThere ad a_wayTakes a_number a_walkNode a_parent a_least a_linked a_above a_bucketFirst a_bucketNext a_pathNode := by
  intro d
  induction d with
  | zero =>
    intro k ad hk H
    have : k = 21 := by omega
    subst this
    exact pk_le 21 21 (fun _ => h ad H) (fun k => by omega)
  | succ d ih =>
    intro k ad hk H
    have c1 : k * 21 + mm < 441 := by omega
    have c2 : mm * 21 + k < 441 := by omega
    have i1 : vp_in (nI (k * 21 + mm)) 441 := vp_in_nI c1 (by omega)
    have i2 : vp_in (nI (mm * 21 + k)) 441 := vp_in_nI c2 (by omega)
    have k79 : ∀ ad2, ((ad2 = ad ∧ (k = mm ∨ a_wayThere (k * 21 + mm) = 0)) ∨ (ad2 = upd ad (k * 21 + mm) (ad (k * 21 + mm) ||| more) ∧ k ≠ mm ∧ ¬ a_wayThere (k * 21 + mm) = 0)) →
        wX_closeRing_79 post (wX_closeRing_27 post (nI mm) more f_count f_edges f_queueFirst f_queueSize f_backwards f_walked (d + 1)) (nI mm) more (nI k) (nI (mm * 21 + k)) f_count f_edges f_queueFirst f_queueSize f_backwards f_walked a_ops a_targets a_firsts a_seconds a_next a_other a_reached a_edgeFrom a_edgeTo a_edgeAdds a_edgeTakes a_starts a_bits a_kept a_queue a_queued a_wayThere ad2 a_wayTakes a_number a_walkNode a_parent a_least a_linked a_above a_bucketFirst a_bucketNext a_pathNode := by
      intro ad2 h1
      refine pk_eq k mm (fun c => nm_r (nI_1 k) (ih (k + 1) ad2 (by omega) (fi_rg_s (by omega) hm H h1 (Or.inl ⟨rfl, Or.inl c⟩)))) (fun c => ⟨i2, ?_⟩)
      rw [nI_clamp (by omega)]
      refine br_c (fun c3 => nm_r (nI_1 k) (ih (k + 1) ad2 (by omega) (fi_rg_s (by omega) hm H h1 (Or.inl ⟨rfl, Or.inr c3⟩)))) (fun c3 => ⟨i2, i2, i2, nm_e (nm_r (nI_1 k) (ih (k + 1) _ (by omega) (fi_rg_s (by omega) hm H h1 (Or.inr ⟨rfl, c, c3⟩))))⟩)
    refine pk_le 21 k (fun k => by omega) (fun _ => nm_r (fi_cell k mm) (nm_r (fi_cell mm k) ?_))
    refine pk_eq k mm (fun c => k79 ad (Or.inl ⟨rfl, Or.inl c⟩)) (fun c => ⟨i1, ?_⟩)
    rw [nI_clamp (by omega)]
    exact br_c (fun c3 => k79 ad (Or.inl ⟨rfl, Or.inr c3⟩)) (fun c3 => ⟨i1, i1, nm_e (k79 _ (Or.inr ⟨rfl, c, c3⟩))⟩)
theorem fx_closeRing {post : SX → Prop} {mm : Nat} (hm : mm < 21)
    (h : ∀ ad, (∀ e s s2 i j, e < 32 → i < 21 → j < 21 → (fi_K a_wayThere ad a_wayTakes e s s2 i j ↔ (fi_K a_wayThere a_wayAdds a_wayTakes e s s2 i j ∨
      (i ≠ mm ∧ j = mm ∧ s = false ∧ s2 = true ∧ fi_K a_wayThere a_wayAdds a_wayTakes e false false i mm ∧ fi_K a_wayThere a_wayAdds a_wayTakes e false true mm mm) ∨
      (i = mm ∧ j ≠ mm ∧ s = false ∧ s2 = true ∧ fi_K a_wayThere a_wayAdds a_wayTakes e false true mm mm ∧ fi_K a_wayThere a_wayAdds a_wayTakes e true true mm j)))) → post (f_count, f_edges, f_queueFirst, f_queueSize, f_backwards, f_walked, a_ops, a_targets, a_firsts, a_seconds, a_next, a_other, a_reached, a_edgeFrom, a_edgeTo, a_edgeAdds, a_edgeTakes, a_starts, a_bits, a_kept, a_queue, a_queued, a_wayThere, ad, a_wayTakes, a_number, a_walkNode, a_parent, a_least, a_linked, a_above, a_bucketFirst, a_bucketNext, a_pathNode)) :
    wpX_closeRing post (f_count, f_edges, f_queueFirst, f_queueSize, f_backwards, f_walked, a_ops, a_targets, a_firsts, a_seconds, a_next, a_other, a_reached, a_edgeFrom, a_edgeTo, a_edgeAdds, a_edgeTakes, a_starts, a_bits, a_kept, a_queue, a_queued, a_wayThere, a_wayAdds, a_wayTakes, a_number, a_walkNode, a_parent, a_least, a_linked, a_above, a_bucketFirst, a_bucketNext, a_pathNode) (nI mm) := by
  have c2 : mm * 21 + mm < 441 := by omega
  have i2 : vp_in (nI (mm * 21 + mm)) 441 := vp_in_nI c2 (by omega)
  refine nm_r (fi_cell mm mm) ⟨i2, ?_⟩
  rw [nI_clamp (by omega)]
  refine br_c (fun c => h a_wayAdds (fun e s s2 i j he hi hj => ⟨Or.inl, ?_⟩)) (fun c => ⟨i2, nm_e ?_⟩)
  · rintro (z | z | z)
    · exact z
    · exact absurd c (fi_K_th z.2.2.2.2.2)
    · exact absurd c (fi_K_th z.2.2.2.2.1)
  · refine ⟨_, fx_ring27 (ad0 := a_wayAdds) hm (fun ad R => h ad (fun e s s2 i j he hi hj => ?_)) 21 0 a_wayAdds (by omega) (fun i j e hi hj he => ?_)⟩
    · have q := R i j e hi hj he
      cases s <;> cases s2
      · exact ⟨Or.inl, fun z => z.elim id (fun y => y.elim (fun w => absurd w.2.2.2.1 (by decide)) (fun w => absurd w.2.2.2.1 (by decide)))⟩
      · show (¬ a_wayThere (i * 21 + j) = 0 ∧ bt (ad (i * 21 + j)) e = true) ↔ ((¬ a_wayThere (i * 21 + j) = 0 ∧ bt (a_wayAdds (i * 21 + j)) e = true) ∨ (i ≠ mm ∧ j = mm ∧ false = false ∧ true = true ∧ ¬ a_wayThere (i * 21 + mm) = 0 ∧ (¬ a_wayThere (mm * 21 + mm) = 0 ∧ bt (a_wayAdds (mm * 21 + mm)) e = true)) ∨ (i = mm ∧ j ≠ mm ∧ false = false ∧ true = true ∧ (¬ a_wayThere (mm * 21 + mm) = 0 ∧ bt (a_wayAdds (mm * 21 + mm)) e = true) ∧ (¬ a_wayThere (mm * 21 + j) = 0 ∧ bt (a_wayTakes (mm * 21 + j)) e = false)))
        rw [q]
        constructor
        · rintro ⟨z, y | ⟨_, y1, y2, y3, y4⟩ | ⟨y1, _, y2, y3, y4, y5⟩⟩
          · exact Or.inl ⟨z, y⟩
          · exact Or.inr (Or.inl ⟨y1, y2, rfl, rfl, y3, c, y4⟩)
          · exact Or.inr (Or.inr ⟨y1, y2, rfl, rfl, ⟨c, y4⟩, y3, y5⟩)
        · rintro (⟨z, y⟩ | ⟨y1, y2, _, _, y3, _, y4⟩ | ⟨y1, y2, _, _, ⟨_, y4⟩, y3, y5⟩)
          · exact ⟨z, Or.inl y⟩
          · exact ⟨by rw [y2]; exact y3, Or.inr (Or.inl ⟨hi, y1, y2, y3, y4⟩)⟩
          · exact ⟨by rw [y1]; exact y3, Or.inr (Or.inr ⟨y1, hj, y2, y3, y4, y5⟩)⟩
      · exact ⟨Or.inl, fun z => z.elim id (fun y => y.elim (fun w => absurd w.2.2.1 (by decide)) (fun w => absurd w.2.2.1 (by decide)))⟩
      · exact ⟨Or.inl, fun z => z.elim id (fun y => y.elim (fun w => absurd w.2.2.1 (by decide)) (fun w => absurd w.2.2.1 (by decide)))⟩
    · exact ⟨Or.inl, fun z => z.elim id (fun y => y.elim (fun w => by omega) (fun w => by omega))⟩
end
end
section
/-- what the ways hold when N middles are done, at the bit e -/
def fi_fl (N m : Nat) (ef et : Nat → Nat) (xa xk st th ad tk : Nat → Int32) (e : Nat) : Prop :=
  (∀ k s s2, k < m → fi_Mw (xa k) (xk k) e s s2 → fi_K th ad tk e s s2 (ef k) (et k)) ∧
  (∀ k, k < N → ∀ i j s s1 s2, i < 21 → j < 21 → fi_K th ad tk e s s1 i k → fi_K th ad tk e s1 s2 k j → fi_K th ad tk e s s2 i j) ∧
  (∀ i j, i < 21 → j < 21 → (fi_K th ad tk e false true i j → fi_lf m ef et xa xk st j e) ∧ (fi_K th ad tk e true true i j → fi_lf m ef et xa xk st i e → fi_lf m ef et xa xk st j e))
theorem fi_fl_s {N m : Nat} {ef et : Nat → Nat} {xa xk st th ad tk th2 ad2 tk2 : Nat → Int32} {e : Nat} (hN : N < 21) (hE : ∀ k, k < m → ef k < 21 ∧ et k < 21) (F : fi_fl N m ef et xa xk st th ad tk e)
    (h : ∀ i j s s2, i < 21 → j < 21 → (fi_K th2 ad2 tk2 e s s2 i j ↔ (fi_K th ad tk e s s2 i j ∨ fi_X (fi_K th ad tk e) N s s2 i j))) : fi_fl (N + 1) m ef et xa xk st th2 ad2 tk2 e := by
  refine ⟨fun k s s2 hk w => ?_, ?_, ?_⟩
  · exact (h _ _ s s2 (hE k hk).1 (hE k hk).2).mpr (Or.inl (F.1 k s s2 hk w))
  · exact fi_st_cl (fun i j => fi_K_tf i j) hN h F.2.1
  · exact fi_st_so (D := fun x => fi_lf m ef et xa xk st x e) (fun i j => fi_K_tf i j) hN h F.2.2
/-- the bits that the ways bring -/
def fi_wy (st th ad tk : Nat → Int32) (i x e : Nat) : Prop := fi_K th ad tk e false true i x ∨ (fi_K th ad tk e true true i x ∧ bt (st i) e = true)
theorem fi_wy_fin {m : Nat} {ef et : Nat → Nat} {xf xt xa xk st th ad tk b : Nat → Int32} (P : fi_pb m ef et xf xt xa st) (F : ∀ e, e < 32 → fi_fl 21 m ef et xa xk st th ad tk e)
    (hb : ∀ x e, x < 21 → e < 32 → (bt (b x) e = true ↔ (bt (st x) e = true ∨ ∃ i, i < 21 ∧ fi_wy st th ad tk i x e))) : ∀ x, x < 21 → fi_is (b x) (fi_lf m ef et xa xk st x) := by
  refine fi_fin P (fun x e hx he z => ?_) (fun x e hx he z => (hb x e hx he).mpr (Or.inl z)) (fun k hk e he => ?_)
  · rcases (hb x e hx he).mp z with z | ⟨i, hi, z | z⟩
    · exact fi_lf_st hx z
    · exact ((F e he).2.2 i x hi hx).1 z
    · exact ((F e he).2.2 i x hi hx).2 z.1 (fi_lf_st hi z.2)
  · obtain ⟨_, pf, _, pt⟩ := P.2.1 k hk
    obtain ⟨F1, F2, F3⟩ := F e he
    refine ⟨fun z => (hb _ e pt he).mpr (Or.inr ⟨ef k, pf, Or.inl (F1 k false true hk z)⟩), fun z1 z2 => (hb _ e pt he).mpr (Or.inr ?_)⟩
    have w := F1 k true true hk z2
    rcases (hb _ e pf he).mp z1 with z | ⟨i, hi, z | z⟩
    · exact ⟨ef k, pf, Or.inr ⟨w, z⟩⟩
    · exact ⟨i, hi, Or.inl (F2 (ef k) pf i (et k) _ _ _ hi pt z w)⟩
    · exact ⟨i, hi, Or.inr ⟨F2 (ef k) pf i (et k) _ _ _ hi pt z.1 w, z.2⟩⟩
section
variable {f_count f_edges f_queueFirst f_queueSize f_backwards f_walked : Int32} {a_ops a_targets a_firsts a_seconds a_next a_other a_reached a_edgeFrom a_edgeTo a_edgeAdds a_edgeTakes a_starts a_bits a_kept a_queue a_queued a_wayThere a_wayAdds a_wayTakes a_number a_walkNode a_parent a_least a_linked a_above a_bucketFirst a_bucketNext a_pathNode : Nat → Int32}
variable {m : Nat} {ef et : Nat → Nat}
theorem fx_put80 {post : SX → Prop} {J : Int32 → Int32 → Int32 → Int32 → Int32 → Int32 → Int32 → (Nat → Int32) → (Nat → Int32) → (Nat → Int32) → (Nat → Int32) → (Nat → Int32) → (Nat → Int32) → (Nat → Int32) → (Nat → Int32) → (Nat → Int32) → (Nat → Int32) → (Nat → Int32) → (Nat → Int32) → (Nat → Int32) → (Nat → Int32) → (Nat → Int32) → (Nat → Int32) → (Nat → Int32) → (Nat → Int32) → (Nat → Int32) → (Nat → Int32) → (Nat → Int32) → (Nat → Int32) → (Nat → Int32) → (Nat → Int32) → (Nat → Int32) → (Nat → Int32) → (Nat → Int32) → (Nat → Int32) → Prop} {mm : Nat} {th0 ad0 tk0 : Nat → Int32} (hm : mm < 21)
    (h : ∀ th ad tk, (∀ e, e < 32 → ∀ i j s s2, i < 21 → j < 21 → (fi_K th ad tk e s s2 i j ↔ (fi_K th0 ad0 tk0 e s s2 i j ∨ fi_X (fi_K th0 ad0 tk0 e) mm s s2 i j))) → J (nI (mm + 1)) f_count f_edges f_queueFirst f_queueSize f_backwards f_walked a_ops a_targets a_firsts a_seconds a_next a_other a_reached a_edgeFrom a_edgeTo a_edgeAdds a_edgeTakes a_starts a_bits a_kept a_queue a_queued th ad tk a_number a_walkNode a_parent a_least a_linked a_above a_bucketFirst a_bucketNext a_pathNode) :
    ∀ d f th ad tk, f + d = 21 → (∀ e s s2 p j, e < 32 → p < 21 → j < 21 → (fi_K th ad tk e s s2 p j ↔ (fi_K th0 ad0 tk0 e s s2 p j ∨ (p < f ∧ p ≠ mm ∧ j ≠ mm ∧ fi_X (fi_K th0 ad0 tk0 e) mm s s2 p j)))) →
      wX_putWaysTogether_80 post J (nI mm) (d + 1) (nI f) f_count f_edges f_queueFirst f_queueSize f_backwards f_walked a_ops a_targets a_firsts a_seconds a_next a_other a_reached a_edgeFrom a_edgeTo a_edgeAdds a_edgeTakes a_starts a_bits a_kept a_queue a_queued th ad tk a_number a_walkNode a_parent a_least a_linked a_above a_bucketFirst a_bucketNext a_pathNode := by
  intro d
  induction d with
  | zero =>
    intro f th ad tk hf H
    refine pk_le 21 f (fun _ => fx_closeRing hm (fun ad2 R => nm_r (nI_1 mm) (h th ad2 tk (fun e he i j s s2 hi hj => ?_)))) (fun k => by omega)
    have cm : ∀ s s2 p, p < 21 → (fi_K th ad tk e s s2 p mm ↔ fi_K th0 ad0 tk0 e s s2 p mm) := fun s s2 p hp => by
      rw [H e s s2 p mm he hp hm]
      exact ⟨fun z => z.elim id (fun y => absurd rfl y.2.2.1), Or.inl⟩
    have rm : ∀ s s2 j, j < 21 → (fi_K th ad tk e s s2 mm j ↔ fi_K th0 ad0 tk0 e s s2 mm j) := fun s s2 j hj => by
      rw [H e s s2 mm j he hm hj]
      exact ⟨fun z => z.elim id (fun y => absurd rfl y.2.1), Or.inl⟩
    refine fi_st_all (fun i j => fi_K_tf i j) ?_
    rw [R e s s2 i j he hi hj, H e s s2 i j he hi hj, cm false false i hi, cm false true mm hm, rm true true j hj]
    constructor
    · rintro ((z | z) | z | z)
      · exact Or.inl z
      · exact Or.inr (Or.inl z.2)
      · exact Or.inr (Or.inr (Or.inl z))
      · exact Or.inr (Or.inr (Or.inr z))
    · rintro (z | z | z | z)
      · exact Or.inl (Or.inl z)
      · exact Or.inl (Or.inr ⟨by omega, z⟩)
      · exact Or.inr (Or.inl z)
      · exact Or.inr (Or.inr z)
  | succ d ih =>
    intro f th ad tk hf H
    refine pk_le 21 f (fun k => by omega) (fun _ => fx_joinOver (by omega) hm (fun th2 ad2 tk2 G => nm_r (nI_1 f) (ih (f + 1) th2 ad2 tk2 (by omega) (fun e s s2 p j he hp hj => ?_))))
    have cm : ∀ s s2 p, p < 21 → (fi_K th ad tk e s s2 p mm ↔ fi_K th0 ad0 tk0 e s s2 p mm) := fun s s2 p hp => by
      rw [H e s s2 p mm he hp hm]
      exact ⟨fun z => z.elim id (fun y => absurd rfl y.2.2.1), Or.inl⟩
    have rm : ∀ s s2 j, j < 21 → (fi_K th ad tk e s s2 mm j ↔ fi_K th0 ad0 tk0 e s s2 mm j) := fun s s2 j hj => by
      rw [H e s s2 mm j he hm hj]
      exact ⟨fun z => z.elim id (fun y => absurd rfl y.2.1), Or.inl⟩
    have xx : fi_X (fi_K th ad tk e) mm s s2 f j ↔ fi_X (fi_K th0 ad0 tk0 e) mm s s2 f j := by
      unfold fi_X
      constructor
      · rintro ⟨s1, s3, a, b, c⟩
        exact ⟨s1, s3, (cm _ _ f (by omega)).mp a, b.imp id (cm _ _ mm hm).mp, (rm _ _ j hj).mp c⟩
      · rintro ⟨s1, s3, a, b, c⟩
        exact ⟨s1, s3, (cm _ _ f (by omega)).mpr a, b.imp id (cm _ _ mm hm).mpr, (rm _ _ j hj).mpr c⟩
    rw [G e s s2 p j he hp hj, H e s s2 p j he hp hj, xx]
    constructor
    · rintro ((z | z) | z)
      · exact Or.inl z
      · exact Or.inr ⟨by omega, z.2⟩
      · obtain ⟨z1, z2, z3, z4⟩ := z
        subst z1
        exact Or.inr ⟨by omega, z2, z3, z4⟩
    · rintro (z | ⟨z1, z2, z3, z4⟩)
      · exact Or.inl (Or.inl z)
      · by_cases c : p = f
        · subst c; exact Or.inr ⟨rfl, z2, z3, z4⟩
        · exact Or.inl (Or.inr ⟨by omega, z2, z3, z4⟩)
theorem fx_put {post : SX → Prop} (P : fi_pb m ef et a_edgeFrom a_edgeTo a_edgeAdds a_starts)
    (h : ∀ th ad tk, (∀ e, e < 32 → fi_fl 21 m ef et a_edgeAdds a_edgeTakes a_starts th ad tk e) → post (f_count, nI m, f_queueFirst, f_queueSize, f_backwards, f_walked, a_ops, a_targets, a_firsts, a_seconds, a_next, a_other, a_reached, a_edgeFrom, a_edgeTo, a_edgeAdds, a_edgeTakes, a_starts, a_bits, a_kept, a_queue, a_queued, th, ad, tk, a_number, a_walkNode, a_parent, a_least, a_linked, a_above, a_bucketFirst, a_bucketNext, a_pathNode)) : wpX_putWaysTogether post (f_count, nI m, f_queueFirst, f_queueSize, f_backwards, f_walked, a_ops, a_targets, a_firsts, a_seconds, a_next, a_other, a_reached, a_edgeFrom, a_edgeTo, a_edgeAdds, a_edgeTakes, a_starts, a_bits, a_kept, a_queue, a_queued, a_wayThere, a_wayAdds, a_wayTakes, a_number, a_walkNode, a_parent, a_least, a_linked, a_above, a_bucketFirst, a_bucketNext, a_pathNode) := by
  have hE : ∀ k, k < m → ef k < 21 ∧ et k < 21 := fun k hk => ⟨(P.2.1 k hk).2.1, (P.2.1 k hk).2.2.2⟩
  have hm := P.1
  have k72 : ∀ d i th ad tk, i + d = 21 → (∀ e, e < 32 → fi_fl i m ef et a_edgeAdds a_edgeTakes a_starts th ad tk e) → wX_putWaysTogether_72 post (d + 1) (nI i) f_count (nI m) f_queueFirst f_queueSize f_backwards f_walked a_ops a_targets a_firsts a_seconds a_next a_other a_reached a_edgeFrom a_edgeTo a_edgeAdds a_edgeTakes a_starts a_bits a_kept a_queue a_queued th ad tk a_number a_walkNode a_parent a_least a_linked a_above a_bucketFirst a_bucketNext a_pathNode := by
    intro d
    induction d with
    | zero =>
      intro i th ad tk hi H
      have : i = 21 := by omega
      subst this
      exact pk_le 21 21 (fun _ => h th ad tk H) (fun k => by omega)
    | succ d ih =>
      intro i th ad tk hi H
      refine pk_le 21 i (fun k => by omega) (fun _ => ⟨_, fx_put80 (th0 := th) (ad0 := ad) (tk0 := tk) (by omega) (fun th2 ad2 tk2 G => ?_) 21 0 th ad tk (by omega) (fun e s s2 p j he hp hj => ⟨Or.inl, fun z => z.elim id (fun y => by omega)⟩)⟩)
      exact ih (i + 1) th2 ad2 tk2 (by omega) (fun e he => fi_fl_s (by omega) hE (H e he) (G e he))
  have k24 : ∀ d k th ad tk, k + d = m → (∀ e s s2 i j, i < 21 → j < 21 → (fi_K th ad tk e s s2 i j ↔ ∃ q, q < k ∧ ef q = i ∧ et q = j ∧ fi_Mw (a_edgeAdds q) (a_edgeTakes q) e s s2)) →
      wX_putWaysTogether_24 post (d + 1) (nI k) f_count (nI m) f_queueFirst f_queueSize f_backwards f_walked a_ops a_targets a_firsts a_seconds a_next a_other a_reached a_edgeFrom a_edgeTo a_edgeAdds a_edgeTakes a_starts a_bits a_kept a_queue a_queued th ad tk a_number a_walkNode a_parent a_least a_linked a_above a_bucketFirst a_bucketNext a_pathNode := by
    intro d
    induction d with
    | zero =>
      intro k th ad tk hk H
      have : k = m := by omega
      subst this
      refine pk_le k k (fun _ => ⟨_, k72 21 0 th ad tk (by omega) (fun e he => ⟨fun q s s2 hq w => ?_, fun q hq => by omega, fun i j hi hj => ⟨fun z => ?_, fun z y => ?_⟩⟩)⟩) (fun k => by omega)
      · exact (H e s s2 _ _ (hE q hq).1 (hE q hq).2).mpr ⟨q, hq, rfl, rfl, w⟩
      · obtain ⟨q, q1, q2, q3, q4⟩ := (H e _ _ i j hi hj).mp z
        rw [← q3]
        exact fi_lf_ad q1 q4
      · obtain ⟨q, q1, q2, q3, q4⟩ := (H e _ _ i j hi hj).mp z
        rw [← q3]
        rw [← q2] at y
        exact fi_lf_tk q1 y q4
    | succ d ih =>
      intro k th ad tk hk H
      obtain ⟨p1, p2, p3, p4⟩ := P.2.1 k (by omega)
      have ik : vp_in (nI k) 40 := vp_in_nI (by omega) (by omega)
      refine pk_le m k (fun k => by omega) (fun _ => ⟨ik, ik, ik, ik, ?_⟩)
      rw [nI_clamp (by omega), p1, p3, fi_cell]
      refine fx_joinWay (by omega) (fun th2 ad2 tk2 g1 g2 => nm_r (nI_1 k) (ih (k + 1) th2 ad2 tk2 (by omega) (fun e s s2 i j hi hj => ?_)))
      show fi_Mc th2 ad2 tk2 e s s2 (i * 21 + j) ↔ _
      have q := H e s s2 i j hi hj
      unfold fi_K at q
      rw [g1, q]
      constructor
      · rintro (⟨q, q1, q2⟩ | ⟨z1, z2⟩)
        · exact ⟨q, by omega, q2⟩
        · exact ⟨k, by omega, by omega, by omega, z2⟩
      · rintro ⟨q, q1, q2, q3, q4⟩
        by_cases c : q = k
        · subst c; exact Or.inr ⟨by rw [q2, q3], q4⟩
        · exact Or.inl ⟨q, by omega, q2, q3, q4⟩
  have k2 : ∀ d i th, i + d = 441 → (∀ c, c < i → th c = 0) → wX_putWaysTogether_2 post f_count (nI m) f_queueFirst f_queueSize f_backwards f_walked (d + 1) (nI i) a_ops a_targets a_firsts a_seconds a_next a_other a_reached a_edgeFrom a_edgeTo a_edgeAdds a_edgeTakes a_starts a_bits a_kept a_queue a_queued th a_wayAdds a_wayTakes a_number a_walkNode a_parent a_least a_linked a_above a_bucketFirst a_bucketNext a_pathNode := by
    intro d
    induction d with
    | zero =>
      intro i th hi H
      refine pk_le 441 i (fun _ => ⟨_, k24 m 0 th a_wayAdds a_wayTakes (by omega) (fun e s s2 p j hp hj => ⟨fun z => ?_, fun ⟨q, q1, _⟩ => by omega⟩)⟩) (fun k => by omega)
      exact absurd (H _ (by omega)) (fi_K_th z)
    | succ d ih =>
      intro i th hi H
      refine pk_le 441 i (fun k => by omega) (fun _ => ⟨vp_in_nI (by omega) (by omega), nm_r (e' := upd th i 0) (by rw [nI_clamp (by omega)]; rfl) (nm_r (nI_1 i) (ih (i + 1) _ (by omega) (fun c hc => ?_)))⟩)
      by_cases e : c = i
      · subst e; exact pk_us
      · rw [pk_un e]; exact H c (by omega)
  exact ⟨_, k2 441 0 a_wayThere (by omega) (fun c hc => by omega)⟩
/-- engine 2 -/
theorem fx_ways {post : SX → Prop} (P : fi_pb m ef et a_edgeFrom a_edgeTo a_edgeAdds a_starts)
    (h : ∀ b th ad tk, (∀ x, x < 21 → fi_is (b x) (fi_lf m ef et a_edgeAdds a_edgeTakes a_starts x)) → post (f_count, nI m, f_queueFirst, f_queueSize, f_backwards, f_walked, a_ops, a_targets, a_firsts, a_seconds, a_next, a_other, a_reached, a_edgeFrom, a_edgeTo, a_edgeAdds, a_edgeTakes, a_starts, b, a_kept, a_queue, a_queued, th, ad, tk, a_number, a_walkNode, a_parent, a_least, a_linked, a_above, a_bucketFirst, a_bucketNext, a_pathNode)) : wpX_solveByWays post (f_count, nI m, f_queueFirst, f_queueSize, f_backwards, f_walked, a_ops, a_targets, a_firsts, a_seconds, a_next, a_other, a_reached, a_edgeFrom, a_edgeTo, a_edgeAdds, a_edgeTakes, a_starts, a_bits, a_kept, a_queue, a_queued, a_wayThere, a_wayAdds, a_wayTakes, a_number, a_walkNode, a_parent, a_least, a_linked, a_above, a_bucketFirst, a_bucketNext, a_pathNode) := by
  unfold wpX_solveByWays
  refine fx_put P (fun th ad tk F => fx_startBits (fun b0 hb0 => ?_))
  have k10 : ∀ d i b, i + d = 21 → (∀ x e, x < 21 → e < 32 → (bt (b x) e = true ↔ (bt (a_starts x) e = true ∨ ∃ p, p < i ∧ fi_wy a_starts th ad tk p x e))) →
      wX_solveByWays_10 post f_count (nI m) f_queueFirst f_queueSize f_backwards f_walked (d + 1) (nI i) a_ops a_targets a_firsts a_seconds a_next a_other a_reached a_edgeFrom a_edgeTo a_edgeAdds a_edgeTakes a_starts b a_kept a_queue a_queued th ad tk a_number a_walkNode a_parent a_least a_linked a_above a_bucketFirst a_bucketNext a_pathNode := by
    intro d
    induction d with
    | zero =>
      intro i b hi H
      have : i = 21 := by omega
      subst this
      exact pk_le 21 21 (fun _ => h b th ad tk (fi_wy_fin P F H)) (fun k => by omega)
    | succ d ih =>
      intro i b hi H
      have k18 : ∀ d2 j b2, j + d2 = 21 → (∀ x e, x < 21 → e < 32 → (bt (b2 x) e = true ↔ (bt (b x) e = true ∨ (x < j ∧ fi_wy a_starts th ad tk i x e)))) →
          wX_solveByWays_18 post (wX_solveByWays_10 post f_count (nI m) f_queueFirst f_queueSize f_backwards f_walked (d + 1)) (nI i) f_count (nI m) f_queueFirst f_queueSize f_backwards f_walked (d2 + 1) (nI j) a_ops a_targets a_firsts a_seconds a_next a_other a_reached a_edgeFrom a_edgeTo a_edgeAdds a_edgeTakes a_starts b2 a_kept a_queue a_queued th ad tk a_number a_walkNode a_parent a_least a_linked a_above a_bucketFirst a_bucketNext a_pathNode := by
        intro d2
        induction d2 with
        | zero =>
          intro j b2 hj H2
          refine pk_le 21 j (fun _ => nm_r (nI_1 i) (ih (i + 1) b2 (by omega) (fun x e hx he => ?_))) (fun k => by omega)
          rw [H2 x e hx he, H x e hx he]
          constructor
          · rintro ((z | ⟨p, p1, p2⟩) | z)
            · exact Or.inl z
            · exact Or.inr ⟨p, by omega, p2⟩
            · exact Or.inr ⟨i, by omega, z.2⟩
          · rintro (z | ⟨p, p1, p2⟩)
            · exact Or.inl (Or.inl z)
            · by_cases c : p = i
              · subst c; exact Or.inr ⟨by omega, p2⟩
              · exact Or.inl (Or.inr ⟨p, by omega, p2⟩)
        | succ d2 ih2 =>
          intro j b2 hj H2
          have ic : vp_in (nI (i * 21 + j)) 441 := vp_in_nI (by omega) (by omega)
          refine pk_le 21 j (fun k => by omega) (fun _ => nm_r (fi_cell i j) ⟨ic, ?_⟩)
          rw [nI_clamp (show i * 21 + j < 2 ^ 31 by omega)]
          refine br_c (fun c => nm_r (nI_1 j) (ih2 (j + 1) b2 (by omega) (fun x e hx he => ?_))) (fun c => ⟨vp_in_nI (by omega) (by omega), ic, vp_in_nI (by omega) (by omega), ic, vp_in_nI (by omega) (by omega), ?_⟩)
          · rw [H2 x e hx he]
            refine ⟨fun z => z.imp id (fun y => ⟨by omega, y.2⟩), fun z => z.imp id (fun y => ⟨?_, y.2⟩)⟩
            by_cases cx : x = j
            · subst cx
              rcases y.2 with w | w
              · exact absurd c (fi_K_th w)
              · exact absurd c (fi_K_th w.1)
            · omega
          · rw [nI_clamp (show j < 2 ^ 31 by omega), nI_clamp (show i < 2 ^ 31 by omega)]
            refine nm_e (nm_r (nI_1 j) (ih2 (j + 1) _ (by omega) (fun x e hx he => ?_)))
            by_cases cx : x = j
            · subst cx
              rw [pk_us, b_or, b_or, b_and, fi_not _ he, Bool.or_eq_true, Bool.or_eq_true, Bool.and_eq_true, H2 x e hx he]
              constructor
              · rintro ((z | z) | z | z)
                · exact Or.inl z
                · omega
                · exact Or.inr ⟨by omega, Or.inl ⟨c, z⟩⟩
                · exact Or.inr ⟨by omega, Or.inr ⟨⟨c, by simpa using z.2⟩, z.1⟩⟩
              · rintro (z | ⟨_, z | z⟩)
                · exact Or.inl (Or.inl z)
                · exact Or.inr (Or.inl z.2)
                · exact Or.inr (Or.inr ⟨z.2, by simpa using z.1.2⟩)
            · rw [pk_un cx, H2 x e hx he]
              exact ⟨fun z => z.imp id (fun y => ⟨by omega, y.2⟩), fun z => z.imp id (fun y => ⟨by omega, y.2⟩)⟩
      exact pk_le 21 i (fun k => by omega) (fun _ => ⟨_, k18 21 0 b (by omega) (fun x e hx he => ⟨Or.inl, fun z => z.elim id (fun y => by omega)⟩)⟩)
  exact ⟨_, k10 21 0 b0 (by omega) (fun x e hx he => by rw [hb0 x hx]; exact ⟨Or.inl, fun z => z.elim id (fun ⟨p, p1, _⟩ => by omega)⟩)⟩
end
end
section
def fi_src (ah : Bool) (p q : Nat) : Nat := if ah = true then q else p
def fi_dst (ah : Bool) (p q : Nat) : Nat := if ah = true then p else q
def fi_ah (f : Nat) : Bool := decide (f = 1 ∨ f = 3)
def fi_act (n : Nat) (O B : Nat → Nat) (ah : Bool) (p : Nat) : Prop := ah = true ∨ fi_RE n O B p
def fi_ST (n : Nat) (O A B : Nat → Nat) (f x e : Nat) : Prop := (f = 2 ∧ x = fi_nd n 0 ∧ fi_nm n O A B e) ∨ (f = 3 ∧ x = 20 ∧ fi_nm n O A B e) ∨ (f = 4 ∧ x = fi_nd n 0 ∧ e < 6)
/-- the least set that holds the starts and goes along (or against) the steps -/
def fi_LF (ah : Bool) (act : Nat → Prop) (E : Nat → Nat → Prop) (AD TK ST : Nat → Prop) (x : Nat) : Prop :=
  ∀ S : Nat → Prop, (∀ y, ST y → S y) → (∀ p q, act p → E p q → AD p → S (fi_dst ah p q)) → (∀ p q, act p → E p q → S (fi_src ah p q) → ¬ TK p → S (fi_dst ah p q)) → S x
def fi_FX (n : Nat) (O V A B : Nat → Nat) (f x e : Nat) : Prop :=
  fi_LF (fi_ah f) (fi_act n O B (fi_ah f)) (fi_E n O B) (fun p => fi_AD n O V A B f p e) (fun p => fi_TK n O V A B f p e) (fun y => fi_ST n O A B f y e) x
def fi_gd (n : Nat) (O V A B : Nat → Nat) (f : Nat) (ah : Bool) (xf xt xa xk : Nat → Int32) (k p q : Nat) : Prop :=
  xf k = nI (fi_src ah p q) ∧ xt k = nI (fi_dst ah p q) ∧ fi_is (xa k) (fi_AD n O V A B f p) ∧ fi_is (xk k) (fi_TK n O V A B f p)
/-- the edges 0 .. m - 1 are those of Q -/
def fi_es (n : Nat) (O V A B : Nat → Nat) (f : Nat) (ah : Bool) (Q : Nat → Nat → Prop) (m : Nat) (xf xt xa xk : Nat → Int32) : Prop :=
  (∀ k, k < m → ∃ p q, Q p q ∧ fi_gd n O V A B f ah xf xt xa xk k p q) ∧ (∀ p q, Q p q → ∃ k, k < m ∧ fi_gd n O V A B f ah xf xt xa xk k p q)
section
variable {n : Nat} {O V A B : Nat → Nat} {f : Nat} {ah : Bool} {Q Q2 : Nat → Nat → Prop} {m : Nat} {xf xt xa xk st : Nat → Int32}
theorem fi_es_c (h : fi_es n O V A B f ah Q m xf xt xa xk) (e : ∀ p q, Q p q ↔ Q2 p q) : fi_es n O V A B f ah Q2 m xf xt xa xk :=
  ⟨fun k hk => by
    obtain ⟨p, q, a, b⟩ := h.1 k hk
    exact ⟨p, q, (e p q).mp a, b⟩, fun p q a => h.2 p q ((e p q).mpr a)⟩
theorem fi_es_a {a0 t0 : Int32} {p0 q0 : Nat} (h : fi_es n O V A B f ah Q m xf xt xa xk) (ha : fi_is a0 (fi_AD n O V A B f p0)) (ht : fi_is t0 (fi_TK n O V A B f p0)) :
    fi_es n O V A B f ah (fun p q => Q p q ∨ (p = p0 ∧ q = q0)) (m + 1) (upd xf m (nI (fi_src ah p0 q0))) (upd xt m (nI (fi_dst ah p0 q0))) (upd xa m a0) (upd xk m t0) := by
  have new : fi_gd n O V A B f ah (upd xf m (nI (fi_src ah p0 q0))) (upd xt m (nI (fi_dst ah p0 q0))) (upd xa m a0) (upd xk m t0) m p0 q0 := by
    unfold fi_gd
    rw [pk_us, pk_us, pk_us, pk_us]
    exact ⟨rfl, rfl, ha, ht⟩
  have old : ∀ k p q, k < m → (fi_gd n O V A B f ah (upd xf m (nI (fi_src ah p0 q0))) (upd xt m (nI (fi_dst ah p0 q0))) (upd xa m a0) (upd xk m t0) k p q ↔ fi_gd n O V A B f ah xf xt xa xk k p q) := by
    intro k p q hk
    unfold fi_gd
    rw [pk_un (by omega), pk_un (by omega), pk_un (by omega), pk_un (by omega)]
  constructor
  · intro k hk
    by_cases e : k = m
    · subst e; exact ⟨p0, q0, Or.inr ⟨rfl, rfl⟩, new⟩
    · obtain ⟨p, q, a, b⟩ := h.1 k (by omega)
      exact ⟨p, q, Or.inl a, (old k p q (by omega)).mpr b⟩
  · rintro p q (a | ⟨a, b⟩)
    · obtain ⟨k, hk, b⟩ := h.2 p q a
      exact ⟨k, by omega, (old k p q hk).mpr b⟩
    · subst a; subst b; exact ⟨m, by omega, new⟩
theorem fi_src_lt {p q : Nat} (hp : p < 21) (hq : q < 21) : fi_src ah p q < 21 := by unfold fi_src; split <;> assumption
theorem fi_dst_lt {p q : Nat} (hp : p < 21) (hq : q < 21) : fi_dst ah p q < 21 := by unfold fi_dst; split <;> assumption
theorem fi_AD_lo {xo xv xa xb : Nat → Int32} (hC : fi_C n O V A B xo xv xa xb) {p e : Nat} (hp : p < n) (h : fi_AD n O V A B f p e) : e < 20 := by
  have hn := hC.1
  have cp := hC.2 p hp
  rcases h with ⟨_, _, h⟩ | ⟨_, ⟨h1, h2⟩ | ⟨h1, h2⟩⟩ | ⟨_, h, _⟩ | ⟨_, h, _⟩
  · omega
  · have := (cp.2.2.2.1 h1).2; omega
  · have := (cp.2.2.2.2.1 h1).2; omega
  · have := h.1; omega
  · have := h.1; omega
theorem fi_ST_lo (hn : n ≤ 20) {x e : Nat} (h : fi_ST n O A B f x e) : e < 20 ∧ x < 21 := by
  have := fi_nd_lt (t := 0) hn
  rcases h with ⟨_, a, b⟩ | ⟨_, a, b⟩ | ⟨_, a, b⟩
  · have := b.1; omega
  · have := b.1; omega
  · omega
theorem fi_es_pb {xo xv xy xb : Nat → Int32} (hC : fi_C n O V A B xo xv xy xb) (hm : m ≤ 40) (hQ : ∀ p q, Q p q → p < n ∧ q < 21) (h : fi_es n O V A B f ah Q m xf xt xa xk) (hs : ∀ x, x < 21 → fi_is (st x) (fi_ST n O A B f x)) :
    fi_pb m (fun k => (xf k).toNatClampNeg) (fun k => (xt k).toNatClampNeg) xf xt xa st := by
  have hn := hC.1
  refine ⟨hm, fun k hk => ?_, fun k e hk h1 h2 => ?_, fun x e hx h1 h2 => ?_⟩
  · obtain ⟨p, q, a, b1, b2, _⟩ := h.1 k hk
    have hp := hQ p q a
    have s1 := fi_src_lt (ah := ah) (show p < 21 by omega) hp.2
    have s2 := fi_dst_lt (ah := ah) (show p < 21 by omega) hp.2
    dsimp only
    rw [b1, b2, nI_clamp (by omega), nI_clamp (by omega)]
    exact ⟨rfl, s1, rfl, s2⟩
  · obtain ⟨p, q, a, b1, b2, b3, _⟩ := h.1 k hk
    cases c : bt (xa k) e with
    | false => rfl
    | true =>
      have := fi_AD_lo hC (hQ p q a).1 ((b3 e h2).mp c)
      omega
  · cases c : bt (st x) e with
    | false => rfl
    | true =>
      have := (fi_ST_lo hn ((hs x hx e h2).mp c)).1
      omega
theorem fi_es_lf {act : Nat → Prop} {E : Nat → Nat → Prop} {x e : Nat} (he : e < 32) (hn : n ≤ 20) (hQ : ∀ p q, E p q → p < n ∧ q < 21) (h : fi_es n O V A B f ah (fun p q => act p ∧ E p q) m xf xt xa xk) (hs : ∀ x, x < 21 → fi_is (st x) (fi_ST n O A B f x)) :
    fi_lf m (fun k => (xf k).toNatClampNeg) (fun k => (xt k).toNatClampNeg) xa xk st x e ↔ fi_LF ah act E (fun p => fi_AD n O V A B f p e) (fun p => fi_TK n O V A B f p e) (fun y => fi_ST n O A B f y e) x := by
  have cl : ∀ k p q, E p q → fi_gd n O V A B f ah xf xt xa xk k p q → (xf k).toNatClampNeg = fi_src ah p q ∧ (xt k).toNatClampNeg = fi_dst ah p q := by
    rintro k p q a ⟨b1, b2, _⟩
    have hp := hQ p q a
    have s1 := fi_src_lt (ah := ah) (show p < 21 by omega) hp.2
    have s2 := fi_dst_lt (ah := ah) (show p < 21 by omega) hp.2
    rw [b1, b2, nI_clamp (by omega), nI_clamp (by omega)]
    exact ⟨rfl, rfl⟩
  constructor
  · intro H S h1 h2 h3
    refine H S (fun y hy z => h1 y ((hs y hy e he).mp z)) (fun k hk z => ?_) (fun k hk z t => ?_)
    · obtain ⟨p, q, a, b⟩ := h.1 k hk
      obtain ⟨c1, c2⟩ := cl k p q a.2 b
      dsimp only
      rw [c2]
      exact h2 p q a.1 a.2 ((b.2.2.1 e he).mp z)
    · obtain ⟨p, q, a, b⟩ := h.1 k hk
      obtain ⟨c1, c2⟩ := cl k p q a.2 b
      dsimp only at z ⊢
      rw [c2]
      rw [c1] at z
      exact h3 p q a.1 a.2 z (fun y => by rw [(b.2.2.2 e he).mpr y] at t; exact absurd t (by decide))
  · intro H S h1 h2 h3
    refine H S (fun y z => ?_) (fun p q a1 a2 z => ?_) (fun p q a1 a2 z t => ?_)
    · have hy := (fi_ST_lo hn z).2
      exact h1 y hy ((hs y hy e he).mpr z)
    · obtain ⟨k, hk, b⟩ := h.2 p q ⟨a1, a2⟩
      obtain ⟨c1, c2⟩ := cl k p q a2 b
      rw [← c2]
      exact h2 k hk ((b.2.2.1 e he).mpr z)
    · obtain ⟨k, hk, b⟩ := h.2 p q ⟨a1, a2⟩
      obtain ⟨c1, c2⟩ := cl k p q a2 b
      rw [← c2]
      rw [← c1] at z
      refine h3 k hk z ?_
      cases c : bt (xk k) e with
      | false => rfl
      | true => exact absurd ((b.2.2.2 e he).mp c) t
end
section
variable {f_count f_edges f_queueFirst f_queueSize f_backwards f_walked : Int32} {a_ops a_targets a_firsts a_seconds a_next a_other a_reached a_edgeFrom a_edgeTo a_edgeAdds a_edgeTakes a_starts a_bits a_kept a_queue a_queued a_wayThere a_wayAdds a_wayTakes a_number a_walkNode a_parent a_least a_linked a_above a_bucketFirst a_bucketNext a_pathNode : Nat → Int32}
variable {n : Nat} {O V A B : Nat → Nat}
theorem fx_addEdge {post : SX → Prop} {m a b : Nat} {p2 p3 : Int32} (hm : m < 40) (ha : a < 21) (hb : b < 21)
    (h : post (f_count, nI (m + 1), f_queueFirst, f_queueSize, f_backwards, f_walked, a_ops, a_targets, a_firsts, a_seconds, a_next, a_other, a_reached, upd a_edgeFrom m (nI a), upd a_edgeTo m (nI b), upd a_edgeAdds m p2, upd a_edgeTakes m p3, a_starts, a_bits, a_kept, a_queue, a_queued, a_wayThere, a_wayAdds, a_wayTakes, a_number, a_walkNode, a_parent, a_least, a_linked, a_above, a_bucketFirst, a_bucketNext, a_pathNode)) : wpX_addEdge post (f_count, nI m, f_queueFirst, f_queueSize, f_backwards, f_walked, a_ops, a_targets, a_firsts, a_seconds, a_next, a_other, a_reached, a_edgeFrom, a_edgeTo, a_edgeAdds, a_edgeTakes, a_starts, a_bits, a_kept, a_queue, a_queued, a_wayThere, a_wayAdds, a_wayTakes, a_number, a_walkNode, a_parent, a_least, a_linked, a_above, a_bucketFirst, a_bucketNext, a_pathNode) (nI a) (nI b) p2 p3 := by
  have im : vp_in (nI m) 40 := vp_in_nI hm (by omega)
  refine ⟨im, ?_⟩
  rw [nI_clamp (by omega), fi_nb (by omega), fi_nb (by omega)]
  exact nm_e ⟨im, nm_e ⟨im, nm_e ⟨im, nm_e (nm_r (nI_1 m) h)⟩⟩⟩
theorem fx_poseStep {post : SX → Prop} {m p : Nat} {z a0 t0 : Int32} {ah : Bool} (hz : z = 0 ↔ ah = false) (hn : n ≤ 20) (hN : fi_nti n O B n a_next a_other) (hp : p < n) (hm : m < 39)
    (h1 : (∀ q, fi_E n O B p q ↔ q = fi_gl n O B p) → post (f_count, nI (m + 1), f_queueFirst, f_queueSize, f_backwards, f_walked, a_ops, a_targets, a_firsts, a_seconds, a_next, a_other, a_reached, upd a_edgeFrom m (nI (fi_src ah p (fi_gl n O B p))), upd a_edgeTo m (nI (fi_dst ah p (fi_gl n O B p))), upd a_edgeAdds m a0, upd a_edgeTakes m t0, a_starts, a_bits, a_kept, a_queue, a_queued, a_wayThere, a_wayAdds, a_wayTakes, a_number, a_walkNode, a_parent, a_least, a_linked, a_above, a_bucketFirst, a_bucketNext, a_pathNode))
    (h2 : (∀ q, fi_E n O B p q ↔ (q = fi_gl n O B p ∨ q = fi_nd n (p + 1))) → post (f_count, nI (m + 2), f_queueFirst, f_queueSize, f_backwards, f_walked, a_ops, a_targets, a_firsts, a_seconds, a_next, a_other, a_reached, upd (upd a_edgeFrom m (nI (fi_src ah p (fi_gl n O B p)))) (m + 1) (nI (fi_src ah p (fi_nd n (p + 1)))), upd (upd a_edgeTo m (nI (fi_dst ah p (fi_gl n O B p)))) (m + 1) (nI (fi_dst ah p (fi_nd n (p + 1)))), upd (upd a_edgeAdds m a0) (m + 1) a0, upd (upd a_edgeTakes m t0) (m + 1) t0, a_starts, a_bits, a_kept, a_queue, a_queued, a_wayThere, a_wayAdds, a_wayTakes, a_number, a_walkNode, a_parent, a_least, a_linked, a_above, a_bucketFirst, a_bucketNext, a_pathNode)) :
    wpX_poseStep post (f_count, nI m, f_queueFirst, f_queueSize, f_backwards, f_walked, a_ops, a_targets, a_firsts, a_seconds, a_next, a_other, a_reached, a_edgeFrom, a_edgeTo, a_edgeAdds, a_edgeTakes, a_starts, a_bits, a_kept, a_queue, a_queued, a_wayThere, a_wayAdds, a_wayTakes, a_number, a_walkNode, a_parent, a_least, a_linked, a_above, a_bucketFirst, a_bucketNext, a_pathNode) (nI p) z a0 t0 := by
  have g1 := fi_gl_lt (O := O) (B := B) (p := p) hn
  have g2 := fi_nd_lt (t := p + 1) hn
  have ip : vp_in (nI p) 21 := vp_in_nI (by omega) (by omega)
  obtain ⟨e1, e2⟩ := (hN p (by omega)).1 hp
  have rest : ∀ xf xt xa xk, xf = upd a_edgeFrom m (nI (fi_src ah p (fi_gl n O B p))) → xt = upd a_edgeTo m (nI (fi_dst ah p (fi_gl n O B p))) → xa = upd a_edgeAdds m a0 → xk = upd a_edgeTakes m t0 →
      wX_poseStep_35 post (nI p) z a0 t0 f_count (nI (m + 1)) f_queueFirst f_queueSize f_backwards f_walked a_ops a_targets a_firsts a_seconds a_next a_other a_reached xf xt xa xk a_starts a_bits a_kept a_queue a_queued a_wayThere a_wayAdds a_wayTakes a_number a_walkNode a_parent a_least a_linked a_above a_bucketFirst a_bucketNext a_pathNode := by
    intro xf xt xa xk q1 q2 q3 q4
    subst q1; subst q2; subst q3; subst q4
    refine ⟨ip, ?_⟩
    rw [nI_clamp (by omega), e2]
    by_cases c : O p = 6 ∧ fi_gl n O B p ≠ fi_nd n (p + 1)
    · have e3 : fi_ot n O B p = nI (fi_nd n (p + 1)) := if_pos c
      rw [e3]
      have h2 := h2 (fun q => ⟨fun k => k.2.imp id (fun y => y.2), fun k => ⟨hp, k.imp id (fun y => ⟨c.1, y⟩)⟩⟩)
      refine br_f (nI_pos (by omega)) (br_c (fun c2 => ?_) (fun c2 => ?_))
      · refine ⟨ip, ?_⟩
        rw [nI_clamp (by omega), e2, e3]
        have : ah = false := hz.mp c2
        subst this
        exact br_f (nI_pos (by omega)) ⟨ip, fx_addEdge (by omega) (by omega) g2 h2⟩
      · have : ah = true := by
          cases ah with
          | true => rfl
          | false => exact absurd (hz.mpr rfl) c2
        subst this
        exact ⟨ip, fx_addEdge (by omega) g2 (by omega) h2⟩
    · have e3 : fi_ot n O B p = -1 := if_neg c
      rw [e3]
      have h1 := h1 (fun q => ⟨fun k => k.2.elim id (fun y => by
        refine Classical.byContradiction (fun w => c ⟨y.1, fun w2 => w ?_⟩)
        rw [y.2, w2]), fun k => ⟨hp, Or.inl k⟩⟩)
      refine br_t (by decide) ⟨ip, ?_⟩
      rw [nI_clamp (by omega), e2, e3]
      exact br_t (by decide) h1
  refine br_c (fun c => ⟨ip, ?_⟩) (fun c => ⟨ip, ?_⟩)
  · rw [nI_clamp (by omega), e1]
    have : ah = false := hz.mp c
    subst this
    exact fx_addEdge (by omega) (by omega) g1 (rest _ _ _ _ rfl rfl rfl rfl)
  · rw [nI_clamp (by omega), e1]
    have : ah = true := by
      cases ah with
      | true => rfl
      | false => exact absurd (hz.mpr rfl) c
    subst this
    exact fx_addEdge (by omega) g1 (by omega) (rest _ _ _ _ rfl rfl rfl rfl)
theorem fx_pose {post : SX → Prop} {f : Nat} (hf : f ≤ 4) (hC : fi_C n O V A B a_ops a_targets a_firsts a_seconds) (hN : fi_nti n O B n a_next a_other) (hR : ∀ p, p < 21 → (a_reached p = 0 ↔ ¬ fi_RE n O B p))
    (h : ∀ m ef et xf xt xa xk st, fi_pb m ef et xf xt xa st → (∀ x e, e < 32 → (fi_lf m ef et xa xk st x e ↔ fi_FX n O V A B f x e)) → post (nI n, nI m, f_queueFirst, f_queueSize, f_backwards, f_walked, a_ops, a_targets, a_firsts, a_seconds, a_next, a_other, a_reached, xf, xt, xa, xk, st, a_bits, a_kept, a_queue, a_queued, a_wayThere, a_wayAdds, a_wayTakes, a_number, a_walkNode, a_parent, a_least, a_linked, a_above, a_bucketFirst, a_bucketNext, a_pathNode)) :
    wpX_pose post (nI n, f_edges, f_queueFirst, f_queueSize, f_backwards, f_walked, a_ops, a_targets, a_firsts, a_seconds, a_next, a_other, a_reached, a_edgeFrom, a_edgeTo, a_edgeAdds, a_edgeTakes, a_starts, a_bits, a_kept, a_queue, a_queued, a_wayThere, a_wayAdds, a_wayTakes, a_number, a_walkNode, a_parent, a_least, a_linked, a_above, a_bucketFirst, a_bucketNext, a_pathNode) (nI f) := by
  have hn := hC.1
  have fin : ∀ m xf xt xa xk st, m ≤ 40 → fi_es n O V A B f (fi_ah f) (fun p q => fi_act n O B (fi_ah f) p ∧ fi_E n O B p q) m xf xt xa xk → (∀ x, x < 21 → fi_is (st x) (fi_ST n O A B f x)) →
      post (nI n, nI m, f_queueFirst, f_queueSize, f_backwards, f_walked, a_ops, a_targets, a_firsts, a_seconds, a_next, a_other, a_reached, xf, xt, xa, xk, st, a_bits, a_kept, a_queue, a_queued, a_wayThere, a_wayAdds, a_wayTakes, a_number, a_walkNode, a_parent, a_least, a_linked, a_above, a_bucketFirst, a_bucketNext, a_pathNode) := by
    intro m xf xt xa xk st hm H hs
    exact h m _ _ xf xt xa xk st (fi_es_pb hC hm (fun p q a => fi_E_lt hn a.2) H hs) (fun x e he => fi_es_lf he hn (fun p q a => fi_E_lt hn a) H hs)
  have k44 : ∀ z : Int32, (z = 0 ↔ fi_ah f = false) → ∀ d i m xf xt xa xk st, i + d = n → m ≤ 2 * i → fi_es n O V A B f (fi_ah f) (fun p q => p < i ∧ fi_act n O B (fi_ah f) p ∧ fi_E n O B p q) m xf xt xa xk → (∀ x, x < 21 → st x = 0) →
      wX_pose_44 post (nI f) z (d + 1) (nI i) (nI n) (nI m) f_queueFirst f_queueSize f_backwards f_walked a_ops a_targets a_firsts a_seconds a_next a_other a_reached xf xt xa xk st a_bits a_kept a_queue a_queued a_wayThere a_wayAdds a_wayTakes a_number a_walkNode a_parent a_least a_linked a_above a_bucketFirst a_bucketNext a_pathNode := by
    intro z hz d
    induction d with
    | zero =>
      intro i m xf xt xa xk st hi hm H hs
      have : i = n := by omega
      subst this
      have H2 := fi_es_c (Q2 := fun p q => fi_act i O B (fi_ah f) p ∧ fi_E i O B p q) H (fun p q => ⟨fun a => a.2, fun a => ⟨a.2.1, a⟩⟩)
      have nd0 := fi_nd_lt (t := 0) hn
      refine pk_le i i (fun _ => pk_eq f 2 (fun c2 => ?_) (fun c2 => pk_eq f 3 (fun c3 => ?_) (fun c3 => pk_eq f 4 (fun c4 => ?_) (fun c4 => ?_)))) (fun k => by omega)
      · subst c2
        refine fx_nodeAt (t := 0) hn (by omega) (fx_allNames hC (fun r hr => ⟨vp_in_nI nd0 (by omega), ?_⟩))
        rw [nI_clamp (by omega)]
        refine nm_e (fin m xf xt xa xk _ (by omega) H2 (fun x hx => ?_))
        by_cases e : x = fi_nd i 0
        · subst e; rw [pk_us]
          exact fi_is_c hr (fun e _ => ⟨fun w => Or.inl ⟨rfl, rfl, w⟩, fun w => by
            rcases w with w | w | w
            · exact w.2.2
            · exact absurd w.1 (by decide)
            · exact absurd w.1 (by decide)⟩)
        · rw [pk_un e, hs x hx]
          exact fi_is_c fi_is_0 (fun e2 _ => ⟨fun w => w.elim, fun w => by
            rcases w with w | w | w
            · exact e w.2.1
            · exact absurd w.1 (by decide)
            · exact absurd w.1 (by decide)⟩)
      · subst c3
        refine fx_allNames hC (fun r hr => nm_e (fin m xf xt xa xk _ (by omega) H2 (fun x hx => ?_)))
        by_cases e : x = 20
        · subst e; rw [pk_us]
          exact fi_is_c hr (fun e _ => ⟨fun w => Or.inr (Or.inl ⟨rfl, rfl, w⟩), fun w => by
            rcases w with w | w | w
            · exact absurd w.1 (by decide)
            · exact w.2.2
            · exact absurd w.1 (by decide)⟩)
        · rw [pk_un e, hs x hx]
          exact fi_is_c fi_is_0 (fun e2 _ => ⟨fun w => w.elim, fun w => by
            rcases w with w | w | w
            · exact absurd w.1 (by decide)
            · exact e w.2.1
            · exact absurd w.1 (by decide)⟩)
      · subst c4
        refine fx_nodeAt (t := 0) hn (by omega) ⟨vp_in_nI nd0 (by omega), ?_⟩
        rw [nI_clamp (by omega)]
        refine nm_e (fin m xf xt xa xk _ (by omega) H2 (fun x hx => ?_))
        by_cases e : x = fi_nd i 0
        · subst e; rw [pk_us]
          intro e he
          rw [fi_63 e he]
          simp only [decide_eq_true_eq]
          exact ⟨fun w => Or.inr (Or.inr ⟨rfl, rfl, w⟩), fun w => by
            rcases w with w | w | w
            · exact absurd w.1 (by decide)
            · exact absurd w.1 (by decide)
            · exact w.2.2⟩
        · rw [pk_un e, hs x hx]
          exact fi_is_c fi_is_0 (fun e2 _ => ⟨fun w => w.elim, fun w => by
            rcases w with w | w | w
            · exact absurd w.1 (by decide)
            · exact absurd w.1 (by decide)
            · exact e w.2.1⟩)
      · refine fin m xf xt xa xk _ (by omega) H2 (fun x hx => ?_)
        rw [hs x hx]
        exact fi_is_c fi_is_0 (fun e2 _ => ⟨fun w => w.elim, fun w => by
            rcases w with w | w | w
            · exact c2 w.1
            · exact c3 w.1
            · exact c4 w.1⟩)
    | succ d ih =>
      intro i m xf xt xa xk st hi hm H hs
      have k65 : fi_act n O B (fi_ah f) i → wX_pose_65 post (wX_pose_44 post (nI f) z (d + 1)) (nI f) z (nI i) (nI n) (nI m) f_queueFirst f_queueSize f_backwards f_walked a_ops a_targets a_firsts a_seconds a_next a_other a_reached xf xt xa xk st a_bits a_kept a_queue a_queued a_wayThere a_wayAdds a_wayTakes a_number a_walkNode a_parent a_least a_linked a_above a_bucketFirst a_bucketNext a_pathNode := by
        intro hact
        unfold wX_pose_65
        refine fx_addedBy hf hC (by omega) (fun a0 ha => fx_takenBy hf hC (by omega) (fun t0 ht => fx_poseStep (ah := fi_ah f) hz hn hN (by omega) (by omega) (fun he => ?_) (fun he => ?_)))
        · refine nm_r (nI_1 i) (ih (i + 1) (m + 1) _ _ _ _ st (by omega) (by omega) (fi_es_c (fi_es_a H ha ht) (fun p q => ⟨?_, ?_⟩)) hs)
          · rintro (w | ⟨w1, w2⟩)
            · exact ⟨by omega, w.2⟩
            · subst w1; exact ⟨by omega, hact, (he q).mpr w2⟩
          · rintro ⟨w1, w2, w3⟩
            by_cases c : p = i
            · subst c; exact Or.inr ⟨rfl, (he q).mp w3⟩
            · exact Or.inl ⟨by omega, w2, w3⟩
        · refine nm_r (nI_1 i) (ih (i + 1) (m + 2) _ _ _ _ st (by omega) (by omega) (fi_es_c (fi_es_a (fi_es_a H ha ht) ha ht) (fun p q => ⟨?_, ?_⟩)) hs)
          · rintro ((w | ⟨w1, w2⟩) | ⟨w1, w2⟩)
            · exact ⟨by omega, w.2⟩
            · subst w1; exact ⟨by omega, hact, (he q).mpr (Or.inl w2)⟩
            · subst w1; exact ⟨by omega, hact, (he q).mpr (Or.inr w2)⟩
          · rintro ⟨w1, w2, w3⟩
            by_cases c : p = i
            · subst c
              rcases (he q).mp w3 with w | w
              · exact Or.inl (Or.inr ⟨rfl, w⟩)
              · exact Or.inr ⟨rfl, w⟩
            · exact Or.inl (Or.inl ⟨by omega, w2, w3⟩)
      refine pk_le n i (fun k => by omega) (fun _ => br_c (fun c => ⟨vp_in_nI (by omega) (by omega), ?_⟩) (fun c => k65 (Or.inl ?_)))
      · rw [nI_clamp (by omega)]
        refine br_c (fun c2 => nm_r (nI_1 i) (ih (i + 1) m _ _ _ _ st (by omega) (by omega) (fi_es_c H (fun p q => ⟨fun w => ⟨by omega, w.2⟩, fun w => ⟨?_, w.2⟩⟩)) hs)) (fun c2 => k65 (Or.inr (Classical.byContradiction (fun w => c2 ((hR i (by omega)).mpr w)))))
        by_cases e : p = i
        · subst e
          rcases w.2.1 with y | y
          · rw [hz.mp c] at y; exact absurd y (by decide)
          · exact absurd y ((hR p (by omega)).mp c2)
        · omega
      · cases e : fi_ah f with
        | true => rfl
        | false => exact absurd (hz.mpr e) c
  have k23 : ∀ z : Int32, (z = 0 ↔ fi_ah f = false) → ∀ d i st, i + d = 21 → (∀ x, x < i → st x = 0) → wX_pose_23 post (nI f) z (nI n) 0 f_queueFirst f_queueSize f_backwards f_walked (d + 1) (nI i) a_ops a_targets a_firsts a_seconds a_next a_other a_reached a_edgeFrom a_edgeTo a_edgeAdds a_edgeTakes st a_bits a_kept a_queue a_queued a_wayThere a_wayAdds a_wayTakes a_number a_walkNode a_parent a_least a_linked a_above a_bucketFirst a_bucketNext a_pathNode := by
    intro z hz d
    induction d with
    | zero =>
      intro i st hi hs
      exact pk_le 21 i (fun _ => ⟨_, k44 z hz n 0 0 a_edgeFrom a_edgeTo a_edgeAdds a_edgeTakes st (by omega) (by omega) ⟨fun k hk => by omega, fun p q w => by omega⟩ (fun x hx => hs x (by omega))⟩) (fun k => by omega)
    | succ d ih =>
      intro i st hi hs
      refine pk_le 21 i (fun k => by omega) (fun _ => ⟨vp_in_nI (by omega) (by omega), nm_r (e' := upd st i 0) (by rw [nI_clamp (by omega)]) (nm_r (nI_1 i) (ih (i + 1) _ (by omega) (fun x hx => ?_)))⟩)
      by_cases e : x = i
      · subst e; exact pk_us
      · rw [pk_un e]; exact hs x (by omega)
  refine pk_eq f 1 (fun c => ⟨_, k23 1 ?_ 21 0 a_starts (by omega) (fun x hx => by omega)⟩) (fun c => pk_eq f 3 (fun c3 => ⟨_, k23 1 ?_ 21 0 a_starts (by omega) (fun x hx => by omega)⟩) (fun c3 => ⟨_, k23 0 ?_ 21 0 a_starts (by omega) (fun x hx => by omega)⟩))
  · subst c; decide
  · subst c3; decide
  · refine ⟨fun _ => decide_eq_false (by omega), fun _ => rfl⟩
theorem fx_solve {post : SX → Prop} {f g : Nat} (hg : g < 3) (hf : f ≤ 4) (hC : fi_C n O V A B a_ops a_targets a_firsts a_seconds) (hN : fi_nti n O B n a_next a_other) (hR : ∀ p, p < 21 → (a_reached p = 0 ↔ ¬ fi_RE n O B p))
    (h : ∀ ed qf qs xf xt xa xk st b qu qd th ad tk, (∀ x, x < 21 → fi_is (b x) (fi_FX n O V A B f x)) → post (nI n, ed, qf, qs, f_backwards, f_walked, a_ops, a_targets, a_firsts, a_seconds, a_next, a_other, a_reached, xf, xt, xa, xk, st, b, a_kept, qu, qd, th, ad, tk, a_number, a_walkNode, a_parent, a_least, a_linked, a_above, a_bucketFirst, a_bucketNext, a_pathNode)) :
    wpX_solve post (nI n, f_edges, f_queueFirst, f_queueSize, f_backwards, f_walked, a_ops, a_targets, a_firsts, a_seconds, a_next, a_other, a_reached, a_edgeFrom, a_edgeTo, a_edgeAdds, a_edgeTakes, a_starts, a_bits, a_kept, a_queue, a_queued, a_wayThere, a_wayAdds, a_wayTakes, a_number, a_walkNode, a_parent, a_least, a_linked, a_above, a_bucketFirst, a_bucketNext, a_pathNode) (nI g) (nI f) := by
  unfold wpX_solve
  refine fx_pose hf hC hN hR (fun m ef et xf xt xa xk st P hl => ?_)
  refine pk_eq g 0 (fun c => fx_rounds P (fun b hb => ?_)) (fun c => pk_eq g 1 (fun c1 => fx_queue P (fun b qf qs qu qd hb => ?_)) (fun c1 => fx_ways P (fun b th ad tk hb => ?_)))
  · exact h _ _ _ _ _ _ _ _ b _ _ _ _ _ (fun x hx => fi_is_c (hb x hx) (fun e he => hl x e he))
  · exact h _ _ _ _ _ _ _ _ b _ _ _ _ _ (fun x hx => fi_is_c (hb x hx) (fun e he => hl x e he))
  · exact h _ _ _ _ _ _ _ _ b _ _ _ _ _ (fun x hx => fi_is_c (hb x hx) (fun e he => hl x e he))
end
end
section
section
variable {W : Nat} {par : Nat → Nat} {R : Nat → Nat → Prop} {sd sd2 : Nat → Nat}
theorem fi_s1_cg {j : Nat} (h : ∀ x, j ≤ x → sd2 x = sd x) (k : fi_s1 par R sd j) : fi_s1 par R sd2 j := by
  intro a r
  rw [h j (Nat.le_refl _)]
  refine ⟨(k a r).1, fun l x q1 q2 => ?_⟩
  rw [h x (by omega)]
  exact (k a r).2 l x q1 q2
theorem fi_s2_cg {j : Nat} (h : ∀ x, j ≤ x → sd2 x = sd x) (k : fi_s2 par R sd j) : fi_s2 par R sd2 j := by
  rcases k with ⟨a, b1, b2, b3⟩ | ⟨a, x, b1, b2, b3, b4, b5⟩
  · exact Or.inl ⟨a, b1, b2, by rw [h j (Nat.le_refl _)]; exact b3⟩
  · exact Or.inr ⟨a, x, b1, b2, b3, b4, by rw [h j (Nat.le_refl _), h x (by omega)]; exact b5⟩
theorem fi_sd_p2 (T : fi_tr W par R) {j : Nat} (h0 : 0 < j) (hj : j < W) (D : fi_s1 par R sd j) : sd j ≤ par j := by
  have p := T.2.1 j h0 hj
  exact (D (par j) p.2).1 (by omega)
theorem fi_sd_an2 (T : fi_tr W par R) {i : Nat} (D : ∀ j, i < j → j < W → fi_s1 par R sd j ∧ fi_s2 par R sd j) : ∀ m j, W - j ≤ m → i < j → j < W → fi_an par (sd j) j := by
  intro m
  induction m with
  | zero => intro j h1 h2 h3; omega
  | succ m ih =>
    intro j h1 h2 h3
    rcases (D j h2 h3).2 with ⟨a, b1, b2, b3⟩ | ⟨a, x, b1, b2, b3, b4, b5⟩
    · rw [b3]; exact T.2.2.2.1 a j b2 b1
    · have ha := (T.2.2.1 a j b2).1
      have hx := fi_an_le T ha b3
      have r := ih x (by omega) (by omega) (by omega)
      rw [b5]
      refine T.2.2.2.2 (sd x) j x (by omega) r ?_ (by omega)
      have := fi_sd_p2 T (by omega) h3 (D j h2 h3).1
      have := (T.2.1 j (by omega) h3).1
      omega
theorem fi_child (T : fi_tr W par R) {t : Nat} : ∀ j, j < W → fi_an par t j → t ≠ j → ∃ c, fi_an par c j ∧ par c = t ∧ t < c := by
  intro j
  induction j using Nat.strongRecOn with
  | _ j ih =>
    intro hj ht hne
    have l := fi_an_le T hj ht
    have p := (T.2.1 j (by omega) hj).1
    rcases fi_an_c ht with r | r
    · exact absurd r hne
    · by_cases e : t = par j
      · exact ⟨j, fi_an_r j, e.symm, by omega⟩
      · obtain ⟨c, c1, c2⟩ := ih (par j) p (by omega) r e
        exact ⟨c, fi_an_t c1 (fi_an_p j), c2⟩
/-- what waits at the parent of i is below i -/
theorem fi_wait (T : fi_tr W par R) {i j t : Nat} (h0 : 0 < i) (hij : i ≤ j) (hj : j < W) (hp : par i = t) (ht : fi_an par t j) (hc : ∀ c, i < c → c ≤ j → par c ≠ t) : ∀ m, t < m → fi_an par m j → i ≤ m := by
  have pi := (T.2.1 i h0 (by omega)).1
  obtain ⟨c, c1, c2, c3⟩ := fi_child T j hj ht (by omega)
  have cl := fi_an_le T hj c1
  have ci : c ≤ i := Nat.le_of_not_lt (fun k => hc c k cl c2)
  have ce : c = i := by
    rcases fi_an_c (T.2.2.2.2 c i j hj c1 ci hij) with r | r
    · exact r
    · rw [hp] at r
      have := fi_an_le T (by omega) r
      omega
  intro m hm hmj
  refine Nat.le_of_not_lt (fun k => ?_)
  rw [ce] at c1
  rcases fi_an_c (fi_an_cmp T hj hmj c1 (by omega)) with r | r
  · omega
  · rw [hp] at r
    have := fi_an_le T (by omega) r
    omega
/-- above, ahead of the last pass -/
def fi_pre (par sd : Nat → Nat) (j u : Nat) : Prop :=
  (u = sd j ∧ ∀ m, sd j < m → fi_an par m j → sd j ≤ sd m) ∨ (fi_an par u j ∧ sd j < u ∧ sd u < sd j ∧ ∀ m, sd j < m → fi_an par m j → sd u ≤ sd m)
theorem fi_pre_cg {j u : Nat} (h : ∀ x, sd j < x → fi_an par x j → sd2 x = sd x) (hj : sd2 j = sd j) (k : fi_pre par sd j u) : fi_pre par sd2 j u := by
  unfold fi_pre
  rw [hj]
  rcases k with ⟨k1, k2⟩ | ⟨k1, k2, k3, k4⟩
  · exact Or.inl ⟨k1, fun m a b => by rw [h m a b]; exact k2 m a b⟩
  · exact Or.inr ⟨k1, k2, by rw [h u k2 k1]; exact k3, fun m a b => by rw [h m a b, h u k2 k1]; exact k4 m a b⟩
/-- the last step of the tree -/
theorem fi_pre_dom (T : fi_tr W par R) (D : fi_sd W par R sd) {w u : Nat} (h0 : 0 < w) (hw : w < W) (h : fi_pre par sd w u) :
    (u = sd w ∧ ∀ d, (¬ fi_av R d w ↔ (d = w ∨ ¬ fi_av R d (sd w)))) ∨ (sd w < u ∧ 0 < u ∧ u < w ∧ ∀ v, v < u → (∀ d, (¬ fi_av R d u ↔ (d = u ∨ ¬ fi_av R d v))) → ∀ d, (¬ fi_av R d w ↔ (d = w ∨ ¬ fi_av R d v))) := by
  rcases h with ⟨h1, h2⟩ | ⟨h1, h2, h3, h4⟩
  · exact Or.inl ⟨h1, fi_id1 T D h0 hw h2⟩
  · have ul := fi_an_le T hw h1
    have une : u ≠ w := fun e => by rw [e] at h3; omega
    refine Or.inr ⟨h2, by omega, by omega, fun v hv hu d => ?_⟩
    have k := fi_id2 T D h0 hw h1 h2 h3 h4 d
    have nu : d = u → fi_av R d v := fun e => Classical.byContradiction (fun c => by
      have q := ((fi_dom T D (show v < W by omega)).mp c).1
      have := fi_an_le T (by omega) q
      omega)
    constructor
    · intro z
      by_cases e : d = w
      · exact Or.inl e
      · have q := k.mp ⟨e, z⟩
        rcases (hu d).mp q.2 with y | y
        · exact absurd y q.1
        · exact Or.inr y
    · rintro (z | z)
      · subst z
        rw [fi_dom T D hw]
        exact ⟨fi_an_r d, fun m a b => by have := fi_an_le T hw b; omega⟩
      · have du : d ≠ u := fun e => z (nu e)
        exact (k.mpr ⟨du, (hu d).mpr (Or.inr z)⟩).2
end
/-- a chain of waiting nodes -/
def fi_ch (wn : Nat → Nat) (bn : Nat → Int32) : List Nat → Int32 → Prop
  | [], x => x = -1
  | j :: l, x => x = nI (wn j) ∧ fi_ch wn bn l (bn (wn j))
theorem fi_ch_upd {wn : Nat → Nat} {bn : Nat → Int32} {w : Nat} {v : Int32} : ∀ l x, (∀ j, j ∈ l → wn j ≠ w) → fi_ch wn bn l x → fi_ch wn (upd bn w v) l x
  | [], _, _, h => h
  | j :: l, x, hn, h => by
    refine ⟨h.1, ?_⟩
    rw [pk_un (hn j (List.mem_cons_self ..))]
    exact fi_ch_upd l _ (fun k hk => hn k (List.mem_cons_of_mem _ hk)) h.2
theorem fi_ch_nar {wn : Nat → Nat} {bn : Nat → Int32} : ∀ l x, (∀ j, j ∈ l → wn j < 21) → fi_ch wn bn l x → vp_nar .byte x = x
  | [], x, _, h => by
    have : x = -1 := h
    rw [this]; exact fi_nbm
  | j :: l, x, hn, h => by
    have := hn j (List.mem_cons_self ..)
    rw [h.1]; exact fi_nb' (by omega)
end
section
/-- the tree half grown: the numbers above i are done -/
def fi_iv (W : Nat) (wn par : Nat → Nat) (R : Nat → Nat → Prop) (i : Nat) (sd : Nat → Nat) (bl : Nat → List Nat) (le li ab bf bn : Nat → Int32) : Prop :=
  (∀ j, i < j → j < W → fi_s1 par R sd j ∧ fi_s2 par R sd j) ∧
  (∀ j, j < W → (i < j → le (wn j) = nI (sd j) ∧ li (wn j) = nI (wn (par j))) ∧ (j ≤ i → le (wn j) = nI j ∧ li (wn j) = -1)) ∧
  (∀ t, t < W → fi_ch wn bn (bl t) (bf (wn t)) ∧ ∀ j, j ∈ bl t ↔ (i < j ∧ j < W ∧ sd j = t ∧ ∀ c, i < c → c ≤ j → par c ≠ t)) ∧
  (∀ j, i < j → j < W → (∃ c, i < c ∧ c ≤ j ∧ par c = sd j) → (∃ u, u < W ∧ ab (wn j) = nI (wn u) ∧ fi_pre par sd j u) ∧ ∀ m, sd j < m → fi_an par m j → i < m) ∧
  ab (wn 0) = -1
section
variable {f_count f_edges f_queueFirst f_queueSize f_backwards f_walked : Int32} {a_ops a_targets a_firsts a_seconds a_next a_other a_reached a_edgeFrom a_edgeTo a_edgeAdds a_edgeTakes a_starts a_bits a_kept a_queue a_queued a_wayThere a_wayAdds a_wayTakes a_number a_walkNode a_parent a_least a_linked a_above a_bucketFirst a_bucketNext a_pathNode : Nat → Int32}
variable {W : Nat} {wn par : Nat → Nat} {R : Nat → Nat → Prop}
theorem fx_best {post : Int32 → Prop} {c a : Nat} {lv : Nat → Nat} (T : fi_tr W par R) (hw : ∀ i, i < W → wn i < 21) (hc : 0 < c) (ha : a < W)
    (hl : ∀ j, j < W → a_least (wn j) = nI (lv j) ∧ lv j < 2 ^ 31) (hk : ∀ j, j < W → (c ≤ j → a_linked (wn j) = nI (wn (par j))) ∧ (j < c → a_linked (wn j) = -1))
    (h : ∀ b, b < W → ((a < c ∧ b = a) ∨ (c ≤ a ∧ fi_an par b a ∧ c ≤ b ∧ ∀ x, fi_an par x a → c ≤ x → lv b ≤ lv x)) → post (nI (wn b))) : wpX_bestAbove post (f_count, f_edges, f_queueFirst, f_queueSize, f_backwards, f_walked, a_ops, a_targets, a_firsts, a_seconds, a_next, a_other, a_reached, a_edgeFrom, a_edgeTo, a_edgeAdds, a_edgeTakes, a_starts, a_bits, a_kept, a_queue, a_queued, a_wayThere, a_wayAdds, a_wayTakes, a_number, a_walkNode, a_parent, a_least, a_linked, a_above, a_bucketFirst, a_bucketNext, a_pathNode) (nI (wn a)) := by
  have key : ∀ m y b, y < m → y < W → b < W → fi_an par y a → fi_an par b a → ((y = a ∧ b = a) ∨ (c ≤ b ∧ ∀ x, fi_an par x a → y < x → lv b ≤ lv x)) → wX_bestAbove_4 post f_count f_edges f_queueFirst f_queueSize f_backwards f_walked a_ops a_targets a_firsts a_seconds a_next a_other a_reached a_edgeFrom a_edgeTo a_edgeAdds a_edgeTakes a_starts a_bits a_kept a_queue a_queued a_wayThere a_wayAdds a_wayTakes a_number a_walkNode a_parent a_least a_linked a_above a_bucketFirst a_bucketNext a_pathNode m (nI (wn b)) (nI (wn y)) := by
    intro m
    induction m with
    | zero => intro y b hy; omega
    | succ m ih =>
      intro y b hy hyW hbW ay ab H
      have wy := hw y hyW
      have wb := hw b hbW
      have iy : vp_in (nI (wn y)) 21 := vp_in_nI wy (by omega)
      have ib : vp_in (nI (wn b)) 21 := vp_in_nI wb (by omega)
      refine ⟨iy, ?_⟩
      rw [nI_clamp (show wn y < 2 ^ 31 by omega)]
      by_cases c1 : y < c
      · rw [(hk y hyW).2 c1]
        refine br_t (by decide) (h b hbW ?_)
        rcases H with ⟨e1, e2⟩ | ⟨e1, e2⟩
        · exact Or.inl ⟨by omega, e2⟩
        · have := fi_an_le T ha ab
          exact Or.inr ⟨by omega, ab, e1, fun x x1 x2 => e2 x x1 (by omega)⟩
      · have p := (T.2.1 y (by omega) hyW).1
        have up : ∀ x, fi_an par x a → par y < x → x ≤ y → x = y := by
          intro x x1 x2 x3
          rcases fi_an_c (fi_an_cmp T ha x1 ay x3) with r | r
          · exact r
          · have := fi_an_le T (by omega) r
            omega
        rw [(hk y hyW).1 (by omega)]
        have wp := hw (par y) (by omega)
        refine br_f (nI_pos (by omega)) ⟨iy, ib, ?_⟩
        rw [(hl y hyW).1]
        by_cases eb : b = y
        · subst eb
          rw [nI_clamp (show wn b < 2 ^ 31 by omega), (hl b hbW).1]
          refine pk_le (lv b) (lv b) (fun _ => ⟨iy, nm_e (ih (par b) b (by omega) (by omega) hbW (fi_an_t (fi_an_p b) ay) ab (Or.inr ⟨by omega, fun x x1 x2 => ?_⟩))⟩) (fun k => by omega) rfl rfl (hl b hbW).2 (hl b hbW).2
          by_cases cx : x ≤ b
          · rw [up x x1 x2 cx]; exact Nat.le_refl _
          · rcases H with ⟨e1, e2⟩ | ⟨e1, e2⟩
            · have := fi_an_le T ha x1
              omega
            · exact e2 x x1 (by omega)
        · rw [nI_clamp (show wn b < 2 ^ 31 by omega), (hl b hbW).1]
          rcases H with ⟨e1, e2⟩ | ⟨e1, e2⟩
          · exact absurd (e2.trans e1.symm) eb
          · refine pk_le (lv b) (lv y) (fun k => ⟨iy, nm_e (ih (par y) b (by omega) (by omega) hbW (fi_an_t (fi_an_p y) ay) ab (Or.inr ⟨e1, fun x x1 x2 => ?_⟩))⟩) (fun k => ⟨iy, nm_e (ih (par y) y (by omega) (by omega) hyW (fi_an_t (fi_an_p y) ay) ay (Or.inr ⟨by omega, fun x x1 x2 => ?_⟩))⟩) rfl rfl (hl b hbW).2 (hl y hyW).2
            · by_cases cx : x ≤ y
              · rw [up x x1 x2 cx]; exact k
              · exact e2 x x1 (by omega)
            · by_cases cx : x ≤ y
              · rw [up x x1 x2 cx]; exact Nat.le_refl _
              · have := e2 x x1 (by omega)
                omega
  exact ⟨_, key (a + 1) a a (by omega) ha ha (fi_an_r a) (fi_an_r a) (Or.inl ⟨rfl, rfl⟩)⟩
theorem fx_settle55 {post : SX → Prop} {i t : Nat} {lv : Nat → Nat} (T : fi_tr W par R) (hw : ∀ i, i < W → wn i < 21) (hinj : ∀ a b, a < W → b < W → wn a = wn b → a = b) (h0 : 0 < i) (ht : t < i) (htW : t < W)
    (hl : ∀ j, j < W → a_least (wn j) = nI (lv j) ∧ lv j < 2 ^ 31) (hk : ∀ j, j < W → (i ≤ j → a_linked (wn j) = nI (wn (par j))) ∧ (j < i → a_linked (wn j) = -1)) :
    ∀ l x ab, fi_ch wn a_bucketNext l x → (∀ j, j ∈ l → i ≤ j ∧ j < W ∧ lv j = t ∧ ∀ m, t < m → fi_an par m j → i ≤ m) →
      (∀ ab2, (∀ j, j ∈ l → ∃ u, u < W ∧ ab2 (wn j) = nI (wn u) ∧ fi_pre par lv j u) → (∀ y, (∀ j, j ∈ l → wn j ≠ y) → ab2 y = ab y) → post (f_count, f_edges, f_queueFirst, f_queueSize, f_backwards, f_walked, a_ops, a_targets, a_firsts, a_seconds, a_next, a_other, a_reached, a_edgeFrom, a_edgeTo, a_edgeAdds, a_edgeTakes, a_starts, a_bits, a_kept, a_queue, a_queued, a_wayThere, a_wayAdds, a_wayTakes, a_number, a_walkNode, a_parent, a_least, a_linked, ab2, upd a_bucketFirst (wn t) (-1), a_bucketNext, a_pathNode)) →
      wX_settle_55 post (nI (wn t)) f_count f_edges f_queueFirst f_queueSize f_backwards f_walked (l.length + 1) x a_ops a_targets a_firsts a_seconds a_next a_other a_reached a_edgeFrom a_edgeTo a_edgeAdds a_edgeTakes a_starts a_bits a_kept a_queue a_queued a_wayThere a_wayAdds a_wayTakes a_number a_walkNode a_parent a_least a_linked ab a_bucketFirst a_bucketNext a_pathNode := by
  have wt := hw t htW
  intro l
  induction l with
  | nil =>
    intro x ab hch hg h
    have : x = -1 := hch
    subst this
    refine br_t (by decide) ⟨vp_in_nI wt (by omega), nm_r (e' := upd a_bucketFirst (wn t) (-1)) (by rw [nI_clamp (by omega), fi_nbm]) (h ab (fun j hj => absurd hj (List.not_mem_nil)) (fun y _ => rfl))⟩
  | cons j l ih =>
    intro x ab hch hg h
    obtain ⟨e, hch⟩ := hch
    subst e
    obtain ⟨g1, g2, g3, g4⟩ := hg j (List.mem_cons_self ..)
    have wj := hw j g2
    have ij : vp_in (nI (wn j)) 21 := vp_in_nI wj (by omega)
    have k97 : ∀ u, u < W → fi_pre par lv j u → wX_settle_97 post (wX_settle_55 post (nI (wn t)) f_count f_edges f_queueFirst f_queueSize f_backwards f_walked (l.length + 1)) (nI (wn t)) (nI (wn j)) (nI (wn u)) (nI (wn j)) f_count f_edges f_queueFirst f_queueSize f_backwards f_walked a_ops a_targets a_firsts a_seconds a_next a_other a_reached a_edgeFrom a_edgeTo a_edgeAdds a_edgeTakes a_starts a_bits a_kept a_queue a_queued a_wayThere a_wayAdds a_wayTakes a_number a_walkNode a_parent a_least a_linked ab a_bucketFirst a_bucketNext a_pathNode := by
      intro u hu hp
      have wu := hw u hu
      refine ⟨ij, nm_r (e' := upd ab (wn j) (nI (wn u))) (by rw [nI_clamp (by omega), fi_nb (by omega)]) ⟨ij, nm_r (e' := a_bucketNext (wn j)) (by rw [nI_clamp (by omega)]) (ih _ _ hch (fun k hk => hg k (List.mem_cons_of_mem _ hk)) (fun ab2 q1 q2 => h ab2 (fun k hk => ?_) (fun y hy => ?_)))⟩⟩
      · by_cases c : k ∈ l
        · exact q1 k c
        · have : k = j := by
            rcases List.mem_cons.mp hk with r | r
            · exact r
            · exact absurd r c
          subst this
          refine ⟨u, hu, ?_, hp⟩
          rw [q2 (wn k) (fun z hz ez => c (by
            have := hinj z k (hg z (List.mem_cons_of_mem _ hz)).2.1 g2 ez
            rw [← this]; exact hz)), pk_us]
      · rw [q2 y (fun z hz => hy z (List.mem_cons_of_mem _ hz)), pk_un (fun e => hy j (List.mem_cons_self ..) e.symm)]
    refine br_f (nI_pos (by omega)) (fx_best T hw h0 g2 hl hk (fun b hb hbb => ?_))
    have wb := hw b hb
    rcases hbb with ⟨q, _⟩ | ⟨_, b1, b2, b3⟩
    · omega
    · refine ⟨vp_in_nI wb (by omega), ij, ?_⟩
      rw [nI_clamp (show wn j < 2 ^ 31 by omega), (hl j g2).1]
      by_cases eb : b = j
      · subst eb
        rw [nI_clamp (show wn b < 2 ^ 31 by omega), (hl b hb).1]
        refine pk_le (lv b) (lv b) (fun _ => k97 t htW (Or.inl ⟨g3.symm, fun m m1 m2 => ?_⟩)) (fun k => by omega) rfl rfl (hl b hb).2 (hl b hb).2
        exact b3 m m2 (g4 m (by omega) m2)
      · rw [nI_clamp (show wn b < 2 ^ 31 by omega), (hl b hb).1]
        refine pk_le (lv j) (lv b) (fun k => k97 t htW (Or.inl ⟨g3.symm, fun m m1 m2 => ?_⟩)) (fun k => k97 b hb (Or.inr ⟨b1, by omega, k, fun m m1 m2 => b3 m m2 (g4 m (by omega) m2)⟩)) rfl rfl (hl j g2).2 (hl b hb).2
        have := b3 m m2 (g4 m (by omega) m2)
        omega
end
end
section
section
variable {f_count f_edges f_queueFirst f_queueSize f_backwards f_walked : Int32} {a_ops a_targets a_firsts a_seconds a_next a_other a_reached a_edgeFrom a_edgeTo a_edgeAdds a_edgeTakes a_starts a_bits a_kept a_queue a_queued a_wayThere a_wayAdds a_wayTakes a_number a_walkNode a_parent a_least a_linked a_above a_bucketFirst a_bucketNext a_pathNode : Nat → Int32}
variable {W : Nat} {wn par : Nat → Nat} {R : Nat → Nat → Prop}
theorem fx_settle {post : SX → Prop} {k s : Nat} {sd : Nat → Nat} {bl : Nat → List Nat} {le0 : Nat → Int32} (T : fi_tr W par R) (hWl : W ≤ 21) (hw : ∀ i, i < W → wn i < 21) (hinj : ∀ a b, a < W → b < W → wn a = wn b → a = b) (hk : k + 1 < W)
    (X3 : a_parent (wn (k + 1)) = nI (wn (par (k + 1)))) (X1 : ∀ j, j < W → a_walkNode j = nI (wn j))
    (iv : fi_iv W wn par R (k + 1) sd bl le0 a_linked a_above a_bucketFirst a_bucketNext) (hle : a_least (wn (k + 1)) = nI s) (hle2 : ∀ j, j < W → j ≠ k + 1 → a_least (wn j) = le0 (wn j))
    (S1 : fi_s1 par R (fun x => if x = k + 1 then s else sd x) (k + 1)) (S2 : fi_s2 par R (fun x => if x = k + 1 then s else sd x) (k + 1))
    (h : ∀ bl2 li ab bf bn, fi_iv W wn par R k (fun x => if x = k + 1 then s else sd x) bl2 a_least li ab bf bn → post (f_count, f_edges, f_queueFirst, f_queueSize, f_backwards, f_walked, a_ops, a_targets, a_firsts, a_seconds, a_next, a_other, a_reached, a_edgeFrom, a_edgeTo, a_edgeAdds, a_edgeTakes, a_starts, a_bits, a_kept, a_queue, a_queued, a_wayThere, a_wayAdds, a_wayTakes, a_number, a_walkNode, a_parent, a_least, li, ab, bf, bn, a_pathNode)) : wpX_settle post (f_count, f_edges, f_queueFirst, f_queueSize, f_backwards, f_walked, a_ops, a_targets, a_firsts, a_seconds, a_next, a_other, a_reached, a_edgeFrom, a_edgeTo, a_edgeAdds, a_edgeTakes, a_starts, a_bits, a_kept, a_queue, a_queued, a_wayThere, a_wayAdds, a_wayTakes, a_number, a_walkNode, a_parent, a_least, a_linked, a_above, a_bucketFirst, a_bucketNext, a_pathNode) (nI (wn (k + 1))) := by
  obtain ⟨iv1, iv2, iv3, iv4, iv5⟩ := iv
  have pl := (T.2.1 (k + 1) (by omega) hk).1
  have sl : s ≤ par (k + 1) := by
    have := fi_sd_p2 T (by omega) hk S1
    simpa using this
  have old : ∀ x, x ≠ k + 1 → (fun x => if x = k + 1 then s else sd x) x = sd x := fun x hx => if_neg hx
  have D2 : ∀ j, k < j → j < W → fi_s1 par R (fun x => if x = k + 1 then s else sd x) j ∧ fi_s2 par R (fun x => if x = k + 1 then s else sd x) j := by
    intro j h1 h2
    by_cases e : j = k + 1
    · subst e; exact ⟨S1, S2⟩
    · have q := iv1 j (by omega) h2
      exact ⟨fi_s1_cg (fun x hx => old x (by omega)) q.1, fi_s2_cg (fun x hx => old x (by omega)) q.2⟩
  have Dan : ∀ j, k < j → j < W → fi_an par ((fun x => if x = k + 1 then s else sd x) j) j := fun j h1 h2 => fi_sd_an2 T D2 _ j (Nat.le_refl _) h1 h2
  generalize hsd : (fun x => if x = k + 1 then s else sd x) = sd2 at *
  have e0 : sd2 (k + 1) = s := by rw [← hsd]; simp
  have wi := hw (k + 1) hk
  have wt := hw (par (k + 1)) (by omega)
  have ws := hw s (by omega)
  have ii : vp_in (nI (wn (k + 1))) 21 := vp_in_nI wi (by omega)
  have nei : ∀ j, j < W → j ≠ k + 1 → wn j ≠ wn (k + 1) := fun j h1 h2 h3 => h2 (hinj _ _ h1 hk h3)
  have nar : vp_nar .byte (a_bucketFirst (wn s)) = a_bucketFirst (wn s) := fi_ch_nar (bl s) _ (fun j hj => hw j (((iv3 s (by omega)).2 j).mp hj).2.1) (iv3 s (by omega)).1
  refine ⟨ii, ?_⟩
  rw [nI_clamp (show wn (k + 1) < 2 ^ 31 by omega), hle, nI_clamp (show s < 2 ^ 31 by omega)]
  refine ⟨vp_in_nI (by omega) (by omega), nm_r (X1 s (by omega)) ⟨vp_in_nI ws (by omega), ii, nm_r (e' := upd a_bucketNext (wn (k + 1)) (a_bucketFirst (wn s))) (by rw [nI_clamp (by omega), nar]) ⟨vp_in_nI ws (by omega), nm_r (e' := upd a_bucketFirst (wn s) (nI (wn (k + 1)))) (by rw [nI_clamp (by omega), fi_nb (by omega)]) ⟨ii, nm_r X3 ⟨ii, nm_r (e' := upd a_linked (wn (k + 1)) (nI (wn (par (k + 1))))) (by rw [fi_nb (by omega)]) ⟨vp_in_nI wt (by omega), nm_r (e' := (upd a_bucketFirst (wn s) (nI (wn (k + 1)))) (wn (par (k + 1)))) (by rw [nI_clamp (by omega)]) ?_⟩⟩⟩⟩⟩⟩
  have hch : ∀ t, t < W → fi_ch wn (upd a_bucketNext (wn (k + 1)) (a_bucketFirst (wn s))) (if t = s then (k + 1) :: bl s else bl t) ((upd a_bucketFirst (wn s) (nI (wn (k + 1)))) (wn t)) := by
    intro t ht
    have q := iv3 t ht
    have nn : ∀ j, j ∈ bl t → wn j ≠ wn (k + 1) := fun j hj => nei j ((q.2 j).mp hj).2.1 (by have := ((q.2 j).mp hj).1; omega)
    by_cases e : t = s
    · subst e
      rw [if_pos rfl, pk_us]
      refine ⟨rfl, ?_⟩
      rw [pk_us]
      exact fi_ch_upd _ _ nn q.1
    · rw [if_neg e, pk_un (fun z => e (hinj _ _ ht (by omega) z))]
      exact fi_ch_upd _ _ nn q.1
  have mem : ∀ t, t < W → ∀ j, j ∈ (if t = s then (k + 1) :: bl s else bl t) ↔ (k < j ∧ j < W ∧ sd2 j = t ∧ ∀ c, k + 1 < c → c ≤ j → par c ≠ t) := by
    intro t ht j
    have q := (iv3 t ht).2 j
    by_cases ej : j = k + 1
    · subst ej
      rw [e0]
      by_cases e : t = s
      · rw [if_pos e]
        exact ⟨fun _ => ⟨by omega, hk, e.symm, fun c c1 c2 => by omega⟩, fun _ => List.mem_cons_self ..⟩
      · rw [if_neg e, q]
        exact ⟨fun z => by omega, fun z => absurd z.2.2.1.symm e⟩
    · have es : sd2 j = sd j := by rw [← hsd]; exact if_neg ej
      rw [es]
      have : (j ∈ (if t = s then (k + 1) :: bl s else bl t)) ↔ j ∈ bl t := by
        by_cases e : t = s
        · subst e; rw [if_pos rfl, List.mem_cons]
          exact ⟨fun z => z.elim (fun y => absurd y ej) id, Or.inr⟩
        · rw [if_neg e]
      rw [this, q]
      exact ⟨fun z => ⟨by omega, z.2⟩, fun z => ⟨by omega, z.2⟩⟩
  have wait : ∀ j, j ∈ (if par (k + 1) = s then (k + 1) :: bl s else bl (par (k + 1))) → ∀ m, par (k + 1) < m → fi_an par m j → k + 1 ≤ m := by
    intro j hj
    obtain ⟨m1, m2, m3, m4⟩ := (mem (par (k + 1)) (by omega) j).mp hj
    have q := Dan j m1 m2
    rw [m3] at q
    exact fi_wait T (by omega) (by omega) m2 rfl q m4
  have lvl : ∀ j, j < W → a_least (wn j) = nI (if j < k + 1 then j else sd2 j) ∧ (if j < k + 1 then j else sd2 j) < 2 ^ 31 := by
    intro j hj
    by_cases c : j < k + 1
    · rw [if_pos c, hle2 j hj (by omega)]
      exact ⟨((iv2 j hj).2 (by omega)).1, by omega⟩
    · rw [if_neg c]
      have b1 := fi_sd_p2 T (by omega) hj (D2 j (by omega) hj).1
      have b2 := (T.2.1 j (by omega) hj).1
      refine ⟨?_, by omega⟩
      by_cases e : j = k + 1
      · subst e; rw [hle, e0]
      · rw [hle2 j hj e, ((iv2 j hj).1 (by omega)).1, ← hsd]
        simp only [if_neg e]
  have lik : ∀ j, j < W → (k + 1 ≤ j → (upd a_linked (wn (k + 1)) (nI (wn (par (k + 1))))) (wn j) = nI (wn (par j))) ∧ (j < k + 1 → (upd a_linked (wn (k + 1)) (nI (wn (par (k + 1))))) (wn j) = -1) := by
    intro j hj
    by_cases e : j = k + 1
    · subst e; exact ⟨fun _ => pk_us, fun z => by omega⟩
    · rw [pk_un (nei j hj e)]
      exact ⟨fun z => ((iv2 j hj).1 (by omega)).2, fun z => ((iv2 j hj).2 (by omega)).2⟩
  refine ⟨_, fx_settle55 (i := k + 1) (t := par (k + 1)) (lv := fun j => if j < k + 1 then j else sd2 j) T hw hinj (by omega) pl (by omega) lvl lik _ _ a_above (hch (par (k + 1)) (by omega)) (fun j hj => ?_) (fun ab2 q1 q2 => ?_)⟩
  · obtain ⟨m1, m2, m3, m4⟩ := (mem (par (k + 1)) (by omega) j).mp hj
    refine ⟨by omega, m2, ?_, wait j hj⟩
    show (if j < k + 1 then j else sd2 j) = par (k + 1)
    rw [if_neg (by omega), m3]
  · refine h (fun t => if t = par (k + 1) then [] else if t = s then (k + 1) :: bl s else bl t) _ ab2 _ _ ⟨D2, fun j hj => ⟨fun c => ?_, fun c => ?_⟩, fun t ht => ?_, fun j h1 h2 h3 => ?_, ?_⟩
    · have a := (lvl j hj).1
      rw [if_neg (by omega)] at a
      exact ⟨a, (lik j hj).1 (by omega)⟩
    · have a := (lvl j hj).1
      rw [if_pos (by omega)] at a
      exact ⟨a, (lik j hj).2 (by omega)⟩
    · by_cases e : t = par (k + 1)
      · subst e
        simp only [if_true]
        rw [pk_us]
        refine ⟨rfl, fun j => ⟨fun z => absurd z (List.not_mem_nil), fun z => ?_⟩⟩
        exact absurd rfl (z.2.2.2 (k + 1) (by omega) (by omega))
      · simp only [if_neg e]
        rw [pk_un (fun z => e (hinj _ _ ht (by omega) z))]
        refine ⟨hch t ht, fun j => ?_⟩
        rw [mem t ht j]
        refine ⟨fun z => ⟨z.1, z.2.1, z.2.2.1, fun c c1 c2 => ?_⟩, fun z => ⟨z.1, z.2.1, z.2.2.1, fun c c1 c2 => z.2.2.2 c (by omega) c2⟩⟩
        by_cases ec : c = k + 1
        · subst ec; exact fun y => e y.symm
        · exact z.2.2.2 c (by omega) c2
    · by_cases c : j ∈ (if par (k + 1) = s then (k + 1) :: bl s else bl (par (k + 1)))
      · obtain ⟨u, u1, u2, u3⟩ := q1 j c
        have wj := wait j c
        obtain ⟨m1, m2, m3, m4⟩ := (mem (par (k + 1)) (by omega) j).mp c
        have el : (fun j => if j < k + 1 then j else sd2 j) j = sd2 j := if_neg (by omega)
        refine ⟨⟨u, u1, u2, fi_pre_cg (fun x x1 x2 => ?_) el.symm u3⟩, fun m m1 m2 => ?_⟩
        · rw [if_neg (by omega), m3] at x1
          have := wj x x1 x2
          exact (if_neg (by omega)).symm
        · rw [m3] at m1
          have := wj m m1 m2
          omega
      · have key : k + 1 < j ∧ ∃ c, k + 1 < c ∧ c ≤ j ∧ par c = sd2 j := by
          obtain ⟨c', c1, c2, c3⟩ := h3
          by_cases ec : c' = k + 1
          · subst ec
            have nm : ¬ (∀ c, k + 1 < c → c ≤ j → par c ≠ par (k + 1)) := fun z => c ((mem (par (k + 1)) (by omega) j).mpr ⟨h1, h2, c3.symm, z⟩)
            have : ∃ c, k + 1 < c ∧ c ≤ j ∧ par c = par (k + 1) := Classical.byContradiction (fun z => nm (fun c a b d => z ⟨c, a, b, d⟩))
            obtain ⟨c', d1, d2, d3⟩ := this
            exact ⟨by omega, c', d1, d2, d3.trans c3⟩
          · exact ⟨by omega, c', by omega, c2, c3⟩
        have es : sd2 j = sd j := by rw [← hsd]; exact if_neg (by omega)
        obtain ⟨k1, k2⟩ := key
        rw [es] at k2
        obtain ⟨⟨u, u1, u2, u3⟩, u4⟩ := iv4 j k1 h2 k2
        refine ⟨⟨u, u1, ?_, fi_pre_cg (fun x x1 x2 => ?_) es u3⟩, fun m m1 m2 => ?_⟩
        · rw [q2 (wn j) (fun z hz ez => c (by
            have hz2 := (mem (par (k + 1)) (by omega) z).mp hz
            rw [← hinj _ _ hz2.2.1 h2 ez]; exact hz))]
          exact u2
        · have := u4 x x1 x2
          rw [← hsd]
          exact if_neg (by omega)
        · rw [es] at m1
          have := u4 m m1 m2
          omega
    · rw [q2 (wn 0) (fun z hz ez => by
        have hz2 := (mem (par (k + 1)) (by omega) z).mp hz
        have := hinj _ _ hz2.2.1 (by omega) ez
        omega)]
      exact iv5
end
end
section
/-- above holds the tree -/
def fi_abv (W : Nat) (wn : Nat → Nat) (R : Nat → Nat → Prop) (ab : Nat → Int32) : Prop :=
  ab (wn 0) = -1 ∧ ∀ j, 0 < j → j < W → ∃ v, v < j ∧ ab (wn j) = nI (wn v) ∧ ∀ d, (¬ fi_av R d j ↔ (d = j ∨ ¬ fi_av R d v))
section
variable {f_count f_edges f_queueFirst f_queueSize f_backwards f_walked : Int32} {a_ops a_targets a_firsts a_seconds a_next a_other a_reached a_edgeFrom a_edgeTo a_edgeAdds a_edgeTakes a_starts a_bits a_kept a_queue a_queued a_wayThere a_wayAdds a_wayTakes a_number a_walkNode a_parent a_least a_linked a_above a_bucketFirst a_bucketNext a_pathNode : Nat → Int32}
variable {W rt : Nat} {wn par : Nat → Nat} {L : Nat → Nat → Prop}
theorem fx_above67 {post : SX → Prop} {J : Int32 → Int32 → Int32 → Int32 → Int32 → Int32 → Int32 → (Nat → Int32) → (Nat → Int32) → (Nat → Int32) → (Nat → Int32) → (Nat → Int32) → (Nat → Int32) → (Nat → Int32) → (Nat → Int32) → (Nat → Int32) → (Nat → Int32) → (Nat → Int32) → (Nat → Int32) → (Nat → Int32) → (Nat → Int32) → (Nat → Int32) → (Nat → Int32) → (Nat → Int32) → (Nat → Int32) → (Nat → Int32) → (Nat → Int32) → (Nat → Int32) → (Nat → Int32) → (Nat → Int32) → (Nat → Int32) → (Nat → Int32) → (Nat → Int32) → (Nat → Int32) → (Nat → Int32) → Prop} {k : Nat} {sd : Nat → Nat} {bl : Nat → List Nat} {le0 : Nat → Int32}
    (N : fi_dn L rt W wn par) (X : fi_dx W wn par a_number a_walkNode a_parent) (hx : fi_ld L f_backwards a_next a_other) (hk : k + 1 < W)
    (iv : fi_iv W wn par (fun a b => a < W ∧ b < W ∧ L (wn a) (wn b)) (k + 1) sd bl le0 a_linked a_above a_bucketFirst a_bucketNext)
    (h : ∀ sd2 bl2 le li ab bf bn, fi_iv W wn par (fun a b => a < W ∧ b < W ∧ L (wn a) (wn b)) k sd2 bl2 le li ab bf bn → J (nI k) f_count f_edges f_queueFirst f_queueSize f_backwards f_walked a_ops a_targets a_firsts a_seconds a_next a_other a_reached a_edgeFrom a_edgeTo a_edgeAdds a_edgeTakes a_starts a_bits a_kept a_queue a_queued a_wayThere a_wayAdds a_wayTakes a_number a_walkNode a_parent le li ab bf bn a_pathNode) :
    ∀ d v cur le, v + d = 21 → le (wn (k + 1)) = nI cur → (∀ j, j < W → j ≠ k + 1 → le (wn j) = le0 (wn j)) → cur ≤ k + 1 →
      (∀ a, a < W → wn a < v → L (wn a) (wn (k + 1)) → (a ≤ k + 1 → cur ≤ a) ∧ (k + 1 < a → ∀ x, fi_an par x a → k + 1 < x → cur ≤ sd x)) →
      (cur = k + 1 ∨ (∃ a, a < k + 1 ∧ L (wn a) (wn (k + 1)) ∧ cur = a) ∨ ∃ a x, k + 1 < a ∧ a < W ∧ L (wn a) (wn (k + 1)) ∧ fi_an par x a ∧ k + 1 < x ∧ cur = sd x) →
      wX_findAbove_67 post J (nI (k + 1)) (nI (wn (k + 1))) f_count f_edges f_queueFirst f_queueSize f_backwards f_walked (d + 1) (nI v) a_ops a_targets a_firsts a_seconds a_next a_other a_reached a_edgeFrom a_edgeTo a_edgeAdds a_edgeTakes a_starts a_bits a_kept a_queue a_queued a_wayThere a_wayAdds a_wayTakes a_number a_walkNode a_parent le a_linked a_above a_bucketFirst a_bucketNext a_pathNode := by
  obtain ⟨⟨n1, n2, n3⟩, hw, hinj, hcl, T⟩ := N
  have wi := hw (k + 1) hk
  have ii : vp_in (nI (wn (k + 1))) 21 := vp_in_nI wi (by omega)
  intro d
  induction d with
  | zero =>
    intro v cur le hv hl hl2 hc hA hB
    have hs1 : fi_s1 par (fun a b => a < W ∧ b < W ∧ L (wn a) (wn b)) (fun x => if x = k + 1 then cur else sd x) (k + 1) := by
      rintro a ⟨r1, r2, r3⟩
      have wa := hw a r1
      obtain ⟨a1, a2⟩ := hA a r1 (by omega) r3
      simp only [if_true]
      refine ⟨a1, fun l x x1 x2 => ?_⟩
      rw [if_neg (by omega)]
      exact a2 l x x1 x2
    have cl : cur < k + 1 := by
      have p := T.2.1 (k + 1) (by omega) hk
      have := (hs1 _ p.2).1 (by omega)
      simp only [if_true] at this
      omega
    have hs2 : fi_s2 par (fun a b => a < W ∧ b < W ∧ L (wn a) (wn b)) (fun x => if x = k + 1 then cur else sd x) (k + 1) := by
      unfold fi_s2
      simp only [if_true]
      rcases hB with c | ⟨a, a1, a2, a3⟩ | ⟨a, x, a1, a2, a3, a4, a5, a6⟩
      · omega
      · exact Or.inl ⟨a, a1, ⟨by omega, hk, a2⟩, a3⟩
      · exact Or.inr ⟨a, x, a1, ⟨a2, hk, a3⟩, a4, a5, by rw [if_neg (by omega)]; exact a6⟩
    refine pk_le 21 v (fun _ => ?_) (fun k => by omega)
    refine fx_settle (le0 := le0) (sd := sd) (bl := bl) (s := cur) T n2 hw hinj hk (X.2.2 (k + 1) (by omega) hk) (fun j hj => (X.1 j hj).2) iv hl hl2 hs1 hs2 (fun bl2 li ab bf bn iv2 => nm_r (pk_m1 k) (h _ bl2 le li ab bf bn iv2))
  | succ d ih =>
    intro v cur le hv hl hl2 hc hA hB
    have skip : (∀ a, a < W → wn a = v → ¬ L (wn a) (wn (k + 1))) → wX_findAbove_67 post J (nI (k + 1)) (nI (wn (k + 1))) f_count f_edges f_queueFirst f_queueSize f_backwards f_walked (d + 1) (nI (v + 1)) a_ops a_targets a_firsts a_seconds a_next a_other a_reached a_edgeFrom a_edgeTo a_edgeAdds a_edgeTakes a_starts a_bits a_kept a_queue a_queued a_wayThere a_wayAdds a_wayTakes a_number a_walkNode a_parent le a_linked a_above a_bucketFirst a_bucketNext a_pathNode := by
      intro hn
      refine ih (v + 1) cur le (by omega) hl hl2 hc (fun a a1 a2 a3 => ?_) hB
      by_cases e : wn a = v
      · exact absurd a3 (hn a a1 e)
      · exact hA a a1 (by omega) a3
    refine pk_le 21 v (fun k => by omega) (fun _ => ⟨vp_in_nI (by omega) (by omega), ?_⟩)
    rw [nI_clamp (show v < 2 ^ 31 by omega)]
    by_cases hnum : ∃ a, a < W ∧ wn a = v
    · obtain ⟨a, a1, a2⟩ := hnum
      subst a2
      rw [(X.1 a a1).1]
      refine br_f (nI_pos (by omega)) (fx_leads hx (hw a a1) wi (fun hL => br_f (by decide) ?_) (fun hL => br_t rfl (nm_r (nI_1 _) (skip (fun b b1 b2 => ?_)))))
      · have sdl : ∀ j, k + 1 < j → j < W → sd j < 2 ^ 31 := fun j h1 h2 => by
          have b1 := fi_sd_p2 T (by omega) h2 (iv.1 j h1 h2).1
          have b2 := (T.2.1 j (by omega) h2).1
          omega
        refine fx_best (c := k + 2) (lv := fun j => if j = k + 1 then cur else if j < k + 1 then j else sd j) T hw (by omega) a1 (fun j hj => ?_) (fun j hj => ⟨fun c => ((iv.2.1 j hj).1 (by omega)).2, fun c => ((iv.2.1 j hj).2 (by omega)).2⟩) (fun b hb hbb => ?_)
        · by_cases e : j = k + 1
          · subst e; simp only [if_true]; exact ⟨hl, by omega⟩
          · simp only [if_neg e]
            rw [hl2 j hj e]
            by_cases c : j < k + 1
            · rw [if_pos c]; exact ⟨((iv.2.1 j hj).2 (by omega)).1, by omega⟩
            · rw [if_neg c]; exact ⟨((iv.2.1 j hj).1 (by omega)).1, sdl j (by omega) hj⟩
        · have wb := hw b hb
          have eb : le (wn b) = nI (if b = k + 1 then cur else if b < k + 1 then b else sd b) ∧ (if b = k + 1 then cur else if b < k + 1 then b else sd b) < 2 ^ 31 := by
            by_cases e : b = k + 1
            · subst e; simp only [if_true]; exact ⟨hl, by omega⟩
            · simp only [if_neg e]
              rw [hl2 b hb e]
              by_cases c : b < k + 1
              · rw [if_pos c]; exact ⟨((iv.2.1 b hb).2 (by omega)).1, by omega⟩
              · rw [if_neg c]; exact ⟨((iv.2.1 b hb).1 (by omega)).1, sdl b (by omega) hb⟩
          refine ⟨vp_in_nI wb (by omega), ii, ?_⟩
          rw [nI_clamp (show wn (k + 1) < 2 ^ 31 by omega), nI_clamp (show wn b < 2 ^ 31 by omega), hl, eb.1]
          have go : ∀ c2, c2 ≤ cur → c2 ≤ (if b = k + 1 then cur else if b < k + 1 then b else sd b) → (c2 = cur ∨ (c2 < cur ∧ c2 = (if b = k + 1 then cur else if b < k + 1 then b else sd b))) →
              wX_findAbove_67 post J (nI (k + 1)) (nI (wn (k + 1))) f_count f_edges f_queueFirst f_queueSize f_backwards f_walked (d + 1) (nI (wn a + 1)) a_ops a_targets a_firsts a_seconds a_next a_other a_reached a_edgeFrom a_edgeTo a_edgeAdds a_edgeTakes a_starts a_bits a_kept a_queue a_queued a_wayThere a_wayAdds a_wayTakes a_number a_walkNode a_parent (upd le (wn (k + 1)) (nI c2)) a_linked a_above a_bucketFirst a_bucketNext a_pathNode := by
            intro c2 l1 l2 l3
            refine ih (wn a + 1) c2 _ (by omega) pk_us (fun j j1 j2 => by rw [pk_un (fun z => j2 (hinj _ _ j1 hk z))]; exact hl2 j j1 j2) (by omega) (fun y y1 y2 y3 => ?_) ?_
            · by_cases e : wn y = wn a
              · have : y = a := hinj _ _ y1 a1 e
                subst this
                rcases hbb with ⟨q1, q2⟩ | ⟨q1, q2, q3, q4⟩
                · subst q2
                  refine ⟨fun _ => ?_, fun z => by omega⟩
                  by_cases e2 : b = k + 1
                  · omega
                  · rw [if_neg e2, if_pos (by omega)] at l2; exact l2
                · refine ⟨fun z => by omega, fun _ x x1 x2 => ?_⟩
                  have q := q4 x x1 (by omega)
                  rw [if_neg (show ¬ x = k + 1 by omega), if_neg (show ¬ x < k + 1 by omega)] at q
                  exact Nat.le_trans l2 q
              · obtain ⟨g1, g2⟩ := hA y y1 (by omega) y3
                exact ⟨fun z => Nat.le_trans l1 (g1 z), fun z x x1 x2 => Nat.le_trans l1 (g2 z x x1 x2)⟩
            · rcases l3 with l3 | ⟨l3, l4⟩
              · rw [l3]; exact hB
              · rcases hbb with ⟨q1, q2⟩ | ⟨q1, q2, q3, q4⟩
                · subst q2
                  by_cases e2 : b = k + 1
                  · rw [if_pos e2] at l4; omega
                  · rw [if_neg e2, if_pos (by omega)] at l4
                    exact Or.inr (Or.inl ⟨b, by omega, hL, l4⟩)
                · rw [if_neg (by omega), if_neg (by omega)] at l4
                  exact Or.inr (Or.inr ⟨a, b, by omega, a1, hL, q2, by omega, l4⟩)
          refine pk_le cur (if b = k + 1 then cur else if b < k + 1 then b else sd b) (fun c => ⟨ii, ii, nm_r (e' := upd le (wn (k + 1)) (nI cur)) (by rw [fi_nb' (by omega)]) (nm_r (nI_1 _) (go cur (by omega) c (Or.inl rfl)))⟩) (fun c => ⟨vp_in_nI wb (by omega), ii, nm_r (e' := upd le (wn (k + 1)) (nI (if b = k + 1 then cur else if b < k + 1 then b else sd b))) (by rw [fi_nb' (by omega)]) (nm_r (nI_1 _) (go _ (by omega) (Nat.le_refl _) (Or.inr ⟨c, rfl⟩)))⟩) rfl rfl (by omega) eb.2
      · rw [b2]; exact hL
    · rw [X.2.1 v (by omega) (fun i hi e => hnum ⟨i, hi, e⟩)]
      exact br_t (by decide) (nm_r (nI_1 _) (skip (fun b b1 b2 => absurd ⟨b, b1, b2⟩ hnum)))
theorem fx_above155 {post : SX → Prop} {sd : Nat → Nat} (N : fi_dn L rt W wn par) (X : fi_dx W wn par a_number a_walkNode a_parent)
    (D : fi_sd W par (fun a b => a < W ∧ b < W ∧ L (wn a) (wn b)) sd) (hl : ∀ j, 0 < j → j < W → a_least (wn j) = nI (sd j))
    (h : ∀ ab, fi_abv W wn (fun a b => a < W ∧ b < W ∧ L (wn a) (wn b)) ab → post (f_count, f_edges, f_queueFirst, f_queueSize, f_backwards, nI W, a_ops, a_targets, a_firsts, a_seconds, a_next, a_other, a_reached, a_edgeFrom, a_edgeTo, a_edgeAdds, a_edgeTakes, a_starts, a_bits, a_kept, a_queue, a_queued, a_wayThere, a_wayAdds, a_wayTakes, a_number, a_walkNode, a_parent, a_least, a_linked, ab, a_bucketFirst, a_bucketNext, a_pathNode)) :
    ∀ d i ab, i + d = W → 0 < i → ab (wn 0) = -1 → (∀ j, 0 < j → j < i → ∃ v, v < j ∧ ab (wn j) = nI (wn v) ∧ ∀ d, (¬ fi_av (fun a b => a < W ∧ b < W ∧ L (wn a) (wn b)) d j ↔ (d = j ∨ ¬ fi_av (fun a b => a < W ∧ b < W ∧ L (wn a) (wn b)) d v))) →
      (∀ j, i ≤ j → j < W → ∃ u, u < W ∧ ab (wn j) = nI (wn u) ∧ fi_pre par sd j u) → wX_findAbove_155 post f_count f_edges f_queueFirst f_queueSize f_backwards (nI W) (d + 1) (nI i) a_ops a_targets a_firsts a_seconds a_next a_other a_reached a_edgeFrom a_edgeTo a_edgeAdds a_edgeTakes a_starts a_bits a_kept a_queue a_queued a_wayThere a_wayAdds a_wayTakes a_number a_walkNode a_parent a_least a_linked ab a_bucketFirst a_bucketNext a_pathNode := by
  obtain ⟨⟨n1, n2, n3⟩, hw, hinj, hcl, T⟩ := N
  intro d
  induction d with
  | zero =>
    intro i ab hi h0 e0 h1 h2
    have : i = W := by omega
    subst this
    exact pk_le i i (fun _ => h ab ⟨e0, h1⟩) (fun k => by omega)
  | succ d ih =>
    intro i ab hi h0 e0 h1 h2
    have hiW : i < W := by omega
    have wi := hw i hiW
    have ii : vp_in (nI (wn i)) 21 := vp_in_nI wi (by omega)
    have sl := fi_sd_p T D h0 hiW
    have pl := (T.2.1 i h0 hiW).1
    obtain ⟨u, u1, u2, u3⟩ := h2 i (Nat.le_refl _) hiW
    have wu := hw u u1
    have go : ∀ v, v < i → (∀ d, (¬ fi_av (fun a b => a < W ∧ b < W ∧ L (wn a) (wn b)) d i ↔ (d = i ∨ ¬ fi_av (fun a b => a < W ∧ b < W ∧ L (wn a) (wn b)) d v))) → wX_findAbove_155 post f_count f_edges f_queueFirst f_queueSize f_backwards (nI W) (d + 1) (nI (i + 1)) a_ops a_targets a_firsts a_seconds a_next a_other a_reached a_edgeFrom a_edgeTo a_edgeAdds a_edgeTakes a_starts a_bits a_kept a_queue a_queued a_wayThere a_wayAdds a_wayTakes a_number a_walkNode a_parent a_least a_linked (upd ab (wn i) (nI (wn v))) a_bucketFirst a_bucketNext a_pathNode := by
      intro v hv hd
      refine ih (i + 1) _ (by omega) (by omega) ?_ (fun j j1 j2 => ?_) (fun j j1 j2 => ?_)
      · rw [pk_un (fun z => by have := hinj _ _ (by omega) hiW z; omega)]; exact e0
      · by_cases e : j = i
        · subst e; exact ⟨v, hv, pk_us, hd⟩
        · rw [pk_un (fun z => e (hinj _ _ (by omega) hiW z))]; exact h1 j j1 (by omega)
      · rw [pk_un (fun z => by have := hinj _ _ (by omega) hiW z; omega)]; exact h2 j (by omega) j2
    refine pk_le W i (fun k => by omega) (fun _ => ⟨vp_in_nI (by omega) (by omega), nm_r (e' := nI (wn i)) (by rw [nI_clamp (by omega)]; exact (X.1 i hiW).2) ⟨ii, ii, ?_⟩⟩)
    have ws := hw (sd i) (by omega)
    rw [nI_clamp (show wn i < 2 ^ 31 by omega), hl i h0 hiW, nI_clamp (show sd i < 2 ^ 31 by omega), u2, (X.1 (sd i) (by omega)).2]
    refine ⟨vp_in_nI (by omega) (by omega), ?_⟩
    rcases fi_pre_dom T D h0 hiW u3 with ⟨q1, q2⟩ | ⟨q1, q2, q3, q4⟩
    · subst q1
      exact br_t rfl ⟨ii, ii, nm_r (e' := upd ab (wn i) (nI (wn (sd i)))) (by rw [fi_nb' (by omega)]) (nm_r (nI_1 i) (go (sd i) (by omega) q2))⟩
    · refine br_f (fun z => ?_) ⟨ii, vp_in_nI wu (by omega), ii, ?_⟩
      · have := hinj _ _ u1 (by omega) ((nI_eq (by omega) (by omega)).mp z)
        omega
      · obtain ⟨v, v1, v2, v3⟩ := h1 u q2 q3
        have wv := hw v (by omega)
        rw [nI_clamp (show wn u < 2 ^ 31 by omega), v2]
        exact nm_r (e' := upd ab (wn i) (nI (wn v))) (by rw [fi_nb' (by omega)]) (nm_r (nI_1 i) (go v (by omega) (q4 v v1 v3)))
theorem fx_findAbove {post : SX → Prop} (N : fi_dn L rt W wn par) (X : fi_dx W wn par a_number a_walkNode a_parent) (hx : fi_ld L f_backwards a_next a_other)
    (h : ∀ le li ab bf bn, fi_abv W wn (fun a b => a < W ∧ b < W ∧ L (wn a) (wn b)) ab → post (f_count, f_edges, f_queueFirst, f_queueSize, f_backwards, nI W, a_ops, a_targets, a_firsts, a_seconds, a_next, a_other, a_reached, a_edgeFrom, a_edgeTo, a_edgeAdds, a_edgeTakes, a_starts, a_bits, a_kept, a_queue, a_queued, a_wayThere, a_wayAdds, a_wayTakes, a_number, a_walkNode, a_parent, le, li, ab, bf, bn, a_pathNode)) : wpX_findAbove post (f_count, f_edges, f_queueFirst, f_queueSize, f_backwards, nI W, a_ops, a_targets, a_firsts, a_seconds, a_next, a_other, a_reached, a_edgeFrom, a_edgeTo, a_edgeAdds, a_edgeTakes, a_starts, a_bits, a_kept, a_queue, a_queued, a_wayThere, a_wayAdds, a_wayTakes, a_number, a_walkNode, a_parent, a_least, a_linked, a_above, a_bucketFirst, a_bucketNext, a_pathNode) := by
  have N' := N
  obtain ⟨⟨n1, n2, n3⟩, hw, hinj, hcl, T⟩ := N'
  have k54 : ∀ i sd bl le li ab bf bn, i < W → fi_iv W wn par (fun a b => a < W ∧ b < W ∧ L (wn a) (wn b)) i sd bl le li ab bf bn →
      wX_findAbove_54 post (i + 1) (nI i) f_count f_edges f_queueFirst f_queueSize f_backwards (nI W) a_ops a_targets a_firsts a_seconds a_next a_other a_reached a_edgeFrom a_edgeTo a_edgeAdds a_edgeTakes a_starts a_bits a_kept a_queue a_queued a_wayThere a_wayAdds a_wayTakes a_number a_walkNode a_parent le li ab bf bn a_pathNode := by
    intro i
    induction i with
    | zero =>
      intro sd bl le li ab bf bn hi iv
      refine pk_le 0 0 (fun _ => ⟨_, fx_above155 (sd := sd) N X (fun j h1 h2 => iv.1 j h1 h2) (fun j h1 h2 => ((iv.2.1 j h2).1 h1).1) (fun ab2 hab => h _ _ _ _ _ hab) (W - 1) 1 ab (by omega) (by omega) iv.2.2.2.2 (fun j h1 h2 => by omega) (fun j h1 h2 => ?_)⟩) (fun k => by omega)
      have sl := fi_sd_p2 T (by omega) h2 (iv.1 j (by omega) h2).1
      have pl := (T.2.1 j (by omega) h2).1
      have sa := fi_sd_an2 T iv.1 _ j (Nat.le_refl _) (by omega) h2
      obtain ⟨c, c1, c2, c3⟩ := fi_child T j h2 sa (by omega)
      exact (iv.2.2.2.1 j (by omega) h2 ⟨c, by omega, fi_an_le T h2 c1, c2⟩).1
    | succ k ih =>
      intro sd bl le li ab bf bn hi iv
      refine pk_le (k + 1) 0 (fun k => by omega) (fun _ => ⟨vp_in_nI (by omega) (by omega), nm_r (e' := nI (wn (k + 1))) (by rw [nI_clamp (by omega)]; exact (X.1 (k + 1) hi).2) ?_⟩)
      refine ⟨_, fx_above67 (le0 := le) N X hx hi iv (fun sd2 bl2 le2 li2 ab2 bf2 bn2 iv2 => ih sd2 bl2 le2 li2 ab2 bf2 bn2 (by omega) iv2) 21 0 (k + 1) le (by omega) ((iv.2.1 (k + 1) hi).2 (Nat.le_refl _)).1 (fun j _ _ => rfl) (Nat.le_refl _) (fun a _ a2 => by omega) (Or.inl rfl)⟩
  have k2 : ∀ d i le li ab bf, i + d = 21 → (∀ x, x < i → le x = a_number x ∧ li x = -1 ∧ ab x = -1 ∧ bf x = -1) → wX_findAbove_2 post f_count f_edges f_queueFirst f_queueSize f_backwards (nI W) (d + 1) (nI i) a_ops a_targets a_firsts a_seconds a_next a_other a_reached a_edgeFrom a_edgeTo a_edgeAdds a_edgeTakes a_starts a_bits a_kept a_queue a_queued a_wayThere a_wayAdds a_wayTakes a_number a_walkNode a_parent le li ab bf a_bucketNext a_pathNode := by
    intro d
    induction d with
    | zero =>
      intro i le li ab bf hi H
      have e : nI W - 1 = nI (W - 1) := by
        obtain ⟨w, rfl⟩ : ∃ w, W = w + 1 := ⟨W - 1, by omega⟩
        exact nI_pred w
      refine pk_le 21 i (fun _ => nm_r e ⟨_, k54 (W - 1) (fun _ => 0) (fun _ => []) le li ab bf a_bucketNext (by omega) ⟨fun j h1 h2 => by omega, fun j hj => ⟨fun c => by omega, fun _ => ?_⟩, fun t ht => ⟨?_, fun j => ⟨fun z => absurd z (List.not_mem_nil), fun z => by omega⟩⟩, fun j h1 h2 => by omega, ?_⟩⟩) (fun k => by omega)
      · have w := hw j hj
        obtain ⟨q1, q2, _⟩ := H (wn j) (by omega)
        exact ⟨q1.trans (X.1 j hj).1, q2⟩
      · have w := hw t ht
        exact (H (wn t) (by omega)).2.2.2
      · have w := hw 0 (by omega)
        exact (H (wn 0) (by omega)).2.2.1
    | succ d ih =>
      intro i le li ab bf hi H
      have ii : vp_in (nI i) 21 := vp_in_nI (by omega) (by omega)
      have nar : vp_nar .byte (a_number i) = a_number i := by
        by_cases c : ∃ a, a < W ∧ wn a = i
        · obtain ⟨a, a1, a2⟩ := c
          rw [← a2, (X.1 a a1).1]; exact fi_nb' (by omega)
        · rw [X.2.1 i (by omega) (fun j hj e => c ⟨j, hj, e⟩)]; exact fi_nbm
      refine pk_le 21 i (fun k => by omega) (fun _ => ⟨ii, ii, nm_r (e' := upd le i (a_number i)) (by rw [nI_clamp (by omega), nar]) ⟨ii, nm_r (e' := upd li i (-1)) (by rw [nI_clamp (by omega), fi_nbm]) ⟨ii, nm_r (e' := upd ab i (-1)) (by rw [nI_clamp (by omega), fi_nbm]) ⟨ii, nm_r (e' := upd bf i (-1)) (by rw [nI_clamp (by omega), fi_nbm]) (nm_r (nI_1 i) (ih (i + 1) _ _ _ _ (by omega) (fun x hx2 => ?_)))⟩⟩⟩⟩)
      by_cases e : x = i
      · subst e; rw [pk_us, pk_us, pk_us, pk_us]; exact ⟨rfl, rfl, rfl, rfl⟩
      · rw [pk_un e, pk_un e, pk_un e, pk_un e]; exact H x (by omega)
  exact ⟨_, k2 21 0 a_least a_linked a_above a_bucketFirst (by omega) (fun x hx2 => by omega)⟩
/-- every way from the root to p goes through q -/
def fi_Dm (L : Nat → Nat → Prop) (rt q p : Nat) : Prop := ¬ fi_rc (fun a b => L a b ∧ b ≠ q) (fun a => a = rt ∧ a ≠ q) p
theorem fi_Dm_ln (N : fi_dn L rt W wn par) (hL : ∀ a b, L a b → b < 21) {j q : Nat} (hj : j < W) : (∃ d, d < W ∧ wn d = q ∧ ¬ fi_av (fun a b => a < W ∧ b < W ∧ L (wn a) (wn b)) d j) ↔ fi_Dm L rt q (wn j) := by
  constructor
  · rintro ⟨d, d1, d2, d3⟩
    rw [fi_dn_av N hL d1 hj, d2] at d3
    exact d3
  · intro h
    by_cases c : ∃ d, d < W ∧ wn d = q
    · obtain ⟨d, d1, d2⟩ := c
      refine ⟨d, d1, d2, ?_⟩
      rw [fi_dn_av N hL d1 hj, d2]
      exact h
    · refine absurd ?_ h
      have r := (fi_dn_rc N hL (wn j)).mpr ⟨j, hj, rfl⟩
      have nq : ∀ x, fi_rc L (fun a => a = rt) x → x ≠ q := fun x hx e => c (by
        rw [← e]; exact (fi_dn_rc N hL x).mp hx)
      exact fi_rc_j (fun x => fi_rc (fun a b => L a b ∧ b ≠ q) (fun a => a = rt ∧ a ≠ q) x) (fun a ha => fi_rc_b ⟨ha, nq a (fi_rc_b ha)⟩) (fun a b ha hb e => fi_rc_s hb ⟨e, nq b (fi_rc_s ha e)⟩) r
theorem fx_lineOf {post : Int32 → Prop} (N : fi_dn L rt W wn par) (hL : ∀ a b, L a b → b < 21) (hab : fi_abv W wn (fun a b => a < W ∧ b < W ∧ L (wn a) (wn b)) a_above) {x : Nat} (hx : ∃ j, j < W ∧ wn j = x)
    (h : ∀ r, fi_is r (fun q => q < 20 ∧ fi_Dm L rt q x) → post r) : wpX_lineOf post (f_count, f_edges, f_queueFirst, f_queueSize, f_backwards, f_walked, a_ops, a_targets, a_firsts, a_seconds, a_next, a_other, a_reached, a_edgeFrom, a_edgeTo, a_edgeAdds, a_edgeTakes, a_starts, a_bits, a_kept, a_queue, a_queued, a_wayThere, a_wayAdds, a_wayTakes, a_number, a_walkNode, a_parent, a_least, a_linked, a_above, a_bucketFirst, a_bucketNext, a_pathNode) (nI x) := by
  have N' := N
  obtain ⟨⟨n1, n2, n3⟩, hw, hinj, hcl, T⟩ := N'
  obtain ⟨j, hj, rfl⟩ := hx
  have key : ∀ m j r (P : Nat → Prop), j < m → j < W → fi_is r P → (∀ r2, fi_is r2 (fun q => P q ∨ (q < 20 ∧ ∃ d, d < W ∧ wn d = q ∧ ¬ fi_av (fun a b => a < W ∧ b < W ∧ L (wn a) (wn b)) d j)) → post r2) → wX_lineOf_4 post f_count f_edges f_queueFirst f_queueSize f_backwards f_walked a_ops a_targets a_firsts a_seconds a_next a_other a_reached a_edgeFrom a_edgeTo a_edgeAdds a_edgeTakes a_starts a_bits a_kept a_queue a_queued a_wayThere a_wayAdds a_wayTakes a_number a_walkNode a_parent a_least a_linked a_above a_bucketFirst a_bucketNext a_pathNode (m + 1) r (nI (wn j)) := by
    intro m
    induction m with
    | zero => intro j r P hm; omega
    | succ m ih =>
      intro j r P hm hjW hr h
      have wj := hw j hjW
      have ij : vp_in (nI (wn j)) 21 := vp_in_nI wj (by omega)
      have go : ∀ r2, fi_is r2 (fun q => P q ∨ (q < 20 ∧ q = wn j)) → vp_in (nI (wn j)) 21 ∧ ∀ y, y = a_above (nI (wn j)).toNatClampNeg → wX_lineOf_4 post f_count f_edges f_queueFirst f_queueSize f_backwards f_walked a_ops a_targets a_firsts a_seconds a_next a_other a_reached a_edgeFrom a_edgeTo a_edgeAdds a_edgeTakes a_starts a_bits a_kept a_queue a_queued a_wayThere a_wayAdds a_wayTakes a_number a_walkNode a_parent a_least a_linked a_above a_bucketFirst a_bucketNext a_pathNode (m + 1) r2 y := by
        intro r2 hr2
        refine ⟨ij, ?_⟩
        rw [nI_clamp (by omega)]
        by_cases z : j = 0
        · subst z
          refine nm_r hab.1 (br_t (by decide) (h r2 (fi_is_c hr2 (fun q _ => ⟨fun w => w.imp id (fun y => ⟨y.1, 0, hjW, y.2.symm, fun k => ?_⟩), fun w => w.imp id (fun ⟨y, d, d1, d2, d3⟩ => ⟨y, ?_⟩)⟩))))
          · rcases fi_rc_cases k with e | ⟨a, _, e⟩
            · exact e.2 rfl
            · exact e.2 rfl
          · by_cases e : d = 0
            · rw [← d2, e]
            · exact absurd (fi_rc_b ⟨rfl, fun z => e z.symm⟩) d3
        · obtain ⟨v, v1, v2, v3⟩ := hab.2 j (by omega) hjW
          refine nm_r v2 (ih v r2 _ (by omega) (by omega) hr2 (fun r3 hr3 => h r3 (fi_is_c hr3 (fun q _ => ⟨?_, ?_⟩))))
          · rintro ((w | ⟨w1, w2⟩) | ⟨w1, d, d1, d2, d3⟩)
            · exact Or.inl w
            · exact Or.inr ⟨w1, j, hjW, w2.symm, (v3 j).mpr (Or.inl rfl)⟩
            · exact Or.inr ⟨w1, d, d1, d2, (v3 d).mpr (Or.inr d3)⟩
          · rintro (w | ⟨w1, d, d1, d2, d3⟩)
            · exact Or.inl (Or.inl w)
            · rcases (v3 d).mp d3 with e | e
              · subst e; exact Or.inl (Or.inr ⟨w1, d2.symm⟩)
              · exact Or.inr ⟨w1, d, d1, d2, e⟩
      refine br_f (nI_pos (by omega)) (pk_eq (wn j) 20 (fun c => ?_) (fun c => ?_))
      · exact nm_e (go _ (fi_is_c (fi_is_or hr fi_is_0) (fun q _ => ⟨fun w => w.imp id (fun y => y.elim), fun w => w.imp id (fun y => by omega)⟩)))
      · exact nm_e (go _ (fi_is_c (fi_is_or hr (fi_is_1 (by omega))) (fun q _ => ⟨fun w => w.imp id (fun y => ⟨by omega, y⟩), fun w => w.imp id (fun y => y.2)⟩)))
  refine ⟨_, key (j + 1) j 0 (fun _ => False) (by omega) hj fi_is_0 (fun r hr => h r (fi_is_c hr (fun q _ => ?_)))⟩
  rw [fi_Dm_ln N hL hj]
  exact ⟨fun w => w.elim False.elim id, Or.inr⟩
end
end
section
def fi_D (n : Nat) (O B : Nat → Nat) (q p : Nat) : Prop := fi_Dm (fi_E n O B) (fi_nd n 0) q p
/-- the tree is grown -/
def fi_gt (n : Nat) (O B : Nat → Nat) (nx ot re ab : Nat → Int32) : Prop :=
  fi_nti n O B n nx ot ∧ (∀ p, p < 21 → (re p = 0 ↔ ¬ fi_RE n O B p)) ∧ ∃ W wn par, fi_dn (fi_E n O B) (fi_nd n 0) W wn par ∧ fi_abv W wn (fun a b => a < W ∧ b < W ∧ fi_E n O B (wn a) (wn b)) ab
def fi_br (n : Nat) (O B : Nat → Nat) (p q : Nat) : Prop := q ≠ 20 ∧ (q = p ∨ ¬ fi_D n O B p q)
/-- the border of p -/
def fi_bd (n : Nat) (O B : Nat → Nat) (p q : Nat) : Prop := ∃ r, r < n ∧ fi_RE n O B r ∧ fi_D n O B p r ∧ fi_E n O B r q ∧ fi_br n O B p q
theorem fi_RE_s {n : Nat} {O B : Nat → Nat} {p q : Nat} (h : fi_RE n O B p) (e : fi_E n O B p q) : fi_RE n O B q := fi_rc_s h e
theorem fi_bd_lt {n : Nat} {O B : Nat → Nat} {p q : Nat} (h : fi_bd n O B p q) : q < n := by
  obtain ⟨r, r1, r2, r3, r4, r5⟩ := h
  rcases fi_E_n r4 with c | c
  · exact c
  · exact absurd c r5.1
section
variable {f_count f_edges f_queueFirst f_queueSize f_backwards f_walked : Int32} {a_ops a_targets a_firsts a_seconds a_next a_other a_reached a_edgeFrom a_edgeTo a_edgeAdds a_edgeTakes a_starts a_bits a_kept a_queue a_queued a_wayThere a_wayAdds a_wayTakes a_number a_walkNode a_parent a_least a_linked a_above a_bucketFirst a_bucketNext a_pathNode : Nat → Int32}
variable {n : Nat} {O V A B : Nat → Nat}
theorem fx_growTree {post : SX → Prop} (hC : fi_C n O V A B a_ops a_targets a_firsts a_seconds)
    (h : ∀ wd nx ot re nu wk pa pn le li ab bf bn, fi_gt n O B nx ot re ab → post (nI n, f_edges, f_queueFirst, f_queueSize, 0, wd, a_ops, a_targets, a_firsts, a_seconds, nx, ot, re, a_edgeFrom, a_edgeTo, a_edgeAdds, a_edgeTakes, a_starts, a_bits, a_kept, a_queue, a_queued, a_wayThere, a_wayAdds, a_wayTakes, nu, wk, pa, le, li, ab, bf, bn, pn)) :
    wpX_growTree post (nI n, f_edges, f_queueFirst, f_queueSize, f_backwards, f_walked, a_ops, a_targets, a_firsts, a_seconds, a_next, a_other, a_reached, a_edgeFrom, a_edgeTo, a_edgeAdds, a_edgeTakes, a_starts, a_bits, a_kept, a_queue, a_queued, a_wayThere, a_wayAdds, a_wayTakes, a_number, a_walkNode, a_parent, a_least, a_linked, a_above, a_bucketFirst, a_bucketNext, a_pathNode) := by
  have hn := hC.1
  unfold wpX_growTree
  refine fx_findNext hC (fun nx ot re W wn par nu wk pa pn H hr N X => ?_)
  refine fx_findAbove N X (Or.inl ⟨rfl, fi_nt_nx hn H⟩) (fun le li ab bf bn hab => ?_)
  exact h _ nx ot re nu wk pa pn le li ab bf bn ⟨H, hr, W, wn, par, N, hab⟩
theorem fx_line {post : Int32 → Prop} (hn : n ≤ 20) (G : fi_gt n O B a_next a_other a_reached a_above) {x : Nat} (hx : fi_RE n O B x)
    (h : ∀ r, fi_is r (fun q => q < 20 ∧ fi_D n O B q x) → post r) : wpX_lineOf post (f_count, f_edges, f_queueFirst, f_queueSize, f_backwards, f_walked, a_ops, a_targets, a_firsts, a_seconds, a_next, a_other, a_reached, a_edgeFrom, a_edgeTo, a_edgeAdds, a_edgeTakes, a_starts, a_bits, a_kept, a_queue, a_queued, a_wayThere, a_wayAdds, a_wayTakes, a_number, a_walkNode, a_parent, a_least, a_linked, a_above, a_bucketFirst, a_bucketNext, a_pathNode) (nI x) := by
  obtain ⟨g1, g2, W, wn, par, N, hab⟩ := G
  have hL : ∀ a b, fi_E n O B a b → b < 21 := fun a b e => (fi_E_lt hn e).2
  exact fx_lineOf N hL hab ((fi_dn_rc N hL x).mp hx) h
theorem fx_isBorder {post : Int32 → Prop} (hn : n ≤ 20) (G : fi_gt n O B a_next a_other a_reached a_above) {p q : Nat} (hp : p < n) (hq : q < 21) (hx : fi_RE n O B q)
    (h1 : fi_br n O B p q → post 1) (h0 : ¬ fi_br n O B p q → post 0) : wpX_isBorder post (f_count, f_edges, f_queueFirst, f_queueSize, f_backwards, f_walked, a_ops, a_targets, a_firsts, a_seconds, a_next, a_other, a_reached, a_edgeFrom, a_edgeTo, a_edgeAdds, a_edgeTakes, a_starts, a_bits, a_kept, a_queue, a_queued, a_wayThere, a_wayAdds, a_wayTakes, a_number, a_walkNode, a_parent, a_least, a_linked, a_above, a_bucketFirst, a_bucketNext, a_pathNode) (nI p) (nI q) := by
  refine pk_eq q 20 (fun c => h0 (fun z => z.1 c)) (fun c => pk_eq q p (fun c2 => h1 ⟨c, Or.inl c2⟩) (fun c2 => fx_line hn G hx (fun r hr => ?_)))
  refine br_c (fun z => h1 ⟨c, Or.inr (fun k => ?_)⟩) (fun z => h0 (fun k => z ?_))
  · exact (fi_is_t0 hr (by omega)).mp z ⟨by omega, k⟩
  · refine (fi_is_t0 hr (by omega)).mpr (fun y => ?_)
    rcases k.2 with w | w
    · exact c2 w
    · exact w y.2
theorem fx_border72 {post : Int32 → Prop} {J : Int32 → Int32 → Prop} (hn : n ≤ 20) (G : fi_gt n O B a_next a_other a_reached a_above) {p r : Nat} {x4 z0 z1 : Int32} {P0 P1 : Nat → Prop} (hp : p < n) (hr : r < n) (hx : ¬ x4 = 0 → fi_RE n O B r)
    (h1 : fi_is z1 P1) (h0 : fi_is z0 P0)
    (K0 : x4 = 0 → ∀ s, fi_is s (fun q => P1 q ∨ P0 q) → J s (nI (r + 1)))
    (K1 : ¬ x4 = 0 → ∀ s, fi_is s (fun q => (P1 q ∨ P0 q) ∨ ((O r = 6 ∧ fi_gl n O B r ≠ fi_nd n (r + 1)) ∧ q = fi_nd n (r + 1) ∧ fi_br n O B p q)) → J s (nI (r + 1))) :
    wX_borderOf_72 post J (nI p) (nI r) x4 z0 z1 f_count f_edges f_queueFirst f_queueSize f_backwards f_walked a_ops a_targets a_firsts a_seconds a_next a_other a_reached a_edgeFrom a_edgeTo a_edgeAdds a_edgeTakes a_starts a_bits a_kept a_queue a_queued a_wayThere a_wayAdds a_wayTakes a_number a_walkNode a_parent a_least a_linked a_above a_bucketFirst a_bucketNext a_pathNode := by
  have ir : vp_in (nI r) 21 := vp_in_nI (by omega) (by omega)
  have g2 := fi_nd_lt (t := r + 1) hn
  refine nm_e (br_c (fun c => nm_e (nm_r (nI_1 r) (K0 c _ (fi_or0 (fi_is_or h1 h0))))) (fun c => ⟨ir, ?_⟩))
  rw [nI_clamp (by omega), ((G.1 r (by omega)).1 hr).2]
  by_cases k : O r = 6 ∧ fi_gl n O B r ≠ fi_nd n (r + 1)
  · rw [show fi_ot n O B r = nI (fi_nd n (r + 1)) from if_pos k]
    refine br_f (nI_pos (by omega)) ⟨ir, fx_isBorder hn G hp g2 (fi_RE_s (hx c) ⟨hr, Or.inr ⟨k.1, rfl⟩⟩) (fun b => br_f (by decide) ⟨ir, ?_⟩) (fun b => br_t rfl ?_)⟩
    · refine nm_e (nm_r (nI_1 r) (K1 c _ (fi_is_c (fi_is_or (fi_is_or h1 h0) (fi_is_1 (by omega))) (fun q _ => ⟨fun w => w.imp id (fun y => ⟨k, y, by rw [y]; exact b⟩), fun w => w.imp id (fun y => y.2.1)⟩))))
    · refine nm_e (nm_r (nI_1 r) (K1 c _ (fi_is_c (fi_or0 (fi_is_or h1 h0)) (fun q _ => ⟨Or.inl, fun w => w.elim id (fun y => absurd (by rw [← y.2.1]; exact y.2.2) b)⟩))))
  · rw [show fi_ot n O B r = -1 from if_neg k]
    exact br_t (by decide) (nm_e (nm_r (nI_1 r) (K1 c _ (fi_is_c (fi_or0 (fi_is_or h1 h0)) (fun q _ => ⟨Or.inl, fun w => w.elim id (fun y => absurd y.1 k)⟩)))))
theorem fx_borderOf {post : Int32 → Prop} (hn : n ≤ 20) (G : fi_gt n O B a_next a_other a_reached a_above) {p : Nat} (hp : p < n)
    (h : ∀ r, fi_is r (fi_bd n O B p) → post r) : wpX_borderOf post (nI n, f_edges, f_queueFirst, f_queueSize, f_backwards, f_walked, a_ops, a_targets, a_firsts, a_seconds, a_next, a_other, a_reached, a_edgeFrom, a_edgeTo, a_edgeAdds, a_edgeTakes, a_starts, a_bits, a_kept, a_queue, a_queued, a_wayThere, a_wayAdds, a_wayTakes, a_number, a_walkNode, a_parent, a_least, a_linked, a_above, a_bucketFirst, a_bucketNext, a_pathNode) (nI p) := by
  unfold wpX_borderOf
  refine fi_lp (n := n) (fun i q => ∃ r, r < i ∧ fi_RE n O B r ∧ fi_D n O B p r ∧ fi_E n O B r q ∧ fi_br n O B p q) ?_ ?_ ?_
  · exact fi_is_c fi_is_0 (fun i _ => ⟨fun z => z.elim, fun ⟨r, hr, _⟩ => by omega⟩)
  · intro m r hr
    exact pk_le n n (fun _ => h r hr) (fun k => by omega)
  · intro m i r hi hr K
    have ii : vp_in (nI i) 21 := vp_in_nI (by omega) (by omega)
    have g1 := fi_gl_lt (O := O) (B := B) (p := i) hn
    have skip : ¬ (fi_RE n O B i ∧ fi_D n O B p i) → wX_borderOf_37 post (wX_borderOf_4 post (nI p) (nI n) f_edges f_queueFirst f_queueSize f_backwards f_walked a_ops a_targets a_firsts a_seconds a_next a_other a_reached a_edgeFrom a_edgeTo a_edgeAdds a_edgeTakes a_starts a_bits a_kept a_queue a_queued a_wayThere a_wayAdds a_wayTakes a_number a_walkNode a_parent a_least a_linked a_above a_bucketFirst a_bucketNext a_pathNode m) (nI p) r (nI i) (nI n) f_edges f_queueFirst f_queueSize f_backwards f_walked a_ops a_targets a_firsts a_seconds a_next a_other a_reached a_edgeFrom a_edgeTo a_edgeAdds a_edgeTakes a_starts a_bits a_kept a_queue a_queued a_wayThere a_wayAdds a_wayTakes a_number a_walkNode a_parent a_least a_linked a_above a_bucketFirst a_bucketNext a_pathNode := by
      intro hno
      refine br_t rfl (fx_border72 hn G hp hi (fun z => absurd rfl z) hr fi_is_0 (fun _ s hs => K s (fi_is_c hs (fun q _ => ⟨?_, ?_⟩))) (fun z => absurd rfl z))
      · rintro (⟨r, r1, r2⟩ | z)
        · exact ⟨r, by omega, r2⟩
        · exact z.elim
      · rintro ⟨r, r1, r2, r3, r4⟩
        by_cases e : r = i
        · subst e; exact absurd ⟨r2, r3⟩ hno
        · exact Or.inl ⟨r, by omega, r2, r3, r4⟩
    refine pk_le n i (fun k => by omega) (fun _ => ⟨ii, ?_⟩)
    rw [nI_clamp (by omega)]
    refine br_c (fun c => skip (fun z => (G.2.1 i (by omega)).mp c z.1)) (fun c => ?_)
    have re : fi_RE n O B i := Classical.byContradiction (fun z => c ((G.2.1 i (by omega)).mpr z))
    refine fx_line hn G re (fun s hs => br_c (fun z => skip (fun y => (fi_is_t0 hs (by omega)).mp z ⟨by omega, y.2⟩)) (fun z => ?_))
    have dd : fi_D n O B p i := Classical.byContradiction (fun y => z ((fi_is_t0 hs (by omega)).mpr (fun w => y w.2)))
    have fin : ∀ (z0 : Int32) (P0 : Nat → Prop), fi_is z0 P0 → (∀ q, P0 q ↔ (q = fi_gl n O B i ∧ fi_br n O B p q)) → wX_borderOf_72 post (wX_borderOf_4 post (nI p) (nI n) f_edges f_queueFirst f_queueSize f_backwards f_walked a_ops a_targets a_firsts a_seconds a_next a_other a_reached a_edgeFrom a_edgeTo a_edgeAdds a_edgeTakes a_starts a_bits a_kept a_queue a_queued a_wayThere a_wayAdds a_wayTakes a_number a_walkNode a_parent a_least a_linked a_above a_bucketFirst a_bucketNext a_pathNode m) (nI p) (nI i) 1 z0 r (nI n) f_edges f_queueFirst f_queueSize f_backwards f_walked a_ops a_targets a_firsts a_seconds a_next a_other a_reached a_edgeFrom a_edgeTo a_edgeAdds a_edgeTakes a_starts a_bits a_kept a_queue a_queued a_wayThere a_wayAdds a_wayTakes a_number a_walkNode a_parent a_least a_linked a_above a_bucketFirst a_bucketNext a_pathNode := by
      intro z0 P0 h0 hP
      refine fx_border72 hn G hp hi (fun _ => re) hr h0 (fun z => absurd z (by decide)) (fun _ s2 hs2 => K s2 (fi_is_c hs2 (fun q _ => ⟨?_, ?_⟩)))
      · rintro ((⟨r, r1, r2⟩ | w) | ⟨w1, w2, w3⟩)
        · exact ⟨r, by omega, r2⟩
        · have w := (hP q).mp w
          exact ⟨i, by omega, re, dd, ⟨hi, Or.inl w.1⟩, w.2⟩
        · exact ⟨i, by omega, re, dd, ⟨hi, Or.inr ⟨w1.1, w2⟩⟩, w3⟩
      · rintro ⟨r, r1, r2, r3, r4, r5⟩
        by_cases e : r = i
        · subst e
          rcases r4.2 with w | w
          · exact Or.inl (Or.inr ((hP q).mpr ⟨w, r5⟩))
          · by_cases e2 : fi_gl n O B r = fi_nd n (r + 1)
            · exact Or.inl (Or.inr ((hP q).mpr ⟨by rw [e2]; exact w.2, r5⟩))
            · exact Or.inr ⟨⟨w.1, e2⟩, w.2, r5⟩
        · exact Or.inl (Or.inl ⟨r, by omega, r2, r3, r4, r5⟩)
    refine br_f (by decide) ⟨ii, ?_⟩
    rw [nI_clamp (by omega), ((G.1 i (by omega)).1 hi).1]
    refine fx_isBorder hn G hp g1 (fi_RE_s re ⟨hi, Or.inl rfl⟩) (fun b => br_f (by decide) ⟨ii, ?_⟩) (fun b => br_t rfl (fin 0 _ fi_is_0 (fun q => ⟨fun z => z.elim, fun z => b (by rw [← z.1]; exact z.2)⟩)))
    exact fin _ _ (fi_is_1 (by omega)) (fun q => ⟨fun z => ⟨z, by rw [z]; exact b⟩, fun z => z.1⟩)
end
/-- the least set by steps U p, p < n -/
def fi_lu (n : Nat) (U : (Nat → Prop) → Nat → Nat → Prop) (I : Nat → Prop) (z : Nat) : Prop := ∀ S : Nat → Prop, (∀ a, I a → S a) → (∀ p x, p < n → U S p x → S x) → S z
theorem fi_bt_lt {s : Int32} {y : Nat} (h : bt s y = true) : y < 32 := Nat.lt_of_not_le (fun c => by rw [b_big c] at h; exact absurd h (by decide))
/-- passes in place, as many as there is room -/
theorem fi_pass {post : Int32 → Prop} {n N M : Nat} {U : (Nat → Prop) → Nat → Nat → Prop} {I G : Nat → Prop} {Wo : Nat → Int32 → Int32 → Prop} {Wi : Nat → Nat → Nat → Int32 → Int32 → Prop}
    (hN : N ≤ 32) (hG : ∀ y, G y → y < N) (mono : ∀ (P Q : Nat → Prop) p x, (∀ y, P y → Q y) → U P p x → U Q p x) (low : ∀ (P : Nat → Prop) p x, p < n → (∀ y, P y → G y) → U P p x → G x) (lowI : ∀ a, I a → G a)
    (hM : N ≤ M ∨ (N ≤ M + 1 ∧ ((∀ p x, p < n → ¬ U (fun _ => False) p x))))
    (ho1 : ∀ m s, post s → Wo (m + 1) s (nI M)) (ho2 : ∀ m i s, i < M → (∃ k, Wi m i k s 0) → Wo (m + 1) s (nI i))
    (hi1 : ∀ m i k s, i < M → Wo m s (nI (i + 1)) → Wi m i (k + 1) s (nI n))
    (hi2 : ∀ m i k s p, i < M → p < n → (∀ y, bt s y = true → G y) → (∀ s2, fi_is s2 (fun q => bt s q = true ∨ U (fun y => bt s y = true) p q) → Wi m i k s2 (nI (p + 1))) → Wi m i (k + 1) s (nI p))
    (h : ∀ s, fi_is s (fi_lu n U I) → post s) : ∀ s, fi_is s I → ∃ m, Wo m s 0 := by
  intro s0 hs0
  have bs0 : ∀ y, bt s0 y = true → I y := fun y hy => (hs0 y (fi_bt_lt hy)).mp hy
  have sI : ∀ y, I y → bt s0 y = true := fun y hy => (hs0 y (by have := hG y (lowI y hy); omega)).mpr hy
  have key : ∀ d i s, i + d = M → (∀ y, bt s y = true → G y) → (∀ y, bt s0 y = true → bt s y = true) → (∀ y, bt s y = true → fi_lu n U I y) →
      ((∀ p x, p < n → U (fun y => bt s y = true) p x → bt s x = true) ∨ N + i ≤ M + fi_cn (fun y => bt s y = true) N) → Wo (d + 1) s (nI i) := by
    intro d
    induction d with
    | zero =>
      intro i s hi lo sup so cl
      have e : i = M := by omega
      subst e
      have cl2 : ∀ p x, p < n → U (fun y => bt s y = true) p x → bt s x = true := by
        rcases cl with c | c
        · exact c
        · intro p x hp u
          have f := fi_cn_full (P := fun y => bt s y = true) N (by omega)
          exact f x (hG x (low _ p x hp lo u))
      refine ho1 _ s (h s (fun y hy => ⟨fun z => so y z, fun z => ?_⟩))
      exact z (fun y => bt s y = true) (fun a ha => sup a (sI a ha)) cl2
    | succ d ih =>
      intro i s hi lo sup so cl
      refine ho2 _ i s (by omega) ?_
      have kin : ∀ d2 p t, p + d2 = n → (∀ y, bt t y = true → G y) → (∀ y, bt s y = true → bt t y = true) → (∀ y, bt t y = true → fi_lu n U I y) →
          ((∀ p x, p < n → U (fun y => bt s y = true) p x → bt s x = true) → t = s) → (t = s → ∀ p2 x, p2 < p → U (fun y => bt s y = true) p2 x → bt s x = true) → Wi (d + 1) i (d2 + 1) t (nI p) := by
        intro d2
        induction d2 with
        | zero =>
          intro p t hp lo2 sup2 so2 e1 e2
          have ep : p = n := by omega
          subst ep
          refine hi1 _ i _ t (by omega) (ih (i + 1) t (by omega) lo2 (fun y hy => sup2 y (sup y hy)) so2 ?_)
          by_cases c : t = s
          · subst c
            exact Or.inl (e2 rfl)
          · right
            have ne : ∃ y, y < N ∧ bt t y = true ∧ ¬ bt s y = true := Classical.byContradiction (fun hno => c (b_ext (fun y hy => by
              cases h1 : bt t y with
              | false =>
                cases h2 : bt s y with
                | false => rfl
                | true => rw [sup2 y h2] at h1; exact absurd h1 (by decide)
              | true =>
                cases h2 : bt s y with
                | true => rfl
                | false => exact absurd ⟨y, hG y (lo2 y h1), h1, by rw [h2]; decide⟩ hno)))
            obtain ⟨y, y1, y2, y3⟩ := ne
            have ct := fi_cn_lt (P := fun y => bt s y = true) (Q := fun y => bt t y = true) N (fun y _ hy => sup2 y hy) y y1 y2 y3
            rcases cl with c2 | c2
            · exact absurd (e1 c2) c
            · omega
        | succ d2 ih2 =>
          intro p t hp lo2 sup2 so2 e1 e2
          refine hi2 _ i _ t p (by omega) (by omega) lo2 (fun t2 ht2 => ?_)
          have g1 : ∀ y, bt t2 y = true ↔ (bt t y = true ∨ U (fun y => bt t y = true) p y) := by
            intro y
            by_cases c : y < 32
            · exact ht2 y c
            · rw [b_big (by omega), b_big (by omega)]
              refine ⟨fun z => absurd z (by decide), fun z => ?_⟩
              rcases z with z | z
              · exact absurd z (by decide)
              · have := hG y (low _ p y (by omega) lo2 z)
                omega
          refine ih2 (p + 1) t2 (by omega) (fun y hy => ?_) (fun y hy => (g1 y).mpr (Or.inl (sup2 y hy))) (fun y hy => ?_) (fun cc => ?_) (fun e p2 x hp2 u => ?_)
          · rcases (g1 y).mp hy with z | z
            · exact lo2 y z
            · exact low _ p y (by omega) lo2 z
          · rcases (g1 y).mp hy with z | z
            · exact so2 y z
            · intro S h1 h2
              exact h2 p y (by omega) (mono _ _ p y (fun w hw => so2 w hw S h1 h2) z)
          · have := e1 cc
            subst this
            refine b_ext (fun y hy => ?_)
            have q := g1 y
            cases h1 : bt t y with
            | true => exact q.mpr (Or.inl h1)
            | false =>
              cases h2 : bt t2 y with
              | false => rfl
              | true =>
                rcases q.mp h2 with z | z
                · exact absurd (h1.symm.trans z) (by decide)
                · exact absurd (h1.symm.trans (cc p y (by omega) z)) (by decide)
          · subst e
            have et : t = t2 := b_ext (fun y hy => by
              have q := g1 y
              cases h1 : bt t y with
              | true => exact (q.mpr (Or.inl h1)).symm
              | false =>
                cases h2 : bt t2 y with
                | false => rfl
                | true => rw [sup2 y h2] at h1; exact absurd h1 (by decide))
            subst et
            by_cases ep : p2 = p
            · subst ep; exact (g1 x).mpr (Or.inr u)
            · exact e2 rfl p2 x (by omega) u
      exact ⟨_, kin n 0 s (by omega) lo (fun y hy => hy) so (fun _ => rfl) (fun _ p2 x hp2 => by omega)⟩
  refine ⟨_, key M 0 s0 (by omega) (fun y hy => lowI y (bs0 y hy)) (fun y hy => hy) (fun y hy S h1 _ => h1 y (bs0 y hy)) ?_⟩
  rcases hM with c | ⟨c1, c2⟩
  · exact Or.inr (by omega)
  · by_cases e : ∃ y, y < N ∧ bt s0 y = true
    · obtain ⟨y, y1, y2⟩ := e
      have := fi_cn_pos (P := fun y => bt s0 y = true) y1 y2
      exact Or.inr (by omega)
    · refine Or.inl (fun p x hp u => absurd (mono _ _ p x (fun y hy => ?_) u) (c2 p x hp))
      exact e ⟨y, hG y (lowI y (bs0 y hy)), hy⟩
end
section
/-- the component's state holds the code -/
def fi_cd (n : Nat) (O V A B : Nat → Nat) (u : SX) : Prop := u.1 = nI n ∧ fi_C n O V A B u.2.2.2.2.2.2.1 u.2.2.2.2.2.2.2.1 u.2.2.2.2.2.2.2.2.1 u.2.2.2.2.2.2.2.2.2.1
def fi_en (x : Int32) : Prop := ∃ g, g < 3 ∧ x = nI g
section
variable {f_count f_edges f_queueFirst f_queueSize f_backwards f_walked : Int32} {a_ops a_targets a_firsts a_seconds a_next a_other a_reached a_edgeFrom a_edgeTo a_edgeAdds a_edgeTakes a_starts a_bits a_kept a_queue a_queued a_wayThere a_wayAdds a_wayTakes a_number a_walkNode a_parent a_least a_linked a_above a_bucketFirst a_bucketNext a_pathNode : Nat → Int32}
variable {n : Nat} {O V A B : Nat → Nat}
theorem fx_isEng {post : Int32 → Prop} {x : Int32} (h1 : ∀ g, g < 3 → x = nI g → post 1) (h0 : ¬ fi_en x → post 0) : wpX_isEngine post x := by
  by_cases c : x < 0
  · refine br_t c (h0 ?_)
    rintro ⟨v, hv, rfl⟩
    exact nI_pos (by omega) c
  · obtain ⟨j, hj, rfl⟩ := nI_of c
    refine br_f c (pk_le 3 j (fun k => h0 ?_) (fun k => h1 j k rfl))
    rintro ⟨v, hv, e⟩
    have := (nI_eq hj (by omega)).mp e
    omega
theorem fx_factAt {post : Int32 → SX → Prop} {f g p : Nat} (hg : g < 3) (hf : f ≤ 4) (hp : p < 21) (hC : fi_C n O V A B a_ops a_targets a_firsts a_seconds) (hN : fi_nti n O B n a_next a_other) (hR : ∀ p, p < 21 → (a_reached p = 0 ↔ ¬ fi_RE n O B p))
    (h : ∀ r u, fi_is r (fi_FX n O V A B f p) → fi_cd n O V A B u → post r u) : wpX_factAt post (nI n, f_edges, f_queueFirst, f_queueSize, f_backwards, f_walked, a_ops, a_targets, a_firsts, a_seconds, a_next, a_other, a_reached, a_edgeFrom, a_edgeTo, a_edgeAdds, a_edgeTakes, a_starts, a_bits, a_kept, a_queue, a_queued, a_wayThere, a_wayAdds, a_wayTakes, a_number, a_walkNode, a_parent, a_least, a_linked, a_above, a_bucketFirst, a_bucketNext, a_pathNode) (nI g) (nI f) (nI p) := by
  unfold wpX_factAt
  refine fx_solve hg hf hC hN hR (fun ed qf qs xf xt xa xk st b qu qd th ad tk hb => ⟨vp_in_nI hp (by omega), ?_⟩)
  rw [nI_clamp (by omega)]
  exact h _ _ (hb p hp) ⟨rfl, hC⟩
theorem fx_reaching {post : Int32 → SX → Prop} {x y : Int32} (hC : fi_C n O V A B a_ops a_targets a_firsts a_seconds)
    (h1 : ∀ p, p < n → y = nI p → fi_RE n O B p → fi_en x → ∀ r u, fi_is r (fi_FX n O V A B 0 p) → fi_cd n O V A B u → post r u)
    (h0 : ¬ (fi_en x ∧ ∃ p, p < n ∧ y = nI p ∧ fi_RE n O B p) → ∀ u, fi_cd n O V A B u → post (-1) u) : wpX_reaching post (nI n, f_edges, f_queueFirst, f_queueSize, f_backwards, f_walked, a_ops, a_targets, a_firsts, a_seconds, a_next, a_other, a_reached, a_edgeFrom, a_edgeTo, a_edgeAdds, a_edgeTakes, a_starts, a_bits, a_kept, a_queue, a_queued, a_wayThere, a_wayAdds, a_wayTakes, a_number, a_walkNode, a_parent, a_least, a_linked, a_above, a_bucketFirst, a_bucketNext, a_pathNode) x y := by
  have hn := hC.1
  unfold wpX_reaching
  refine fx_findNext hC (fun nx ot re W wn par nu wk pa pn H hr N X => fx_isEng (fun g hg e => br_f (by decide) ?_) (fun c => br_t rfl (h0 (fun z => c z.1) _ ⟨rfl, hC⟩)))
  refine fx_isReached hn hr (fun p hp ey rp => br_f (by decide) ?_) (fun c => br_t rfl (h0 (fun ⟨_, p, p1, p2, p3⟩ => c p p1 p2 p3) _ ⟨rfl, hC⟩))
  subst ey
  subst e
  exact fx_factAt (f := 0) hg (by omega) (by omega) hC H hr (fun r u hr2 hu => h1 p hp rfl rp ⟨g, hg, rfl⟩ r u hr2 hu)
theorem fx_live {post : Int32 → SX → Prop} {x y : Int32} (hC : fi_C n O V A B a_ops a_targets a_firsts a_seconds)
    (h1 : ∀ p, p < n → y = nI p → fi_en x → ∀ r u, fi_is r (fi_FX n O V A B 1 p) → fi_cd n O V A B u → post r u)
    (h0 : ¬ (fi_en x ∧ ∃ p, p < n ∧ y = nI p) → ∀ u, fi_cd n O V A B u → post (-1) u) : wpX_live post (nI n, f_edges, f_queueFirst, f_queueSize, f_backwards, f_walked, a_ops, a_targets, a_firsts, a_seconds, a_next, a_other, a_reached, a_edgeFrom, a_edgeTo, a_edgeAdds, a_edgeTakes, a_starts, a_bits, a_kept, a_queue, a_queued, a_wayThere, a_wayAdds, a_wayTakes, a_number, a_walkNode, a_parent, a_least, a_linked, a_above, a_bucketFirst, a_bucketNext, a_pathNode) x y := by
  have hn := hC.1
  unfold wpX_live
  refine fx_findNext hC (fun nx ot re W wn par nu wk pa pn H hr N X => fx_isEng (fun g hg e => br_f (by decide) ?_) (fun c => br_t rfl (h0 (fun z => c z.1) _ ⟨rfl, hC⟩)))
  refine fx_isPos hn (fun p hp ey => br_f (by decide) ?_) (fun c => br_t rfl (h0 (fun ⟨_, p, p1, p2⟩ => c p p1 p2) _ ⟨rfl, hC⟩))
  subst ey
  subst e
  exact fx_factAt (f := 1) hg (by omega) (by omega) hC H hr (fun r u hr2 hu => h1 p hp rfl ⟨g, hg, rfl⟩ r u hr2 hu)
theorem fx_available {post : Int32 → SX → Prop} {x y : Int32} (hC : fi_C n O V A B a_ops a_targets a_firsts a_seconds)
    (h1 : ∀ p, p < n → y = nI p → fi_RE n O B p → fi_en x → ∀ r u, fi_is r (fun e => fi_nm n O A B e ∧ ¬ fi_FX n O V A B 2 p e) → fi_cd n O V A B u → post r u)
    (h0 : ¬ (fi_en x ∧ ∃ p, p < n ∧ y = nI p ∧ fi_RE n O B p) → ∀ u, fi_cd n O V A B u → post (-1) u) : wpX_available post (nI n, f_edges, f_queueFirst, f_queueSize, f_backwards, f_walked, a_ops, a_targets, a_firsts, a_seconds, a_next, a_other, a_reached, a_edgeFrom, a_edgeTo, a_edgeAdds, a_edgeTakes, a_starts, a_bits, a_kept, a_queue, a_queued, a_wayThere, a_wayAdds, a_wayTakes, a_number, a_walkNode, a_parent, a_least, a_linked, a_above, a_bucketFirst, a_bucketNext, a_pathNode) x y := by
  have hn := hC.1
  unfold wpX_available
  refine fx_findNext hC (fun nx ot re W wn par nu wk pa pn H hr N X => fx_isEng (fun g hg e => br_f (by decide) ?_) (fun c => br_t rfl (h0 (fun z => c z.1) _ ⟨rfl, hC⟩)))
  refine fx_isReached hn hr (fun p hp ey rp => br_f (by decide) ?_) (fun c => br_t rfl (h0 (fun ⟨_, p, p1, p2, p3⟩ => c p p1 p2 p3) _ ⟨rfl, hC⟩))
  subst ey
  subst e
  refine fx_allNames hC (fun a ha => ?_)
  exact fx_factAt (f := 2) hg (by omega) (by omega) hC H hr (fun r u hr2 hu => h1 p hp rfl rp ⟨g, hg, rfl⟩ _ u (fi_is_and ha (fi_is_not hr2)) hu)
theorem fx_busy {post : Int32 → SX → Prop} {x y : Int32} (hC : fi_C n O V A B a_ops a_targets a_firsts a_seconds)
    (h1 : ∀ p, p < n → y = nI p → fi_en x → ∀ r u, fi_is r (fun e => fi_nm n O A B e ∧ ¬ fi_FX n O V A B 3 p e) → fi_cd n O V A B u → post r u)
    (h0 : ¬ (fi_en x ∧ ∃ p, p < n ∧ y = nI p) → ∀ u, fi_cd n O V A B u → post (-1) u) : wpX_busy post (nI n, f_edges, f_queueFirst, f_queueSize, f_backwards, f_walked, a_ops, a_targets, a_firsts, a_seconds, a_next, a_other, a_reached, a_edgeFrom, a_edgeTo, a_edgeAdds, a_edgeTakes, a_starts, a_bits, a_kept, a_queue, a_queued, a_wayThere, a_wayAdds, a_wayTakes, a_number, a_walkNode, a_parent, a_least, a_linked, a_above, a_bucketFirst, a_bucketNext, a_pathNode) x y := by
  have hn := hC.1
  unfold wpX_busy
  refine fx_findNext hC (fun nx ot re W wn par nu wk pa pn H hr N X => fx_isEng (fun g hg e => br_f (by decide) ?_) (fun c => br_t rfl (h0 (fun z => c z.1) _ ⟨rfl, hC⟩)))
  refine fx_isPos hn (fun p hp ey => br_f (by decide) ?_) (fun c => br_t rfl (h0 (fun ⟨_, p, p1, p2⟩ => c p p1 p2) _ ⟨rfl, hC⟩))
  subst ey
  subst e
  refine fx_allNames hC (fun a ha => ?_)
  exact fx_factAt (f := 3) hg (by omega) (by omega) hC H hr (fun r u hr2 hu => h1 p hp rfl ⟨g, hg, rfl⟩ _ u (fi_is_and ha (fi_is_not hr2)) hu)
theorem fx_unset {post : Int32 → SX → Prop} {y : Int32} (hC : fi_C n O V A B a_ops a_targets a_firsts a_seconds)
    (h1 : ∀ p, p < n → y = nI p → fi_RE n O B p → ∀ r u, fi_is r (fi_FX n O V A B 4 p) → fi_cd n O V A B u → post r u)
    (h0 : ¬ (∃ p, p < n ∧ y = nI p ∧ fi_RE n O B p) → ∀ u, fi_cd n O V A B u → post (-1) u) : wpX_unset post (nI n, f_edges, f_queueFirst, f_queueSize, f_backwards, f_walked, a_ops, a_targets, a_firsts, a_seconds, a_next, a_other, a_reached, a_edgeFrom, a_edgeTo, a_edgeAdds, a_edgeTakes, a_starts, a_bits, a_kept, a_queue, a_queued, a_wayThere, a_wayAdds, a_wayTakes, a_number, a_walkNode, a_parent, a_least, a_linked, a_above, a_bucketFirst, a_bucketNext, a_pathNode) y := by
  have hn := hC.1
  unfold wpX_unset
  refine fx_findNext hC (fun nx ot re W wn par nu wk pa pn H hr N X => ?_)
  refine fx_isReached hn hr (fun p hp ey rp => br_f (by decide) ?_) (fun c => br_t rfl (h0 (fun ⟨p, p1, p2, p3⟩ => c p p1 p2 p3) _ ⟨rfl, hC⟩))
  subst ey
  exact fx_factAt (g := 1) (f := 4) (by omega) (by omega) (by omega) hC H hr (fun r u hr2 hu => h1 p hp rfl rp r u hr2 hu)
theorem fx_keepBits {post : SX → Prop} (h : ∀ kp, (∀ x, x < 21 → kp x = a_bits x) → post (f_count, f_edges, f_queueFirst, f_queueSize, f_backwards, f_walked, a_ops, a_targets, a_firsts, a_seconds, a_next, a_other, a_reached, a_edgeFrom, a_edgeTo, a_edgeAdds, a_edgeTakes, a_starts, a_bits, kp, a_queue, a_queued, a_wayThere, a_wayAdds, a_wayTakes, a_number, a_walkNode, a_parent, a_least, a_linked, a_above, a_bucketFirst, a_bucketNext, a_pathNode)) : wpX_keepBits post (f_count, f_edges, f_queueFirst, f_queueSize, f_backwards, f_walked, a_ops, a_targets, a_firsts, a_seconds, a_next, a_other, a_reached, a_edgeFrom, a_edgeTo, a_edgeAdds, a_edgeTakes, a_starts, a_bits, a_kept, a_queue, a_queued, a_wayThere, a_wayAdds, a_wayTakes, a_number, a_walkNode, a_parent, a_least, a_linked, a_above, a_bucketFirst, a_bucketNext, a_pathNode) := by
  have key : ∀ d i b, i + d = 21 → (∀ x, x < i → b x = a_bits x) → wX_keepBits_2 post f_count f_edges f_queueFirst f_queueSize f_backwards f_walked (d + 1) (nI i) a_ops a_targets a_firsts a_seconds a_next a_other a_reached a_edgeFrom a_edgeTo a_edgeAdds a_edgeTakes a_starts a_bits b a_queue a_queued a_wayThere a_wayAdds a_wayTakes a_number a_walkNode a_parent a_least a_linked a_above a_bucketFirst a_bucketNext a_pathNode := by
    intro d
    induction d with
    | zero => intro i b hi H; exact pk_le 21 i (fun _ => h b (fun x hx => H x (by omega))) (fun k => by omega)
    | succ d ih =>
      intro i b hi H
      refine pk_le 21 i (fun k => by omega) (fun _ => ⟨vp_in_nI (by omega) (by omega), vp_in_nI (by omega) (by omega), ?_⟩)
      rw [nI_clamp (by omega)]
      refine nm_e (nm_r (nI_1 i) (ih (i + 1) _ (by omega) (fun x hx => ?_)))
      by_cases e : x = i
      · subst e; exact pk_us
      · rw [pk_un e]; exact H x (by omega)
  exact ⟨_, key 21 0 a_kept (by omega) (fun x hx => by omega)⟩
theorem fx_isKept {post : Int32 → Prop} (hk : ∀ x, x < 21 → a_kept x = a_bits x) (h : post 1) : wpX_isKept post (f_count, f_edges, f_queueFirst, f_queueSize, f_backwards, f_walked, a_ops, a_targets, a_firsts, a_seconds, a_next, a_other, a_reached, a_edgeFrom, a_edgeTo, a_edgeAdds, a_edgeTakes, a_starts, a_bits, a_kept, a_queue, a_queued, a_wayThere, a_wayAdds, a_wayTakes, a_number, a_walkNode, a_parent, a_least, a_linked, a_above, a_bucketFirst, a_bucketNext, a_pathNode) := by
  have key : ∀ d i, i + d = 21 → wX_isKept_4 post f_count f_edges f_queueFirst f_queueSize f_backwards f_walked a_ops a_targets a_firsts a_seconds a_next a_other a_reached a_edgeFrom a_edgeTo a_edgeAdds a_edgeTakes a_starts a_bits a_kept a_queue a_queued a_wayThere a_wayAdds a_wayTakes a_number a_walkNode a_parent a_least a_linked a_above a_bucketFirst a_bucketNext a_pathNode (d + 1) 1 (nI i) := by
    intro d
    induction d with
    | zero => intro i hi; exact pk_le 21 i (fun _ => ⟨narrow_b1, h⟩) (fun k => by omega)
    | succ d ih =>
      intro i hi
      refine pk_le 21 i (fun k => by omega) (fun _ => br_f (by decide) ⟨vp_in_nI (by omega) (by omega), vp_in_nI (by omega) (by omega), ?_⟩)
      rw [nI_clamp (by omega)]
      exact br_t (hk i (by omega)) (nm_r (nI_1 i) (ih (i + 1) (by omega)))
  exact ⟨_, key 21 0 (by omega)⟩
theorem fx_agree25 {post : Int32 → SX → Prop} {g1 g2 : Nat} (hg1 : g1 < 3) (hg2 : g2 < 3) (h : ∀ u, fi_cd n O V A B u → post 1 u) :
    ∀ d f f_edges f_queueFirst f_queueSize f_backwards f_walked a_ops a_targets a_firsts a_seconds a_next a_other a_reached a_edgeFrom a_edgeTo a_edgeAdds a_edgeTakes a_starts a_bits a_kept a_queue a_queued a_wayThere a_wayAdds a_wayTakes a_number a_walkNode a_parent a_least a_linked a_above a_bucketFirst a_bucketNext a_pathNode, f + d = 4 → fi_C n O V A B a_ops a_targets a_firsts a_seconds → fi_nti n O B n a_next a_other → (∀ p, p < 21 → (a_reached p = 0 ↔ ¬ fi_RE n O B p)) →
      wX_agree_25 post (nI g1) (nI g2) (d + 1) 1 (nI f) (nI n) f_edges f_queueFirst f_queueSize f_backwards f_walked a_ops a_targets a_firsts a_seconds a_next a_other a_reached a_edgeFrom a_edgeTo a_edgeAdds a_edgeTakes a_starts a_bits a_kept a_queue a_queued a_wayThere a_wayAdds a_wayTakes a_number a_walkNode a_parent a_least a_linked a_above a_bucketFirst a_bucketNext a_pathNode := by
  intro d
  induction d with
  | zero =>
    intro f f_edges f_queueFirst f_queueSize f_backwards f_walked a_ops a_targets a_firsts a_seconds a_next a_other a_reached a_edgeFrom a_edgeTo a_edgeAdds a_edgeTakes a_starts a_bits a_kept a_queue a_queued a_wayThere a_wayAdds a_wayTakes a_number a_walkNode a_parent a_least a_linked a_above a_bucketFirst a_bucketNext a_pathNode hf hC hN hR
    exact pk_lt 3 f (fun _ => ⟨narrow_b1, h _ ⟨rfl, hC⟩⟩) (fun k => by omega)
  | succ d ih =>
    intro f f_edges f_queueFirst f_queueSize f_backwards f_walked a_ops a_targets a_firsts a_seconds a_next a_other a_reached a_edgeFrom a_edgeTo a_edgeAdds a_edgeTakes a_starts a_bits a_kept a_queue a_queued a_wayThere a_wayAdds a_wayTakes a_number a_walkNode a_parent a_least a_linked a_above a_bucketFirst a_bucketNext a_pathNode hf hC hN hR
    refine pk_lt 3 f (fun k => by omega) (fun _ => fx_solve hg1 (by omega) hC hN hR (fun ed qf qs xf xt xa xk st b qu qd th ad tk hb => fx_keepBits (fun kp hkp => ?_)))
    refine fx_solve hg2 (by omega) hC hN hR (fun ed2 qf2 qs2 xf2 xt2 xa2 xk2 st2 b2 qu2 qd2 th2 ad2 tk2 hb2 => br_f (by decide) (fx_isKept (fun x hx => ?_) (br_f (by decide) (nm_r (nI_1 f) ?_))))
    · rw [hkp x hx]
      exact fi_is_eq (hb x hx) (hb2 x hx) (fun e _ => Iff.rfl)
    · exact ih (f + 1) _ _ _ _ _ _ _ _ _ _ _ _ _ _ _ _ _ _ _ _ _ _ _ _ _ _ _ _ _ _ _ _ _ (by omega) hC hN hR
theorem fx_agree {post : Int32 → SX → Prop} {x y : Int32} (hC : fi_C n O V A B a_ops a_targets a_firsts a_seconds)
    (h1 : fi_en x → fi_en y → ∀ u, fi_cd n O V A B u → post 1 u) (h0 : ¬ (fi_en x ∧ fi_en y) → ∀ u, fi_cd n O V A B u → post 0 u) : wpX_agree post (nI n, f_edges, f_queueFirst, f_queueSize, f_backwards, f_walked, a_ops, a_targets, a_firsts, a_seconds, a_next, a_other, a_reached, a_edgeFrom, a_edgeTo, a_edgeAdds, a_edgeTakes, a_starts, a_bits, a_kept, a_queue, a_queued, a_wayThere, a_wayAdds, a_wayTakes, a_number, a_walkNode, a_parent, a_least, a_linked, a_above, a_bucketFirst, a_bucketNext, a_pathNode) x y := by
  unfold wpX_agree
  refine fx_isEng (fun g1 hg1 e1 => br_f (by decide) (fx_isEng (fun g2 hg2 e2 => br_f (by decide) ?_) (fun c => br_t rfl (h0 (fun z => c z.2) _ ⟨rfl, hC⟩)))) (fun c => br_t rfl (h0 (fun z => c z.1) _ ⟨rfl, hC⟩))
  subst e1
  subst e2
  refine fx_findNext hC (fun nx ot re W wn par nu wk pa pn H hr N X => ⟨_, fx_agree25 hg1 hg2 (fun u hu => h1 ⟨g1, hg1, rfl⟩ ⟨g2, hg2, rfl⟩ u hu) 4 0 _ _ _ _ _ _ _ _ _ _ _ _ _ _ _ _ _ _ _ _ _ _ _ _ _ _ _ _ _ _ _ _ _ (by omega) hC H hr⟩)
theorem fx_before {post : Int32 → SX → Prop} {y : Int32} (hC : fi_C n O V A B a_ops a_targets a_firsts a_seconds)
    (h1 : ∀ p, p < n → y = nI p → fi_RE n O B p → ∀ r u, fi_is r (fun q => q < 20 ∧ fi_D n O B q p) → fi_cd n O V A B u → post r u)
    (h0 : ¬ (∃ p, p < n ∧ y = nI p ∧ fi_RE n O B p) → ∀ u, fi_cd n O V A B u → post (-1) u) : wpX_before post (nI n, f_edges, f_queueFirst, f_queueSize, f_backwards, f_walked, a_ops, a_targets, a_firsts, a_seconds, a_next, a_other, a_reached, a_edgeFrom, a_edgeTo, a_edgeAdds, a_edgeTakes, a_starts, a_bits, a_kept, a_queue, a_queued, a_wayThere, a_wayAdds, a_wayTakes, a_number, a_walkNode, a_parent, a_least, a_linked, a_above, a_bucketFirst, a_bucketNext, a_pathNode) y := by
  have hn := hC.1
  unfold wpX_before
  refine fx_growTree hC (fun wd nx ot re nu wk pa pn le li ab bf bn G => ?_)
  refine fx_isReached hn G.2.1 (fun p hp ey rp => br_f (by decide) ?_) (fun c => br_t rfl (h0 (fun ⟨p, p1, p2, p3⟩ => c p p1 p2 p3) _ ⟨rfl, hC⟩))
  subst ey
  exact fx_line hn G rp (fun r hr => h1 p hp rfl rp r _ hr ⟨rfl, hC⟩)
theorem fx_frontier {post : Int32 → SX → Prop} {y : Int32} (hC : fi_C n O V A B a_ops a_targets a_firsts a_seconds)
    (h1 : ∀ p, p < n → y = nI p → fi_RE n O B p → ∀ r u, fi_is r (fi_bd n O B p) → fi_cd n O V A B u → post r u)
    (h0 : ¬ (∃ p, p < n ∧ y = nI p ∧ fi_RE n O B p) → ∀ u, fi_cd n O V A B u → post (-1) u) : wpX_frontier post (nI n, f_edges, f_queueFirst, f_queueSize, f_backwards, f_walked, a_ops, a_targets, a_firsts, a_seconds, a_next, a_other, a_reached, a_edgeFrom, a_edgeTo, a_edgeAdds, a_edgeTakes, a_starts, a_bits, a_kept, a_queue, a_queued, a_wayThere, a_wayAdds, a_wayTakes, a_number, a_walkNode, a_parent, a_least, a_linked, a_above, a_bucketFirst, a_bucketNext, a_pathNode) y := by
  have hn := hC.1
  unfold wpX_frontier
  refine fx_growTree hC (fun wd nx ot re nu wk pa pn le li ab bf bn G => ?_)
  refine fx_isReached hn G.2.1 (fun p hp ey rp => br_f (by decide) ?_) (fun c => br_t rfl (h0 (fun ⟨p, p1, p2, p3⟩ => c p p1 p2 p3) _ ⟨rfl, hC⟩))
  subst ey
  exact fx_borderOf hn G hp (fun r hr => h1 p hp rfl rp r _ hr ⟨rfl, hC⟩)
theorem fx_after {post : Int32 → SX → Prop} {y : Int32} (hC : fi_C n O V A B a_ops a_targets a_firsts a_seconds)
    (h1 : ∀ p, p < n → y = nI p → fi_rc (fun a b => fi_E n O B b a) (fun a => a = 20) p → ∀ r u, fi_is r (fun q => q < 20 ∧ fi_Dm (fun a b => fi_E n O B b a) 20 q p) → fi_cd n O V A B u → post r u)
    (h0 : ¬ (∃ p, p < n ∧ y = nI p ∧ fi_rc (fun a b => fi_E n O B b a) (fun a => a = 20) p) → ∀ u, fi_cd n O V A B u → post (-1) u) : wpX_after post (nI n, f_edges, f_queueFirst, f_queueSize, f_backwards, f_walked, a_ops, a_targets, a_firsts, a_seconds, a_next, a_other, a_reached, a_edgeFrom, a_edgeTo, a_edgeAdds, a_edgeTakes, a_starts, a_bits, a_kept, a_queue, a_queued, a_wayThere, a_wayAdds, a_wayTakes, a_number, a_walkNode, a_parent, a_least, a_linked, a_above, a_bucketFirst, a_bucketNext, a_pathNode) y := by
  have hn := hC.1
  have hL : ∀ a b, (fun a b => fi_E n O B b a) a b → b < 21 := fun a b e => by have := e.1; omega
  unfold wpX_after
  refine fx_findNext hC (fun nx ot re W wn par nu wk pa pn H hr N X => ?_)
  refine fx_walk (rt := 20) (L := fun a b => fi_E n O B b a) (Or.inr rfl) (by omega) (Or.inr ⟨rfl, fi_nt_nx hn H⟩) (fun W wn par nu wk pa pn N X => ?_)
  refine fx_isPos hn (fun p hp ey => br_f (by decide) ⟨by subst ey; exact vp_in_nI (by omega) (by omega), ?_⟩) (fun c => br_t rfl (h0 (fun ⟨p, p1, p2, _⟩ => c p p1 p2) _ ⟨rfl, hC⟩))
  subst ey
  rw [nI_clamp (by omega)]
  have hrc := fi_dn_rc N hL p
  by_cases c : ∃ i, i < W ∧ wn i = p
  · have rp := hrc.mpr c
    refine br_t ?_ (fx_findAbove N X (Or.inr ⟨rfl, fi_nt_nx hn H⟩) (fun le li ab bf bn hab => fx_lineOf N hL hab c (fun r hr2 => h1 p hp rfl rp r _ hr2 ⟨rfl, hC⟩)))
    obtain ⟨i, hi, e⟩ := c
    have := N.1.2.1
    rw [← e, (X.1 i hi).1]
    exact nI_pos' (by omega)
  · refine br_f ?_ (h0 (fun ⟨q, q1, q2, q3⟩ => ?_) _ ⟨rfl, hC⟩)
    · rw [X.2.1 p (by omega) (fun i hi e => c ⟨i, hi, e⟩)]; decide
    · have : p = q := (nI_eq (by omega) (by omega)).mp q2
      subst this
      exact c (hrc.mp q3)
end
end
section
def fi_jf (n : Nat) (O V : Nat → Nat) (v p : Nat) : Prop := fi_wr n O V v p ∨ p = 0
/-- the joins of v -/
def fi_jn (n : Nat) (O V B : Nat → Nat) (v : Nat) : Nat → Prop := fi_lu n (fun S p q => (fi_jf n O V v p ∨ S p) ∧ fi_RE n O B p ∧ fi_bd n O B p q) (fun _ => False)
def fi_bk (n : Nat) (O B : Nat → Nat) (h r : Nat) : Prop := r < n ∧ fi_RE n O B r ∧ fi_E n O B r h ∧ fi_D n O B h r
/-- the loop of h -/
def fi_ll (n : Nat) (O B : Nat → Nat) (h : Nat) : Nat → Prop := fi_lu n (fun S p q => q = p ∧ fi_RE n O B p ∧ ∃ z, fi_E n O B p z ∧ z ≠ 20 ∧ z ≠ h ∧ S z) (fun q => ∃ r, fi_bk n O B h r ∧ (q = r ∨ q = h))
def fi_dd (n : Nat) (O V A B : Nat → Nat) (d : Nat) : Prop := d < n ∧ fi_RE n O B d ∧ O d ≤ 3 ∧ ¬ ∃ q, fi_E n O B d q ∧ fi_FX n O V A B 1 q (V d)
section
variable {f_count f_edges f_queueFirst f_queueSize f_backwards f_walked : Int32} {a_ops a_targets a_firsts a_seconds a_next a_other a_reached a_edgeFrom a_edgeTo a_edgeAdds a_edgeTakes a_starts a_bits a_kept a_queue a_queued a_wayThere a_wayAdds a_wayTakes a_number a_walkNode a_parent a_least a_linked a_above a_bucketFirst a_bucketNext a_pathNode : Nat → Int32}
variable {n : Nat} {O V A B : Nat → Nat}
theorem fx_joins40 {post : Int32 → SX → Prop} {v : Nat} {x2 : Int32} (hn : n ≤ 20) (G : fi_gt n O B a_next a_other a_reached a_above) (hF : ∀ p, p < n → (bt x2 p = true ↔ fi_jf n O V v p))
    (h : ∀ r, fi_is r (fi_jn n O V B v) → post r (nI n, f_edges, f_queueFirst, f_queueSize, f_backwards, f_walked, a_ops, a_targets, a_firsts, a_seconds, a_next, a_other, a_reached, a_edgeFrom, a_edgeTo, a_edgeAdds, a_edgeTakes, a_starts, a_bits, a_kept, a_queue, a_queued, a_wayThere, a_wayAdds, a_wayTakes, a_number, a_walkNode, a_parent, a_least, a_linked, a_above, a_bucketFirst, a_bucketNext, a_pathNode)) :
    ∀ d i s x4, i + d = 21 → (∀ y, bt s y = true → y < 20) → (∀ y, bt s y = true → fi_jn n O V B v y) → (x4 = 0 → ∀ p x, p < n → (fi_jf n O V v p ∨ bt s p = true) → fi_RE n O B p → fi_bd n O B p x → bt s x = true) → (¬ x4 = 0 → i ≤ fi_cn (fun y => bt s y = true) 20) →
      wX_joins_40 post x2 (nI n) f_edges f_queueFirst f_queueSize f_backwards f_walked a_ops a_targets a_firsts a_seconds a_next a_other a_reached a_edgeFrom a_edgeTo a_edgeAdds a_edgeTakes a_starts a_bits a_kept a_queue a_queued a_wayThere a_wayAdds a_wayTakes a_number a_walkNode a_parent a_least a_linked a_above a_bucketFirst a_bucketNext a_pathNode (d + 1) s x4 (nI i) := by
  intro d
  have fin : ∀ s, (∀ y, bt s y = true → fi_jn n O V B v y) → (∀ p x, p < n → (fi_jf n O V v p ∨ bt s p = true) → fi_RE n O B p → fi_bd n O B p x → bt s x = true) → post s (nI n, f_edges, f_queueFirst, f_queueSize, f_backwards, f_walked, a_ops, a_targets, a_firsts, a_seconds, a_next, a_other, a_reached, a_edgeFrom, a_edgeTo, a_edgeAdds, a_edgeTakes, a_starts, a_bits, a_kept, a_queue, a_queued, a_wayThere, a_wayAdds, a_wayTakes, a_number, a_walkNode, a_parent, a_least, a_linked, a_above, a_bucketFirst, a_bucketNext, a_pathNode) := by
    intro s so cl
    refine h s (fun y hy => ⟨fun z => so y z, fun z => ?_⟩)
    exact z (fun y => bt s y = true) (fun a ha => ha.elim) (fun p x hp u => cl p x hp u.1 u.2.1 u.2.2)
  induction d with
  | zero =>
    intro i s x4 hi lo so c0 c1
    have hx : x4 = 0 := Classical.byContradiction (fun z => by
      have := c1 z
      have := fi_cn_le (P := fun y => bt s y = true) 20
      omega)
    exact pk_lt 20 i (fun _ => fin s so (c0 hx)) (fun k => by omega)
  | succ d ih =>
    intro i s x4 hi lo so c0 c1
    refine pk_lt 20 i (fun k => by omega) (fun _ => br_c (fun z => fin s so (c0 z)) (fun z => ?_))
    have c1 := c1 z
    refine fi_lp (n := n) (W := fun m a b => wX_joins_58 post (wX_joins_40 post x2 (nI n) f_edges f_queueFirst f_queueSize f_backwards f_walked a_ops a_targets a_firsts a_seconds a_next a_other a_reached a_edgeFrom a_edgeTo a_edgeAdds a_edgeTakes a_starts a_bits a_kept a_queue a_queued a_wayThere a_wayAdds a_wayTakes a_number a_walkNode a_parent a_least a_linked a_above a_bucketFirst a_bucketNext a_pathNode (d + 1)) x2 s (nI i) (nI n) f_edges f_queueFirst f_queueSize f_backwards f_walked a_ops a_targets a_firsts a_seconds a_next a_other a_reached a_edgeFrom a_edgeTo a_edgeAdds a_edgeTakes a_starts a_bits a_kept a_queue a_queued a_wayThere a_wayAdds a_wayTakes a_number a_walkNode a_parent a_least a_linked a_above a_bucketFirst a_bucketNext a_pathNode m a b) (fun i q => ∃ p, p < i ∧ (fi_jf n O V v p ∨ bt s p = true) ∧ fi_RE n O B p ∧ fi_bd n O B p q) ?_ ?_ ?_
    · exact fi_is_c fi_is_0 (fun i _ => ⟨fun z => z.elim, fun ⟨r, hr, _⟩ => by omega⟩)
    · intro m r hr
      have hr2 : ∀ y, bt r y = true ↔ ∃ p, p < n ∧ (fi_jf n O V v p ∨ bt s p = true) ∧ fi_RE n O B p ∧ fi_bd n O B p y := by
        intro y
        by_cases c : y < 32
        · exact hr y c
        · rw [b_big (by omega)]
          refine ⟨fun z => absurd z (by decide), fun ⟨p, _, _, _, p4⟩ => ?_⟩
          have := fi_bd_lt p4
          omega
      have lo2 : ∀ y, bt (s ||| r) y = true → y < 20 := by
        intro y hy
        rw [b_or, Bool.or_eq_true] at hy
        rcases hy with hy | hy
        · exact lo y hy
        · obtain ⟨p, p1, p2, p3, p4⟩ := (hr2 y).mp hy
          have := fi_bd_lt p4
          omega
      have so2 : ∀ y, bt (s ||| r) y = true → fi_jn n O V B v y := by
        intro y hy
        rw [b_or, Bool.or_eq_true] at hy
        rcases hy with hy | hy
        · exact so y hy
        · obtain ⟨p, p1, p2, p3, p4⟩ := (hr2 y).mp hy
          intro S h1 h2
          exact h2 p y p1 ⟨p2.imp id (fun w => so p w S h1 h2), p3, p4⟩
      refine pk_le n n (fun _ => br_c (fun c => nm_e (nm_r (nI_1 i) (ih (i + 1) _ 0 (by omega) lo2 so2 (fun _ p x hp w1 w2 w3 => ?_) (fun z => absurd rfl z)))) (fun c => nm_e (nm_r (nI_1 i) (ih (i + 1) _ 1 (by omega) lo2 so2 (fun z => absurd z (by decide)) (fun _ => ?_))))) (fun k => by omega)
      · have es : s ||| r = s := b_ext (fun y hy => by
          have q := fi_zero.mp c y hy
          rw [b_and, fi_not _ hy] at q
          rw [b_or]
          cases h1 : bt s y <;> cases h2 : bt r y <;> simp_all)
        rw [es] at w1 ⊢
        have w : bt r x = true := (hr2 x).mpr ⟨p, hp, w1, w2, w3⟩
        rw [← es, b_or, w, Bool.or_true]
      · obtain ⟨y, hy, q⟩ := fi_nzero.mp c
        rw [b_and, fi_not _ hy] at q
        have q1 : bt r y = true := by simp at q; exact q.1
        have q2 : ¬ bt s y = true := by simp at q; rw [q.2]; decide
        have b1 : bt (s ||| r) y = true := by rw [b_or, q1, Bool.or_true]
        have ct := fi_cn_lt (P := fun y => bt s y = true) (Q := fun y => bt (s ||| r) y = true) 20 (fun w _ hw => by rw [b_or, hw, Bool.true_or]) y (lo2 y b1) b1 q2
        omega
    · intro m p r hp hr K
      have ip : vp_in (nI p) 21 := vp_in_nI (by omega) (by omega)
      have skip : ¬ (fi_RE n O B p ∧ (fi_jf n O V v p ∨ bt s p = true)) → wX_joins_92 post (wX_joins_40 post x2 (nI n) f_edges f_queueFirst f_queueSize f_backwards f_walked a_ops a_targets a_firsts a_seconds a_next a_other a_reached a_edgeFrom a_edgeTo a_edgeAdds a_edgeTakes a_starts a_bits a_kept a_queue a_queued a_wayThere a_wayAdds a_wayTakes a_number a_walkNode a_parent a_least a_linked a_above a_bucketFirst a_bucketNext a_pathNode (d + 1)) (wX_joins_58 post (wX_joins_40 post x2 (nI n) f_edges f_queueFirst f_queueSize f_backwards f_walked a_ops a_targets a_firsts a_seconds a_next a_other a_reached a_edgeFrom a_edgeTo a_edgeAdds a_edgeTakes a_starts a_bits a_kept a_queue a_queued a_wayThere a_wayAdds a_wayTakes a_number a_walkNode a_parent a_least a_linked a_above a_bucketFirst a_bucketNext a_pathNode (d + 1)) x2 s (nI i) (nI n) f_edges f_queueFirst f_queueSize f_backwards f_walked a_ops a_targets a_firsts a_seconds a_next a_other a_reached a_edgeFrom a_edgeTo a_edgeAdds a_edgeTakes a_starts a_bits a_kept a_queue a_queued a_wayThere a_wayAdds a_wayTakes a_number a_walkNode a_parent a_least a_linked a_above a_bucketFirst a_bucketNext a_pathNode m) x2 s (nI i) r (nI p) (nI n) f_edges f_queueFirst f_queueSize f_backwards f_walked a_ops a_targets a_firsts a_seconds a_next a_other a_reached a_edgeFrom a_edgeTo a_edgeAdds a_edgeTakes a_starts a_bits a_kept a_queue a_queued a_wayThere a_wayAdds a_wayTakes a_number a_walkNode a_parent a_least a_linked a_above a_bucketFirst a_bucketNext a_pathNode := by
        intro hno
        refine br_t rfl (nm_e (nm_r (nI_1 p) (K _ (fi_is_c (fi_or0 hr) (fun q _ => ⟨fun ⟨y, y1, y2⟩ => ⟨y, by omega, y2⟩, fun ⟨y, y1, y2, y3, y4⟩ => ⟨y, ?_, y2, y3, y4⟩⟩)))))
        by_cases e : y = p
        · subst e; exact absurd ⟨y3, y2⟩ hno
        · omega
      have bb : bt (x2 ||| s) p = true ↔ (fi_jf n O V v p ∨ bt s p = true) := by rw [b_or, Bool.or_eq_true, hF p hp]
      refine pk_le n p (fun k => by omega) (fun _ => ⟨ip, ?_⟩)
      rw [nI_clamp (by omega)]
      refine br_c (fun c => skip (fun w => (G.2.1 p (by omega)).mp c w.1)) (fun c => br_c (fun c2 => skip (fun w => ?_)) (fun c2 => br_f (by decide) (fx_borderOf hn G hp (fun b hb => nm_e (nm_r (nI_1 p) (K _ (fi_is_c (fi_is_or hr hb) (fun q _ => ⟨?_, ?_⟩))))))))
      · have := (fi_t0 (by omega)).mp c2
        rw [bb.mpr w.2] at this
        exact absurd this (by decide)
      · have re : fi_RE n O B p := Classical.byContradiction (fun w => c ((G.2.1 p (by omega)).mpr w))
        have ff : fi_jf n O V v p ∨ bt s p = true := bb.mp (by
          cases e : bt (x2 ||| s) p with
          | true => rfl
          | false => exact absurd ((fi_t0 (by omega)).mpr e) c2)
        rintro (⟨y, y1, y2⟩ | w)
        · exact ⟨y, by omega, y2⟩
        · exact ⟨p, by omega, ff, re, w⟩
      · rintro ⟨y, y1, y2, y3, y4⟩
        by_cases e : y = p
        · subst e; exact Or.inr y4
        · exact Or.inl ⟨y, by omega, y2, y3, y4⟩
theorem fx_joins {post : Int32 → SX → Prop} {x : Int32} (hC : fi_C n O V A B a_ops a_targets a_firsts a_seconds)
    (h1 : ∀ v, v < 6 → x = nI v → ∀ r u, fi_is r (fi_jn n O V B v) → fi_cd n O V A B u → post r u) (h0 : ¬ fi_var x → ∀ u, fi_cd n O V A B u → post (-1) u) : wpX_joins post (nI n, f_edges, f_queueFirst, f_queueSize, f_backwards, f_walked, a_ops, a_targets, a_firsts, a_seconds, a_next, a_other, a_reached, a_edgeFrom, a_edgeTo, a_edgeAdds, a_edgeTakes, a_starts, a_bits, a_kept, a_queue, a_queued, a_wayThere, a_wayAdds, a_wayTakes, a_number, a_walkNode, a_parent, a_least, a_linked, a_above, a_bucketFirst, a_bucketNext, a_pathNode) x := by
  have hn := hC.1
  unfold wpX_joins
  refine fx_isVar (fun ⟨v, hv, e⟩ => br_f (by decide) ?_) (fun c => br_t rfl (h0 c _ ⟨rfl, hC⟩))
  subst e
  refine fx_growTree hC (fun wd nx ot re nu wk pa pn le li ab bf bn G => pk_le n 0 (fun c => ?_) (fun c => fx_writersOf hv hC (fun r hr => nm_e ?_)))
  · refine ⟨_, fx_joins40 (v := v) (x2 := 0) hn G (fun p hp => by omega) (fun r hr => h1 v hv rfl r _ hr ⟨rfl, hC⟩) 21 0 0 1 (by omega) (fun y hy => ?_) (fun y hy => ?_) (fun z => absurd z (by decide)) (fun _ => by omega)⟩
    · rw [b_0] at hy; exact absurd hy (by decide)
    · rw [b_0] at hy; exact absurd hy (by decide)
  · refine ⟨_, fx_joins40 (v := v) hn G (fun p hp => ?_) (fun r hr => h1 v hv rfl r _ hr ⟨rfl, hC⟩) 21 0 0 1 (by omega) (fun y hy => ?_) (fun y hy => ?_) (fun z => absurd z (by decide)) (fun _ => by omega)⟩
    · rw [b_or, Bool.or_eq_true, hr p (by omega), fi_one p (by omega), decide_eq_true_eq]
      exact Iff.rfl
    · rw [b_0] at hy; exact absurd hy (by decide)
    · rw [b_0] at hy; exact absurd hy (by decide)
theorem fx_leadsInto {post : Int32 → Prop} {p : Nat} {s : Int32} (hn : n ≤ 20) (hN : fi_nti n O B n a_next a_other) (hp : p < n) (h1 : (∃ z, fi_E n O B p z ∧ z ≠ 20 ∧ bt s z = true) → post 1) (h0 : ¬ (∃ z, fi_E n O B p z ∧ z ≠ 20 ∧ bt s z = true) → post 0) : wpX_leadsInto post (f_count, f_edges, f_queueFirst, f_queueSize, f_backwards, f_walked, a_ops, a_targets, a_firsts, a_seconds, a_next, a_other, a_reached, a_edgeFrom, a_edgeTo, a_edgeAdds, a_edgeTakes, a_starts, a_bits, a_kept, a_queue, a_queued, a_wayThere, a_wayAdds, a_wayTakes, a_number, a_walkNode, a_parent, a_least, a_linked, a_above, a_bucketFirst, a_bucketNext, a_pathNode) (nI p) s := by
  have g1 := fi_gl_lt (O := O) (B := B) (p := p) hn
  have g2 := fi_nd_lt (t := p + 1) hn
  have ip : vp_in (nI p) 21 := vp_in_nI (by omega) (by omega)
  obtain ⟨e1, e2⟩ := (hN p (by omega)).1 hp
  have k28 : ¬ (fi_gl n O B p ≠ 20 ∧ bt s (fi_gl n O B p) = true) → wX_leadsInto_28 post (nI p) s f_count f_edges f_queueFirst f_queueSize f_backwards f_walked a_ops a_targets a_firsts a_seconds a_next a_other a_reached a_edgeFrom a_edgeTo a_edgeAdds a_edgeTakes a_starts a_bits a_kept a_queue a_queued a_wayThere a_wayAdds a_wayTakes a_number a_walkNode a_parent a_least a_linked a_above a_bucketFirst a_bucketNext a_pathNode := by
    intro hno
    refine br_t rfl ⟨ip, ?_⟩
    rw [nI_clamp (by omega), e2]
    by_cases c : O p = 6 ∧ fi_gl n O B p ≠ fi_nd n (p + 1)
    · rw [show fi_ot n O B p = nI (fi_nd n (p + 1)) from if_pos c]
      refine br_f (nI_pos (by omega)) ⟨ip, pk_eq (fi_nd n (p + 1)) 20 (fun c2 => h0 ?_) (fun c2 => ⟨ip, br_c (fun c3 => h0 ?_) (fun c3 => h1 ?_)⟩)⟩
      · rintro ⟨z, z1, z2, z3⟩
        rcases z1.2 with w | w
        · subst w; exact hno ⟨z2, z3⟩
        · exact z2 (w.2.trans c2)
      · rintro ⟨z, z1, z2, z3⟩
        rcases z1.2 with w | w
        · subst w; exact hno ⟨z2, z3⟩
        · have q := (fi_t0 (by omega)).mp c3
          rw [← w.2, z3] at q
          exact absurd q (by decide)
      · refine ⟨fi_nd n (p + 1), ⟨hp, Or.inr ⟨c.1, rfl⟩⟩, c2, ?_⟩
        cases e : bt s (fi_nd n (p + 1)) with
        | true => rfl
        | false => exact absurd ((fi_t0 (by omega)).mpr e) c3
    · rw [show fi_ot n O B p = -1 from if_neg c]
      refine br_t (by decide) (h0 ?_)
      rintro ⟨z, z1, z2, z3⟩
      rcases z1.2 with w | w
      · subst w; exact hno ⟨z2, z3⟩
      · by_cases c2 : fi_gl n O B p = fi_nd n (p + 1)
        · rw [w.2, ← c2] at z2 z3
          exact hno ⟨z2, z3⟩
        · exact c ⟨w.1, c2⟩
  refine ⟨ip, ?_⟩
  rw [nI_clamp (by omega), e1]
  refine pk_eq (fi_gl n O B p) 20 (fun c => k28 (fun z => z.1 c)) (fun c => ⟨ip, br_c (fun c2 => k28 (fun z => ?_)) (fun c2 => br_f (by decide) (h1 ⟨fi_gl n O B p, ⟨hp, Or.inl rfl⟩, c, ?_⟩))⟩)
  · have q := (fi_t0 (by omega)).mp c2
    rw [z.2] at q
    exact absurd q (by decide)
  · cases e : bt s (fi_gl n O B p) with
    | true => rfl
    | false => exact absurd ((fi_t0 (by omega)).mpr e) c2
theorem fx_loop {post : Int32 → SX → Prop} {y : Int32} (hC : fi_C n O V A B a_ops a_targets a_firsts a_seconds)
    (h1 : ∀ p, p < n → y = nI p → fi_RE n O B p → ∀ r u, fi_is r (fi_ll n O B p) → fi_cd n O V A B u → post r u)
    (h0 : ¬ (∃ p, p < n ∧ y = nI p ∧ fi_RE n O B p) → ∀ u, fi_cd n O V A B u → post (-1) u) : wpX_loop post (nI n, f_edges, f_queueFirst, f_queueSize, f_backwards, f_walked, a_ops, a_targets, a_firsts, a_seconds, a_next, a_other, a_reached, a_edgeFrom, a_edgeTo, a_edgeAdds, a_edgeTakes, a_starts, a_bits, a_kept, a_queue, a_queued, a_wayThere, a_wayAdds, a_wayTakes, a_number, a_walkNode, a_parent, a_least, a_linked, a_above, a_bucketFirst, a_bucketNext, a_pathNode) y := by
  have hn := hC.1
  unfold wpX_loop
  refine fx_growTree hC (fun wd nx ot re nu wk pa pn le li ab bf bn G => ?_)
  refine fx_isReached hn G.2.1 (fun p hp ey rp => br_f (by decide) ?_) (fun c => br_t rfl (h0 (fun ⟨p, p1, p2, p3⟩ => c p p1 p2 p3) _ ⟨rfl, hC⟩))
  subst ey
  have h2 : ∀ r, fi_is r (fi_ll n O B p) → post r (nI n, f_edges, f_queueFirst, f_queueSize, 0, wd, a_ops, a_targets, a_firsts, a_seconds, nx, ot, re, a_edgeFrom, a_edgeTo, a_edgeAdds, a_edgeTakes, a_starts, a_bits, a_kept, a_queue, a_queued, a_wayThere, a_wayAdds, a_wayTakes, nu, wk, pa, le, li, ab, bf, bn, pn) := fun r hr => h1 p hp rfl rp r _ hr ⟨rfl, hC⟩
  clear h1 h0
  refine fi_lp (n := n) (fun i q => ∃ r, r < i ∧ fi_bk n O B p r ∧ (q = r ∨ q = p)) ?_ ?_ ?_
  · exact fi_is_c fi_is_0 (fun i _ => ⟨fun z => z.elim, fun ⟨r, hr, _⟩ => by omega⟩)
  · intro m s hs
    refine pk_le n n (fun _ => ?_) (fun k => by omega)
    refine fi_pass (N := 20) (M := 20) (n := n) (G := fun y => y < 20) (I := fun q => ∃ r, fi_bk n O B p r ∧ (q = r ∨ q = p)) (U := fun S a q => q = a ∧ fi_RE n O B a ∧ ∃ z, fi_E n O B a z ∧ z ≠ 20 ∧ z ≠ p ∧ S z)
      (Wo := fun m s i => wX_loop_90 (fun r u => post r u) (nI p) (nI n) f_edges f_queueFirst f_queueSize 0 wd a_ops a_targets a_firsts a_seconds nx ot re a_edgeFrom a_edgeTo a_edgeAdds a_edgeTakes a_starts a_bits a_kept a_queue a_queued a_wayThere a_wayAdds a_wayTakes nu wk pa le li ab bf bn pn m s i)
      (Wi := fun m i k s q => wX_loop_99 post (wX_loop_90 post (nI p) (nI n) f_edges f_queueFirst f_queueSize 0 wd a_ops a_targets a_firsts a_seconds nx ot re a_edgeFrom a_edgeTo a_edgeAdds a_edgeTakes a_starts a_bits a_kept a_queue a_queued a_wayThere a_wayAdds a_wayTakes nu wk pa le li ab bf bn pn m) (nI p) (nI i) (nI n) f_edges f_queueFirst f_queueSize 0 wd a_ops a_targets a_firsts a_seconds nx ot re a_edgeFrom a_edgeTo a_edgeAdds a_edgeTakes a_starts a_bits a_kept a_queue a_queued a_wayThere a_wayAdds a_wayTakes nu wk pa le li ab bf bn pn k s q)
      (post := fun r => post r (nI n, f_edges, f_queueFirst, f_queueSize, 0, wd, a_ops, a_targets, a_firsts, a_seconds, nx, ot, re, a_edgeFrom, a_edgeTo, a_edgeAdds, a_edgeTakes, a_starts, a_bits, a_kept, a_queue, a_queued, a_wayThere, a_wayAdds, a_wayTakes, nu, wk, pa, le, li, ab, bf, bn, pn))
      (by omega) (fun y hy => hy) ?_ ?_ ?_ (Or.inl (by omega)) ?_ ?_ ?_ ?_ h2 s (fi_is_c hs (fun q _ => ⟨fun ⟨r, _, r2⟩ => ⟨r, r2⟩, fun ⟨r, r2⟩ => ⟨r, r2.1.1, r2⟩⟩))
    · rintro P Q a x hPQ ⟨u1, u2, z, z1, z2, z3, z4⟩
      exact ⟨u1, u2, z, z1, z2, z3, hPQ z z4⟩
    · rintro P a x ha hP ⟨u1, _⟩
      omega
    · rintro a ⟨r, r1, r2 | r2⟩
      · have := r1.1; omega
      · omega
    · intro m s hs
      exact pk_le 20 20 (fun _ => hs) (fun k => by omega)
    · intro m i s hi hk
      exact pk_le 20 i (fun k => by omega) (fun _ => hk)
    · intro m i k s hi hw
      exact pk_le n n (fun _ => nm_r (nI_1 i) hw) (fun k => by omega)
    · intro m i k s q hi hq lo K
      have iq : vp_in (nI q) 21 := vp_in_nI (by omega) (by omega)
      refine pk_le n q (fun k => by omega) (fun _ => ⟨iq, ?_⟩)
      rw [nI_clamp (by omega)]
      have hs2 : fi_is s (fun y => bt s y = true) := fun y hy => Iff.rfl
      have sb : ∀ z, z < 32 → (bt (s &&& (((1 : Int32) <<< (nI p &&& 31)) ^^^ (-1))) z = true ↔ (bt s z = true ∧ z ≠ p)) := fun z hz => by
        rw [b_and, fi_not _ hz, fi_b1 (by omega) hz]; simp
      refine br_c (fun c => nm_e (nm_r (nI_1 q) (K _ (fi_is_c (fi_or0 hs2) (fun x _ => ⟨Or.inl, fun w => w.elim id (fun y => absurd y.2.1 ((G.2.1 q (by omega)).mp c))⟩))))) (fun c => ?_)
      have req : fi_RE n O B q := Classical.byContradiction (fun w => c ((G.2.1 q (by omega)).mpr w))
      refine fx_leadsInto hn G.1 hq (fun ⟨z, z1, z2, z3⟩ => br_f (by decide) ?_) (fun hno => br_t rfl ?_)
      · have hz := fi_bt_lt z3
        have w := (sb z hz).mp z3
        refine nm_e (nm_r (nI_1 q) (K _ (fi_is_c (fi_is_or hs2 (fi_is_1 (by omega))) (fun x _ => ⟨fun t => t.imp id (fun y => ⟨y, req, z, z1, z2, w.2, w.1⟩), fun t => t.imp id (fun y => y.1)⟩))))
      · refine nm_e (nm_r (nI_1 q) (K _ (fi_is_c (fi_or0 hs2) (fun x _ => ⟨Or.inl, fun t => t.elim id (fun ⟨_, _, z, z1, z2, z3, z4⟩ => absurd ⟨z, z1, z2, (sb z (fi_bt_lt z4)).mpr ⟨z4, z3⟩⟩ hno)⟩))))
  · intro m r s hr hs K
    have ir : vp_in (nI r) 21 := vp_in_nI (by omega) (by omega)
    have skip : ¬ fi_bk n O B p r → wX_loop_60 post (wX_loop_18 post (nI p) (nI n) f_edges f_queueFirst f_queueSize 0 wd a_ops a_targets a_firsts a_seconds nx ot re a_edgeFrom a_edgeTo a_edgeAdds a_edgeTakes a_starts a_bits a_kept a_queue a_queued a_wayThere a_wayAdds a_wayTakes nu wk pa le li ab bf bn pn m) (nI p) s (nI r) (nI n) f_edges f_queueFirst f_queueSize 0 wd a_ops a_targets a_firsts a_seconds nx ot re a_edgeFrom a_edgeTo a_edgeAdds a_edgeTakes a_starts a_bits a_kept a_queue a_queued a_wayThere a_wayAdds a_wayTakes nu wk pa le li ab bf bn pn := by
      intro hno
      refine br_t rfl (nm_e (nm_r (nI_1 r) (K _ (fi_is_c (fi_or0 hs) (fun q _ => ⟨fun ⟨y, y1, y2⟩ => ⟨y, by omega, y2⟩, fun ⟨y, y1, y2, y3⟩ => ⟨y, ?_, y2, y3⟩⟩)))))
      by_cases e : y = r
      · subst e; exact absurd y2 hno
      · omega
    refine pk_le n r (fun k => by omega) (fun _ => ⟨ir, ?_⟩)
    rw [nI_clamp (by omega)]
    refine br_c (fun c => skip (fun w => (G.2.1 r (by omega)).mp c w.2.1)) (fun c => ?_)
    have rer : fi_RE n O B r := Classical.byContradiction (fun w => c ((G.2.1 r (by omega)).mpr w))
    refine fx_goesOn (fi_nt_nx hn G.1) (by omega) (by omega) (fun hE => br_f (by decide) (fx_line hn G rer (fun t ht => br_c (fun z => skip (fun w => (fi_is_t0 ht (by omega)).mp z ⟨by omega, w.2.2.2⟩)) (fun z => br_f (by decide) ?_)))) (fun hE => br_t rfl (skip (fun w => hE w.2.2.1)))
    have dd : fi_D n O B p r := Classical.byContradiction (fun y => z ((fi_is_t0 ht (by omega)).mpr (fun w => y w.2)))
    refine nm_e (nm_r (nI_1 r) (K _ (fi_is_c (fi_is_or hs (fi_is_or (fi_is_1 (by omega)) (fi_is_1 (by omega)))) (fun q _ => ⟨?_, ?_⟩))))
    · rintro (⟨y, y1, y2⟩ | w)
      · exact ⟨y, by omega, y2⟩
      · exact ⟨r, by omega, ⟨hr, rer, hE, dd⟩, w⟩
    · rintro ⟨y, y1, y2, y3⟩
      by_cases e : y = r
      · subst e; exact Or.inr y3
      · exact Or.inl ⟨y, by omega, y2, y3⟩
theorem fx_dead {post : Int32 → SX → Prop} (hC : fi_C n O V A B a_ops a_targets a_firsts a_seconds) (h : ∀ r u, fi_is r (fi_dd n O V A B) → fi_cd n O V A B u → post r u) : wpX_dead post (nI n, f_edges, f_queueFirst, f_queueSize, f_backwards, f_walked, a_ops, a_targets, a_firsts, a_seconds, a_next, a_other, a_reached, a_edgeFrom, a_edgeTo, a_edgeAdds, a_edgeTakes, a_starts, a_bits, a_kept, a_queue, a_queued, a_wayThere, a_wayAdds, a_wayTakes, a_number, a_walkNode, a_parent, a_least, a_linked, a_above, a_bucketFirst, a_bucketNext, a_pathNode) := by
  have hn := hC.1
  unfold wpX_dead
  refine fx_findNext hC (fun nx ot re W wn par nu wk pa pn H hr N X => ?_)
  refine fx_solve (g := 0) (f := 1) (by omega) (by omega) hC H hr (fun ed qf qs xf xt xa xk st b qu qd th ad tk hb => ?_)
  refine fi_lp (n := n) (fun i q => q < i ∧ fi_dd n O V A B q) ?_ ?_ ?_
  · exact fi_is_c fi_is_0 (fun i _ => ⟨fun z => z.elim, fun z => by omega⟩)
  · intro m r hr2
    exact pk_le n n (fun _ => h r _ (fi_is_c hr2 (fun q _ => ⟨fun z => z.2, fun z => ⟨z.1, z⟩⟩)) ⟨rfl, hC⟩) (fun k => by omega)
  · intro m p r hp hr2 K
    have ip : vp_in (nI p) 21 := vp_in_nI (by omega) (by omega)
    have ip2 : vp_in (nI p) 20 := vp_in_nI (by omega) (by omega)
    have g1 := fi_gl_lt (O := O) (B := B) (p := p) hn
    have g2 := fi_nd_lt (t := p + 1) hn
    have cp := hC.2 p hp
    obtain ⟨e1, e2⟩ := (H p (by omega)).1 hp
    have sk : ¬ fi_dd n O V A B p → fi_is r (fun q => q < p + 1 ∧ fi_dd n O V A B q) := fun hno => fi_is_c hr2 (fun q _ => ⟨fun z => ⟨by omega, z.2⟩, fun z => ⟨by
      by_cases e : q = p
      · subst e; exact absurd z.2 hno
      · omega, z.2⟩⟩)
    have yes : fi_dd n O V A B p → fi_is (r ||| ((1 : Int32) <<< (nI p &&& 31))) (fun q => q < p + 1 ∧ fi_dd n O V A B q) := fun hy => fi_is_c (fi_is_or hr2 (fi_is_1 (by omega))) (fun q _ => ⟨fun z => by
      rcases z with z | z
      · exact ⟨by omega, z.2⟩
      · subst z; exact ⟨by omega, hy⟩, fun z => by
      by_cases e : q = p
      · exact Or.inr e
      · exact Or.inl ⟨by omega, z.2⟩⟩)
    have k57 : ∀ z1 z0 : Int32, (∀ e, e < 32 → (bt (z1 ||| z0) e = true ↔ ∃ q, fi_E n O B p q ∧ fi_FX n O V A B 1 q e)) →
        wX_dead_57 post (wX_dead_14 post (nI n) ed qf qs 0 (nI W) a_ops a_targets a_firsts a_seconds nx ot re xf xt xa xk st b a_kept qu qd th ad tk nu wk pa a_least a_linked a_above a_bucketFirst a_bucketNext pn m) r (nI p) z0 z1 (nI n) ed qf qs 0 (nI W) a_ops a_targets a_firsts a_seconds nx ot re xf xt xa xk st b a_kept qu qd th ad tk nu wk pa a_least a_linked a_above a_bucketFirst a_bucketNext pn := by
      intro z1 z0 hz
      refine nm_e ⟨ip, ?_⟩
      rw [nI_clamp (by omega)]
      refine br_c (fun c => br_t rfl (nm_e (nm_r (nI_1 p) (K _ (fi_or0 (sk (fun w => (hr p (by omega)).mp c w.2.1))))))) (fun c => ⟨ip2, ?_⟩)
      have rep : fi_RE n O B p := Classical.byContradiction (fun w => c ((hr p (by omega)).mpr w))
      rw [cp.1]
      refine fx_writes cp.2.1 (fun w => br_f (by decide) ⟨ip2, ?_⟩) (fun w => br_t rfl (br_t rfl (nm_e (nm_r (nI_1 p) (K _ (fi_or0 (sk (fun y => w y.2.2.1))))))))
      have tp := cp.2.2.1 w
      rw [tp.1]
      refine br_c (fun c2 => br_f (by decide) (nm_e (nm_r (nI_1 p) (K _ (yes ⟨hp, rep, w, fun k => ?_⟩))))) (fun c2 => br_t rfl (nm_e (nm_r (nI_1 p) (K _ (fi_or0 (sk (fun y => y.2.2.2 ?_)))))))
      · have q := (fi_t0 (by omega)).mp c2
        rw [(hz (V p) (by omega)).mpr k] at q
        exact absurd q (by decide)
      · refine (hz (V p) (by omega)).mp ?_
        cases e : bt (z1 ||| z0) (V p) with
        | true => rfl
        | false => exact absurd ((fi_t0 (by omega)).mpr e) c2
    refine pk_le n p (fun k => by omega) (fun _ => ⟨ip, ?_⟩)
    rw [nI_clamp (by omega), e1, e2, nI_clamp (by omega)]
    refine ⟨vp_in_nI g1 (by omega), ip, ?_⟩
    by_cases c : O p = 6 ∧ fi_gl n O B p ≠ fi_nd n (p + 1)
    · rw [show fi_ot n O B p = nI (fi_nd n (p + 1)) from if_pos c, nI_clamp (by omega)]
      refine br_f (nI_pos (by omega)) ⟨ip, vp_in_nI g2 (by omega), k57 _ _ (fun e he => ?_)⟩
      rw [b_or, Bool.or_eq_true, hb _ g1 e he, hb _ g2 e he]
      constructor
      · rintro (w | w)
        · exact ⟨_, ⟨hp, Or.inl rfl⟩, w⟩
        · exact ⟨_, ⟨hp, Or.inr ⟨c.1, rfl⟩⟩, w⟩
      · rintro ⟨q, q1, q2⟩
        rcases q1.2 with w | w
        · subst w; exact Or.inl q2
        · rw [w.2] at q2; exact Or.inr q2
    · rw [show fi_ot n O B p = -1 from if_neg c]
      refine br_t (by decide) (k57 _ _ (fun e he => ?_))
      rw [b_or, b_0, Bool.or_false, hb _ g1 e he]
      constructor
      · intro w; exact ⟨_, ⟨hp, Or.inl rfl⟩, w⟩
      · rintro ⟨q, q1, q2⟩
        rcases q1.2 with w | w
        · subst w; exact q2
        · by_cases c2 : fi_gl n O B p = fi_nd n (p + 1)
          · rw [w.2, ← c2] at q2; exact q2
          · exact absurd ⟨w.1, c2⟩ c
end
end
section
/-- all that is come to from F, not going on from T and not to G -/
def fi_fw (n : Nat) (O B : Nat → Nat) (F T G : Nat → Prop) : Nat → Prop := fi_rc (fun a b => fi_E n O B a b ∧ ¬ T a ∧ ¬ G b) (fun a => F a ∧ ¬ G a)
def fi_rs (n : Nat) (O A B : Nat → Nat) (v p : Nat) : Prop := p < n ∧ ((fi_rd (O p) ∧ A p = v) ∨ (fi_cp (O p) ∧ B p = v))
/-- v is live at p -/
def fi_lv (n : Nat) (O V A B : Nat → Nat) (p v : Nat) : Prop := ∃ z, fi_fw n O B (fun a => a = p) (fi_wr n O V v) (fun _ => False) z ∧ fi_rs n O A B v z
theorem fi_is_low {r : Int32} {P : Nat → Prop} (h : fi_is r P) (lo : ∀ y, P y → y < 32) (y : Nat) : bt r y = true ↔ P y := by
  by_cases c : y < 32
  · exact h y c
  · rw [b_big (by omega)]
    exact ⟨fun z => absurd z (by decide), fun z => absurd (lo y z) c⟩
section
variable {f_size : Int32} {y_ops y_vs y_as y_bs : Nat → Int32}
variable {n : Nat} {O V A B : Nat → Nat}
theorem fy_var {post : Int32 → Prop} {x : Int32} (h1 : fi_var x → post 1) (h0 : ¬ fi_var x → post 0) : wpY_variable post (f_size, y_ops, y_vs, y_as, y_bs) x := by
  by_cases c : x < 0
  · refine br_t c (h0 ?_)
    rintro ⟨v, hv, rfl⟩
    exact nI_pos (by omega) c
  · obtain ⟨j, hj, rfl⟩ := nI_of c
    refine br_f c (pk_lt 5 j (fun k => h0 ?_) (fun k => h1 ⟨j, by omega, rfl⟩))
    rintro ⟨v, hv, e⟩
    have := (nI_eq hj (by omega)).mp e
    omega
theorem fy_writes {post : Int32 → Prop} {o : Nat} (ho : o ≤ 6) (h1 : o ≤ 3 → post 1) (h0 : ¬ o ≤ 3 → post 0) : wpY_writes post (f_size, y_ops, y_vs, y_as, y_bs) (nI o) :=
  pk_lt 3 o (fun k => h0 (by omega)) (fun k => h1 k)
theorem fy_reads {post : Int32 → Prop} {o : Nat} (ho : o ≤ 6) (h1 : fi_rd o → post 1) (h0 : ¬ fi_rd o → post 0) : wpY_readsFirst post (f_size, y_ops, y_vs, y_as, y_bs) (nI o) := by
  have q : (o < 1 ∨ 4 < o) → wY_readsFirst_10 post (nI o) f_size y_ops y_vs y_as y_bs := fun hc => pk_eq o 6 (fun k => h1 (Or.inr k)) (fun k => h0 (by unfold fi_rd; omega))
  exact pk_lt o 1 (fun k => q (Or.inl k)) (fun k => pk_le o 4 (fun k2 => h1 (Or.inl ⟨k, k2⟩)) (fun k2 => q (Or.inr k2)))
theorem fy_comp {post : Int32 → Prop} {o : Nat} (ho : o ≤ 6) (h1 : fi_cp o → post 1) (h0 : ¬ fi_cp o → post 0) : wpY_computes post (f_size, y_ops, y_vs, y_as, y_bs) (nI o) :=
  pk_eq o 2 (fun k => h1 (Or.inl k)) (fun k => pk_eq o 3 (fun k2 => h1 (Or.inr k2)) (fun k2 => h0 (by unfold fi_cp; omega)))
theorem fy_place {post : Int32 → Prop} {t : Nat} (hn : n ≤ 20) (ht : t ≤ 21) (h : ∀ r, fi_is r (fun q => q = fi_nd n t) → post r) : wpY_place post (nI n, y_ops, y_vs, y_as, y_bs) (nI t) := by
  refine pk_le n t (fun k => h _ (fun i hi => ?_)) (fun k => h _ (fi_is_c (fi_is_1 (by omega)) (fun q _ => by unfold fi_nd; rw [if_pos k])))
  rw [fi_end i hi]
  unfold fi_nd
  rw [if_neg (by omega)]
  simp
theorem fy_goingOn {post : Int32 → Prop} {p : Nat} (hC : fi_C n O V A B y_ops y_vs y_as y_bs) (hp : p < n) (h : ∀ r, fi_is r (fi_E n O B p) → post r) : wpY_goingOn post (nI n, y_ops, y_vs, y_as, y_bs) (nI p) := by
  have hn := hC.1
  have cp := hC.2 p hp
  have ip : vp_in (nI p) 20 := vp_in_nI (by omega) (by omega)
  refine ⟨ip, ?_⟩
  rw [nI_clamp (by omega), cp.1]
  refine pk_eq (O p) 5 (fun c => ⟨ip, ?_⟩) (fun c => ⟨ip, pk_eq (O p) 6 (fun c2 => ⟨ip, ?_⟩) (fun c2 => ?_)⟩)
  · have b := cp.2.2.2.2.2 (by omega)
    rw [b.1]
    refine fy_place hn (by omega) (fun r hr => h r (fi_is_c hr (fun q _ => ?_)))
    unfold fi_E fi_gl
    rw [if_pos (by omega)]
    exact ⟨fun z => ⟨hp, Or.inl z⟩, fun z => z.2.elim id (fun y => by omega)⟩
  · have b := cp.2.2.2.2.2 (by omega)
    rw [b.1, nI_1]
    refine fy_place hn (by omega) (fun r hr => fy_place hn (by omega) (fun r2 hr2 => h _ (fi_is_c (fi_is_or hr hr2) (fun q _ => ?_))))
    unfold fi_E fi_gl
    rw [if_pos (by omega)]
    exact ⟨fun z => ⟨hp, z.imp id (fun y => ⟨c2, y⟩)⟩, fun z => z.2.imp id (fun y => y.2)⟩
  · rw [nI_1]
    refine fy_place hn (by omega) (fun r hr => h r (fi_is_c hr (fun q _ => ?_)))
    unfold fi_E fi_gl
    rw [if_neg (by omega)]
    exact ⟨fun z => ⟨hp, Or.inl z⟩, fun z => z.2.elim id (fun y => absurd y.1 c2)⟩
theorem fi_lu_fw {F T G : Nat → Prop} (z : Nat) : fi_lu n (fun S p q => S p ∧ fi_E n O B p q ∧ ¬ T p ∧ ¬ G q) (fun a => F a ∧ ¬ G a) z ↔ fi_fw n O B F T G z :=
  ⟨fun h S h1 h2 => h S h1 (fun p x _ u => h2 p x u.1 u.2), fun h S h1 h2 => h S h1 (fun a b ha e => h2 a b e.1.1 ⟨ha, e⟩)⟩
theorem fy_flow {post : Int32 → Prop} {x1 x2 x3 : Int32} {F T G : Nat → Prop} (hC : fi_C n O V A B y_ops y_vs y_as y_bs) (hF : fi_is x1 F) (hT : fi_is x2 T) (hG : fi_is x3 G) (lo : ∀ a, F a → a < 21)
    (h : ∀ r, fi_is r (fi_fw n O B F T G) → post r) : wpY_flow post (nI n, y_ops, y_vs, y_as, y_bs) x1 x2 x3 := by
  have hn := hC.1
  refine nm_e ?_
  refine fi_pass (N := 21) (M := 20) (n := n) (G := fun y => y < 21) (I := fun a => F a ∧ ¬ G a) (U := fun S p q => S p ∧ fi_E n O B p q ∧ ¬ T p ∧ ¬ G q)
    (Wo := fun m s i => wY_flow_10 post x2 x3 (nI n) y_ops y_vs y_as y_bs m s i)
    (Wi := fun m i k s q => wY_flow_20 post (wY_flow_10 post x2 x3 (nI n) y_ops y_vs y_as y_bs m) x2 x3 (nI i) (nI n) y_ops y_vs y_as y_bs k s q)
    (post := post) (by omega) (fun y hy => hy) ?_ ?_ (fun a ha => lo a ha.1) (Or.inr ⟨by omega, fun p x hp u => u.1⟩) ?_ ?_ ?_ ?_ (fun s hs => h s (fi_is_c hs (fun z _ => fi_lu_fw z))) _ (fi_is_and hF (fi_is_not hG))
  · rintro P Q p x hPQ ⟨u1, u2⟩
    exact ⟨hPQ p u1, u2⟩
  · rintro P p x hp hP ⟨u1, u2, _⟩
    exact (fi_E_lt hn u2).2
  · intro m s hs
    exact pk_le 20 20 (fun _ => hs) (fun k => by omega)
  · intro m i s hi hk
    exact pk_le 20 i (fun k => by omega) (fun _ => hk)
  · intro m i k s hi hw
    exact pk_le n n (fun _ => nm_r (nI_1 i) hw) (fun k => by omega)
  · intro m i k s p hi hp lo2 K
    have hs2 : fi_is s (fun y => bt s y = true) := fun y hy => Iff.rfl
    have skip : ¬ (bt s p = true ∧ ¬ T p) → wY_flow_53 post (wY_flow_10 post x2 x3 (nI n) y_ops y_vs y_as y_bs m) (wY_flow_20 post (wY_flow_10 post x2 x3 (nI n) y_ops y_vs y_as y_bs m) x2 x3 (nI i) (nI n) y_ops y_vs y_as y_bs k) x2 x3 s (nI i) (nI p) (nI n) y_ops y_vs y_as y_bs := by
      intro hno
      exact br_t rfl (nm_r (nI_1 p) (K s (fi_is_c hs2 (fun q _ => ⟨Or.inl, fun w => w.elim id (fun y => absurd ⟨y.1, y.2.2.1⟩ hno)⟩))))
    refine pk_le n p (fun k => by omega) (fun _ => br_c (fun c => br_c (fun c2 => br_f (by decide) ?_) (fun c2 => skip (fun w => c2 ((fi_is_t0 hT (by omega)).mpr w.2)))) (fun c => skip (fun w => c ((fi_t1 (by omega)).mpr w.1))))
    have b1 := (fi_t1 (show p < 32 by omega)).mp c
    have b2 := (fi_is_t0 hT (show p < 32 by omega)).mp c2
    refine fy_goingOn hC hp (fun r hr => nm_e (nm_r (nI_1 p) (K _ (fi_is_c (fi_is_or hs2 (fi_is_and hr (fi_is_not hG))) (fun q _ => ⟨fun w => w.imp id (fun y => ⟨b1, y.1, b2, y.2⟩), fun w => w.imp id (fun y => ⟨y.2.1, y.2.2.2⟩)⟩)))))
theorem fy_start {post : Int32 → Prop} (hn : n ≤ 20) (h : ∀ r, fi_is r (fun q => 0 < n ∧ q = 0) → post r) : wpY_start post (nI n, y_ops, y_vs, y_as, y_bs) := by
  refine pk_le n 0 (fun k => h 0 (fi_is_c fi_is_0 (fun q _ => ⟨fun z => z.elim, fun z => by omega⟩))) (fun k => h 1 (fun i hi => ?_))
  rw [fi_one i hi]
  simp [k]
theorem fy_code {post : Int32 → Prop} (hn : n ≤ 20) (h : ∀ r, fi_is r (fun q => q < n) → post r) : wpY_code post (nI n, y_ops, y_vs, y_as, y_bs) :=
  h _ (fun i hi => by rw [fi_code n hn i hi]; simp)
theorem fi_fw_RE {F : Nat → Prop} (hF : ∀ a, F a ↔ (0 < n ∧ a = 0)) {q : Nat} (hq : 0 < n) : fi_fw n O B F (fun _ => False) (fun _ => False) q ↔ fi_RE n O B q := by
  have e0 : fi_nd n 0 = 0 := if_pos hq
  constructor
  · intro h
    refine fi_rc_m (fun a ha => ?_) (fun a b e => e.1) h
    rw [e0]; exact ((hF a).mp ha.1).2
  · intro h
    refine fi_rc_m (fun a ha => ⟨(hF a).mpr ⟨hq, ?_⟩, fun z => z⟩) (fun a b e => ⟨e, fun z => z, fun z => z⟩) h
    rw [ha, e0]
theorem fy_reachable {post : Int32 → Prop} (hC : fi_C n O V A B y_ops y_vs y_as y_bs) (h : ∀ r, fi_is r (fun q => q < n ∧ fi_RE n O B q) → post r) : wpY_reachable post (nI n, y_ops, y_vs, y_as, y_bs) := by
  have hn := hC.1
  unfold wpY_reachable
  refine fy_start hn (fun r hr => fy_flow hC hr fi_is_0 fi_is_0 (fun a ha => by omega) (fun r2 hr2 => fy_code hn (fun r3 hr3 => h _ (fi_is_c (fi_is_and hr2 hr3) (fun q _ => ?_)))))
  constructor
  · rintro ⟨z1, z2⟩
    exact ⟨z2, (fi_fw_RE (fun a => Iff.rfl) (by omega)).mp z1⟩
  · rintro ⟨z1, z2⟩
    exact ⟨(fi_fw_RE (fun a => Iff.rfl) (by omega)).mpr z2, z1⟩
theorem fy_in {post : Int32 → Prop} {x : Int32} (hn : n ≤ 20) (h1 : ∀ p, p < n → x = nI p → post 1) (h0 : (∀ p, p < n → x ≠ nI p) → post 0) : wpY_in post (nI n, y_ops, y_vs, y_as, y_bs) x := by
  by_cases c : x < 0
  · refine br_t c (h0 ?_)
    rintro v hv rfl
    exact nI_pos (by omega) c
  · obtain ⟨j, hj, rfl⟩ := nI_of c
    refine br_f c (pk_le n j (fun k => h0 ?_) (fun k => h1 j k rfl))
    intro v hv e
    have := (nI_eq hj (by omega)).mp e
    omega
theorem fy_canReach {post : Int32 → Prop} {x : Int32} (hC : fi_C n O V A B y_ops y_vs y_as y_bs) (h1 : ∀ p, p < n → x = nI p → fi_RE n O B p → post 1) (h0 : (∀ p, p < n → x = nI p → ¬ fi_RE n O B p) → post 0) : wpY_canReach post (nI n, y_ops, y_vs, y_as, y_bs) x := by
  have hn := hC.1
  unfold wpY_canReach
  refine fy_in hn (fun p hp e => br_f (by decide) (fy_reachable hC (fun r hr => ?_))) (fun hc => br_t rfl (h0 (fun p hp e => absurd e (hc p hp))))
  subst e
  refine br_c (fun c => h1 p hp rfl ((fi_is_t1 hr (by omega)).mp c).2) (fun c => h0 (fun q hq e k => c ?_))
  have : p = q := (nI_eq (by omega) (by omega)).mp e
  subst this
  exact (fi_is_t1 hr (by omega)).mpr ⟨hp, k⟩
theorem fy_can {post : Int32 → Prop} {p : Nat} (hC : fi_C n O V A B y_ops y_vs y_as y_bs) (hp : p < n) (h1 : fi_RE n O B p → post 1) (h0 : ¬ fi_RE n O B p → post 0) : wpY_canReach post (nI n, y_ops, y_vs, y_as, y_bs) (nI p) := by
  have hn := hC.1
  refine fy_canReach hC (fun q hq e r => ?_) (fun hc => h0 (hc p hp rfl))
  have : p = q := (nI_eq (by omega) (by omega)).mp e
  subst this
  exact h1 r
theorem fy_engine {post : Int32 → Prop} {x : Int32} (h1 : fi_en x → post 1) (h0 : ¬ fi_en x → post 0) : wpY_engine post (f_size, y_ops, y_vs, y_as, y_bs) x := by
  by_cases c : x < 0
  · refine br_t c (h0 ?_)
    rintro ⟨v, hv, rfl⟩
    exact nI_pos (by omega) c
  · obtain ⟨j, hj, rfl⟩ := nI_of c
    refine br_f c (pk_lt 2 j (fun k => h0 ?_) (fun k => h1 ⟨j, by omega, rfl⟩))
    rintro ⟨v, hv, e⟩
    have := (nI_eq hj (by omega)).mp e
    omega
theorem fi_ac_s {P : Nat → Prop} {i : Nat} (r : Int32) (h : fi_is r (fun e => e < i ∧ P e)) (k : ¬ P i) : fi_is r (fun e => e < i + 1 ∧ P e) := by
  refine fi_is_c h (fun e _ => ⟨fun z => ⟨by omega, z.2⟩, fun z => ⟨?_, z.2⟩⟩)
  by_cases c : e = i
  · subst c; exact absurd z.2 k
  · omega
theorem fi_ac_t {P : Nat → Prop} {i : Nat} (r : Int32) (h : fi_is r (fun e => e < i ∧ P e)) (hi : i < 32) (k : P i) : fi_is (r ||| ((1 : Int32) <<< (nI i &&& 31))) (fun e => e < i + 1 ∧ P e) := by
  refine fi_is_c (fi_is_or h (fi_is_1 hi)) (fun e _ => ⟨?_, fun z => ?_⟩)
  · rintro (z | z)
    · exact ⟨by omega, z.2⟩
    · subst z; exact ⟨by omega, k⟩
  · by_cases c : e = i
    · exact Or.inr c
    · exact Or.inl ⟨by omega, z.2⟩
theorem fi_ac_0 {P : Nat → Prop} : fi_is 0 (fun e => e < 0 ∧ P e) := fi_is_c fi_is_0 (fun i _ => ⟨fun z => z.elim, fun z => by omega⟩)
theorem fy_writers {post : Int32 → Prop} {v : Nat} (hv : v < 2 ^ 31) (hC : fi_C n O V A B y_ops y_vs y_as y_bs) (h : ∀ r, fi_is r (fi_wr n O V v) → post r) : wpY_writers post (nI n, y_ops, y_vs, y_as, y_bs) (nI v) := by
  have hn := hC.1
  unfold wpY_writers
  refine fi_lp (n := n) (fun i e => e < i ∧ fi_wr n O V v e) fi_ac_0 ?_ ?_
  · intro m r hr
    exact pk_le n n (fun _ => h r (fi_is_c hr (fun e _ => ⟨fun z => z.2, fun z => ⟨z.1, z⟩⟩))) (fun k => by omega)
  · intro m i r hi hr K
    have ci := hC.2 i hi
    refine pk_le n i (fun k => by omega) (fun _ => ⟨vp_in_nI (by omega) (by omega), ?_⟩)
    rw [nI_clamp (by omega), ci.1]
    refine fy_writes ci.2.1 (fun w => br_f (by decide) ⟨vp_in_nI (by omega) (by omega), ?_⟩) (fun w => br_t rfl (nm_r (nI_1 i) (K _ (fi_ac_s r hr (fun z => w z.2.1)))))
    have ti := ci.2.2.1 w
    rw [ti.1]
    exact pk_eq (V i) v (fun e => nm_e (nm_r (nI_1 i) (K _ (fi_ac_t r hr (by omega) ⟨hi, w, e⟩)))) (fun e => nm_r (nI_1 i) (K _ (fi_ac_s r hr (fun z => e z.2.2))))
theorem fy_readers {post : Int32 → Prop} {v : Nat} (hv : v < 2 ^ 31) (hC : fi_C n O V A B y_ops y_vs y_as y_bs) (h : ∀ r, fi_is r (fi_rs n O A B v) → post r) : wpY_readers post (nI n, y_ops, y_vs, y_as, y_bs) (nI v) := by
  have hn := hC.1
  unfold wpY_readers
  refine fi_lp (n := n) (fun i e => e < i ∧ fi_rs n O A B v e) fi_ac_0 ?_ ?_
  · intro m r hr
    exact pk_le n n (fun _ => h r (fi_is_c hr (fun e _ => ⟨fun z => z.2, fun z => ⟨z.1, z⟩⟩))) (fun k => by omega)
  · intro m i r hi hr K
    have ci := hC.2 i hi
    have ii : vp_in (nI i) 20 := vp_in_nI (by omega) (by omega)
    have yes : fi_rs n O A B v i → wY_readers_58 post (wY_readers_4 post (nI v) (nI n) y_ops y_vs y_as y_bs m) (nI v) r (nI i) (nI n) y_ops y_vs y_as y_bs := fun k => br_f (by decide) (nm_e (nm_r (nI_1 i) (K _ (fi_ac_t r hr (by omega) k))))
    have no : ¬ fi_rs n O A B v i → wY_readers_62 post (wY_readers_4 post (nI v) (nI n) y_ops y_vs y_as y_bs m) (nI v) r (nI i) (nI n) y_ops y_vs y_as y_bs := fun k => br_t rfl (nm_r (nI_1 i) (K _ (fi_ac_s r hr k)))
    have k35 : ¬ (fi_rd (O i) ∧ A i = v) → wY_readers_35 post (wY_readers_4 post (nI v) (nI n) y_ops y_vs y_as y_bs m) (nI v) r (nI i) (nI n) y_ops y_vs y_as y_bs := by
      intro hno
      refine ⟨ii, ?_⟩
      rw [nI_clamp (by omega), ci.1]
      refine fy_comp ci.2.1 (fun k => br_f (by decide) ⟨ii, ?_⟩) (fun k => br_t rfl (no (fun z => z.2.elim hno (fun y => k y.1))))
      have bi := ci.2.2.2.2.1 k
      rw [bi.1]
      exact pk_eq (B i) v (fun e => yes ⟨hi, Or.inr ⟨k, e⟩⟩) (fun e => no (fun z => z.2.elim hno (fun y => e y.2)))
    refine pk_le n i (fun k => by omega) (fun _ => ⟨ii, ?_⟩)
    rw [nI_clamp (by omega), ci.1]
    refine fy_reads ci.2.1 (fun k => br_f (by decide) ⟨ii, ?_⟩) (fun k => br_t rfl (k35 (fun z => k z.1)))
    have ai := ci.2.2.2.1 k
    rw [ai.1]
    exact pk_eq (A i) v (fun e => yes ⟨hi, Or.inl ⟨k, e⟩⟩) (fun e => k35 (fun z => e z.2))
theorem fy_isLive {post : Int32 → Prop} {p v : Nat} (hp : p < n) (hv : v < 2 ^ 31) (hC : fi_C n O V A B y_ops y_vs y_as y_bs) (h1 : fi_lv n O V A B p v → post 1) (h0 : ¬ fi_lv n O V A B p v → post 0) : wpY_isLive post (nI n, y_ops, y_vs, y_as, y_bs) (nI p) (nI v) := by
  have hn := hC.1
  unfold wpY_isLive
  refine fy_writers hv hC (fun r hr => fy_flow hC (fi_is_1 (by omega)) hr fi_is_0 (fun a ha => by omega) (fun r2 hr2 => fy_readers hv hC (fun r3 hr3 => ?_)))
  have z := fi_is_z (fi_is_and hr2 hr3)
  refine br_c (fun c => h0 ?_) (fun c => h1 (Classical.byContradiction (fun k => c (z.mpr (fun i _ w => k ⟨i, w.1, w.2⟩)))))
  rintro ⟨y, y1, y2⟩
  exact z.mp c y (by have := y2.1; omega) ⟨y1, y2⟩
theorem fy_same {post : Int32 → Prop} {p q : Nat} (hC : fi_C n O V A B y_ops y_vs y_as y_bs) (hp : p < n) (hq : q < n) (h1 : fi_sm O A B p q → post 1) (h0 : ¬ fi_sm O A B p q → post 0) : wpY_same post (nI n, y_ops, y_vs, y_as, y_bs) (nI p) (nI q) := by
  have hn := hC.1
  have cp := hC.2 p hp
  have cq := hC.2 q hq
  have ip : vp_in (nI p) 20 := vp_in_nI (by omega) (by omega)
  have iq : vp_in (nI q) 20 := vp_in_nI (by omega) (by omega)
  refine ⟨ip, ?_⟩
  rw [nI_clamp (show p < 2 ^ 31 by omega), nI_clamp (show q < 2 ^ 31 by omega), cp.1]
  refine fy_comp cp.2.1 (fun k => br_f (by decide) ⟨ip, iq, ?_⟩) (fun k => br_t rfl (h0 (fun z => k z.1)))
  rw [cq.1]
  refine pk_eq (O p) (O q) (fun e => ⟨ip, iq, ?_⟩) (fun e => h0 (fun z => e z.2.1))
  have kq : fi_cp (O q) := by rw [← e]; exact k
  have ap := cp.2.2.2.1 (fi_cp_rd k)
  have aq := cq.2.2.2.1 (fi_cp_rd kq)
  have bp := cp.2.2.2.2.1 k
  have bq := cq.2.2.2.2.1 kq
  rw [ap.1, aq.1]
  refine pk_eq (A p) (A q) (fun e2 => ⟨ip, iq, ?_⟩) (fun e2 => h0 (fun z => e2 z.2.2.1))
  rw [bp.1, bq.1]
  exact pk_eq (B p) (B q) (fun e3 => h1 ⟨k, e, e2, e3⟩) (fun e3 => h0 (fun z => e3 z.2.2.2))
theorem fy_isName {post : Int32 → Prop} {e : Nat} (hC : fi_C n O V A B y_ops y_vs y_as y_bs) (he : e < n) (h1 : fi_nm n O A B e → post 1) (h0 : ¬ fi_nm n O A B e → post 0) : wpY_isName post (nI n, y_ops, y_vs, y_as, y_bs) (nI e) := by
  have hn := hC.1
  have ce := hC.2 e he
  have key : ∀ d i x, i + d = e → ((x = 1 ∧ fi_cp (O e) ∧ ∀ q, q < i → ¬ fi_sm O A B q e) ∨ (x = 0 ∧ ¬ fi_nm n O A B e)) → wY_isName_13 post (nI e) (nI n) y_ops y_vs y_as y_bs (d + 1) x (nI i) := by
    intro d
    induction d with
    | zero =>
      intro i x hi H
      have : i = e := by omega
      subst this
      refine pk_le i i (fun _ => ?_) (fun k => by omega)
      rcases H with ⟨rfl, H1, H2⟩ | ⟨rfl, H⟩
      · exact ⟨narrow_b1, h1 ⟨he, H1, H2⟩⟩
      · exact ⟨narrow_b0, h0 H⟩
    | succ d ih =>
      intro i x hi H
      refine pk_le e i (fun k => by omega) (fun _ => ?_)
      rcases H with ⟨rfl, H1, H2⟩ | ⟨rfl, H⟩
      · refine br_f (by decide) (fy_same hC (by omega) he (fun k => br_f (by decide) (nm_r (nI_1 i) (ih (i + 1) 0 (by omega) (Or.inr ⟨rfl, fun z => z.2.2 i (by omega) k⟩)))) (fun k => br_t rfl (nm_r (nI_1 i) (ih (i + 1) 1 (by omega) (Or.inl ⟨rfl, H1, fun q hq => ?_⟩)))))
        by_cases c : q = i
        · subst c; exact k
        · exact H2 q (by omega)
      · exact br_t rfl (nm_r (nI_1 i) (ih (i + 1) 0 (by omega) (Or.inr ⟨rfl, H⟩)))
  refine ⟨vp_in_nI (by omega) (by omega), ?_⟩
  rw [nI_clamp (by omega), ce.1]
  exact fy_comp ce.2.1 (fun k => ⟨_, key e 0 1 (by omega) (Or.inl ⟨rfl, k, fun q hq => by omega⟩)⟩) (fun k => ⟨_, key e 0 0 (by omega) (Or.inr ⟨rfl, fun z => k z.2.1⟩)⟩)
theorem fy_spoils {post : Int32 → Prop} {p e : Nat} (hC : fi_C n O V A B y_ops y_vs y_as y_bs) (hp : p < n) (he : e < n) (hc : fi_cp (O e)) (h1 : fi_sp O V A B p e → post 1) (h0 : ¬ fi_sp O V A B p e → post 0) : wpY_spoils post (nI n, y_ops, y_vs, y_as, y_bs) (nI p) (nI e) := by
  have hn := hC.1
  have cp := hC.2 p hp
  have ce := hC.2 e he
  have ip : vp_in (nI p) 20 := vp_in_nI (by omega) (by omega)
  have ie : vp_in (nI e) 20 := vp_in_nI (by omega) (by omega)
  have ae := ce.2.2.2.1 (fi_cp_rd hc)
  have be := ce.2.2.2.2.1 hc
  refine ⟨ip, ?_⟩
  rw [nI_clamp (show p < 2 ^ 31 by omega), nI_clamp (show e < 2 ^ 31 by omega), cp.1]
  refine fy_writes cp.2.1 (fun w => br_f (by decide) ⟨ip, ie, ?_⟩) (fun w => br_t rfl (h0 (fun z => w z.1)))
  have vp := cp.2.2.1 w
  rw [vp.1, ae.1]
  refine pk_eq (V p) (A e) (fun k => h1 ⟨w, Or.inl k⟩) (fun k => ⟨ip, ie, ?_⟩)
  rw [be.1]
  exact pk_eq (V p) (B e) (fun k2 => h1 ⟨w, Or.inr k2⟩) (fun k2 => h0 (fun z => z.2.elim k k2))
theorem fi_fw_D {F : Nat → Prop} (hF : ∀ a, F a ↔ (0 < n ∧ a = 0)) {q p : Nat} (hq : 0 < n) : ¬ fi_fw n O B F (fun _ => False) (fun a => a = q) p ↔ fi_D n O B q p := by
  have e0 : fi_nd n 0 = 0 := if_pos hq
  refine not_congr ⟨fun h => ?_, fun h => ?_⟩
  · refine fi_rc_m (fun a ha => ⟨?_, ha.2⟩) (fun a b e => ⟨e.1, e.2.2⟩) h
    rw [e0]; exact ((hF a).mp ha.1).2
  · refine fi_rc_m (fun a ha => ⟨(hF a).mpr ⟨hq, ?_⟩, ha.2⟩) (fun a b e => ⟨e.1, fun z => z, e.2⟩) h
    rw [ha.1, e0]
theorem fy_isBefore {post : Int32 → Prop} {q p : Nat} (hC : fi_C n O V A B y_ops y_vs y_as y_bs) (hq : q < n) (hp : p < n) (h1 : fi_D n O B q p → post 1) (h0 : ¬ fi_D n O B q p → post 0) : wpY_isBefore post (nI n, y_ops, y_vs, y_as, y_bs) (nI q) (nI p) := by
  have hn := hC.1
  unfold wpY_isBefore
  refine fy_start hn (fun r hr => fy_flow hC hr fi_is_0 (fi_is_1 (by omega)) (fun a ha => by omega) (fun r2 hr2 => ?_))
  have e := fi_fw_D (n := n) (O := O) (B := B) (F := fun q => 0 < n ∧ q = 0) (fun a => Iff.rfl) (q := q) (p := p) (by omega)
  exact br_c (fun c => h1 (e.mp ((fi_is_t0 hr2 (by omega)).mp c))) (fun c => h0 (fun k => c ((fi_is_t0 hr2 (by omega)).mpr (e.mpr k))))
end
end
section
def fi_gn (O V A B : Nat → Nat) (e p : Nat) : Prop := fi_sm O A B p e ∧ ¬ fi_sp O V A B p e
/-- come to with what e names not to be had (false) or had (true) -/
def fi_NH (n : Nat) (O V A B : Nat → Nat) (e : Nat) (c : Bool) (x : Nat) : Prop :=
  ∀ S : Bool → Nat → Prop, (0 < n → S false 0) → (∀ p q, fi_E n O B p q → ((S false p ∧ ¬ fi_gn O V A B e p) ∨ (S true p ∧ fi_sp O V A B p e)) → S false q) →
    (∀ p q, fi_E n O B p q → ((S false p ∧ fi_gn O V A B e p) ∨ (S true p ∧ ¬ fi_sp O V A B p e)) → S true q) → S c x
section
variable {n : Nat} {O V A B : Nat → Nat} {e : Nat}
theorem fi_NH_0 (h : 0 < n) : fi_NH n O V A B e false 0 := fun _ h1 _ _ => h1 h
theorem fi_NH_f {p q : Nat} (E : fi_E n O B p q) (h : (fi_NH n O V A B e false p ∧ ¬ fi_gn O V A B e p) ∨ (fi_NH n O V A B e true p ∧ fi_sp O V A B p e)) : fi_NH n O V A B e false q :=
  fun S h1 h2 h3 => h2 p q E (h.imp (fun z => ⟨z.1 S h1 h2 h3, z.2⟩) (fun z => ⟨z.1 S h1 h2 h3, z.2⟩))
theorem fi_NH_t {p q : Nat} (E : fi_E n O B p q) (h : (fi_NH n O V A B e false p ∧ fi_gn O V A B e p) ∨ (fi_NH n O V A B e true p ∧ ¬ fi_sp O V A B p e)) : fi_NH n O V A B e true q :=
  fun S h1 h2 h3 => h3 p q E (h.imp (fun z => ⟨z.1 S h1 h2 h3, z.2⟩) (fun z => ⟨z.1 S h1 h2 h3, z.2⟩))
/-- one step by p: from (a, b) to (a2, b2) -/
def fi_ws (n : Nat) (O V A B : Nat → Nat) (e p : Nat) (a b a2 b2 : Int32) : Prop :=
  (∀ q, bt a2 q = true ↔ (bt a q = true ∨ (((bt a p = true ∧ ¬ fi_gn O V A B e p) ∨ (bt b p = true ∧ fi_sp O V A B p e)) ∧ fi_E n O B p q))) ∧
  (∀ q, bt b2 q = true ↔ (bt b q = true ∨ (((bt a p = true ∧ fi_gn O V A B e p) ∨ (bt b p = true ∧ ¬ fi_sp O V A B p e)) ∧ fi_E n O B p q)))
def fi_wc (n : Nat) (O V A B : Nat → Nat) (e m : Nat) (a b a2 b2 : Int32) : Prop := ∀ p q, p < m → fi_E n O B p q →
  (((bt a p = true ∧ ¬ fi_gn O V A B e p) ∨ (bt b p = true ∧ fi_sp O V A B p e)) → bt a2 q = true) ∧ (((bt a p = true ∧ fi_gn O V A B e p) ∨ (bt b p = true ∧ ¬ fi_sp O V A B p e)) → bt b2 q = true)
noncomputable def fi_w2 (a b : Int32) : Nat := fi_cn (fun c => (c < 20 ∧ bt a c = true) ∨ (20 ≤ c ∧ bt b (c - 20) = true)) 40
theorem fi_bt_eq {a b : Int32} (h : ∀ q, bt a q = true ↔ bt b q = true) : a = b := b_ext (fun i _ => by
  have := h i
  cases h1 : bt a i <;> cases h2 : bt b i <;> simp_all)
end
section
variable {f_size : Int32} {y_ops y_vs y_as y_bs : Nat → Int32}
variable {n : Nat} {O V A B : Nat → Nat}
theorem fy_wo135 {post : Int32 → Prop} {J10 J20 : Int32 → Int32 → Int32 → Prop} {x1 x3 x4 x6 x7 x8 x9 x10 z0 : Int32} {p : Nat} {one two gn ls : Prop} {PB E : Nat → Prop} (h6 : x6 = 0 ↔ ¬ gn) (h7 : x7 = 0 ↔ ¬ ls) (h9 : x9 = 0 ↔ ¬ one) (h10 : x10 = 0 ↔ ¬ two) (h3 : fi_is x3 PB) (h8 : fi_is x8 E)
    (K : ∀ b, fi_is b (fun q => PB q ∨ (((one ∧ gn) ∨ (two ∧ ¬ ls)) ∧ E q)) → J20 z0 b (nI (p + 1))) : wY_without_135 post J10 J20 x1 x3 x4 (nI p) x6 x7 x8 x9 x10 z0 f_size y_ops y_vs y_as y_bs := by
  have yes : ((one ∧ gn) ∨ (two ∧ ¬ ls)) → fi_is (x3 ||| x8) (fun q => PB q ∨ (((one ∧ gn) ∨ (two ∧ ¬ ls)) ∧ E q)) := fun hy => fi_is_c (fi_is_or h3 h8) (fun q _ => ⟨fun z => z.imp id (fun y => ⟨hy, y⟩), fun z => z.imp id (fun y => y.2)⟩)
  have no : ¬ ((one ∧ gn) ∨ (two ∧ ¬ ls)) → fi_is x3 (fun q => PB q ∨ (((one ∧ gn) ∨ (two ∧ ¬ ls)) ∧ E q)) := fun hy => fi_is_c h3 (fun q _ => ⟨Or.inl, fun z => z.elim id (fun y => absurd y.1 hy)⟩)
  have k146 : ¬ (one ∧ gn) → wY_without_146 post J10 J20 x1 z0 x3 x4 (nI p) x7 x8 x10 f_size y_ops y_vs y_as y_bs := by
    intro hno
    refine br_c (fun c => nm_r (nI_1 p) (K _ (no (fun z => z.elim hno (fun y => h10.mp c y.1))))) (fun c => br_c (fun c2 => nm_e (nm_r (nI_1 p) (K _ (yes (Or.inr ⟨Classical.byContradiction (fun k => c (h10.mpr k)), h7.mp c2⟩))))) (fun c2 => nm_r (nI_1 p) (K _ (no (fun z => z.elim hno (fun y => c2 (h7.mpr y.2)))))))
  refine br_c (fun c => k146 (fun z => h9.mp c z.1)) (fun c => br_c (fun c2 => k146 (fun z => h6.mp c2 z.2)) (fun c2 => nm_e (nm_r (nI_1 p) (K _ (yes (Or.inl ⟨Classical.byContradiction (fun k => c (h9.mpr k)), Classical.byContradiction (fun k => c2 (h6.mpr k))⟩))))))
theorem fy_wo105 {post : Int32 → Prop} {J10 J20 : Int32 → Int32 → Int32 → Prop} {x1 x2 x3 x4 x6 x7 x8 x9 z0 : Int32} {p : Nat} {one two gn ls : Prop} {PA PB E : Nat → Prop} (h6 : x6 = 0 ↔ ¬ gn) (h7 : x7 = 0 ↔ ¬ ls) (h9 : x9 = 0 ↔ ¬ one) (h10 : z0 = 0 ↔ ¬ two) (h2 : fi_is x2 PA) (h3 : fi_is x3 PB) (h8 : fi_is x8 E)
    (K : ∀ a b, fi_is a (fun q => PA q ∨ (((one ∧ ¬ gn) ∨ (two ∧ ls)) ∧ E q)) → fi_is b (fun q => PB q ∨ (((one ∧ gn) ∨ (two ∧ ¬ ls)) ∧ E q)) → J20 a b (nI (p + 1))) : wY_without_105 post J10 J20 x1 x2 x3 x4 (nI p) x6 x7 x8 x9 z0 f_size y_ops y_vs y_as y_bs := by
  have k127 : ((one ∧ ¬ gn) ∨ (two ∧ ls)) → wY_without_127 post J10 J20 x1 x2 x3 x4 (nI p) x6 x7 x8 x9 z0 f_size y_ops y_vs y_as y_bs := fun hy =>
    fy_wo135 h6 h7 h9 h10 h3 h8 (fun b hb => K _ b (fi_is_c (fi_is_or h2 h8) (fun q _ => ⟨fun z => z.imp id (fun y => ⟨hy, y⟩), fun z => z.imp id (fun y => y.2)⟩)) hb)
  have k134 : ¬ ((one ∧ ¬ gn) ∨ (two ∧ ls)) → wY_without_134 post J10 J20 x1 x2 x3 x4 (nI p) x6 x7 x8 x9 z0 f_size y_ops y_vs y_as y_bs := fun hy =>
    fy_wo135 h6 h7 h9 h10 h3 h8 (fun b hb => K _ b (fi_is_c h2 (fun q _ => ⟨Or.inl, fun z => z.elim id (fun y => absurd y.1 hy)⟩)) hb)
  have k117 : ¬ (one ∧ ¬ gn) → wY_without_117 post J10 J20 x1 x2 x3 x4 (nI p) x6 x7 x8 x9 z0 f_size y_ops y_vs y_as y_bs := by
    intro hno
    refine br_c (fun c => k134 (fun z => z.elim hno (fun y => h10.mp c y.1))) (fun c => br_c (fun c2 => k134 (fun z => z.elim hno (fun y => h7.mp c2 y.2))) (fun c2 => k127 (Or.inr ⟨Classical.byContradiction (fun k => c (h10.mpr k)), Classical.byContradiction (fun k => c2 (h7.mpr k))⟩)))
  exact br_c (fun c => k117 (fun z => h9.mp c z.1)) (fun c => br_c (fun c2 => k127 (Or.inl ⟨Classical.byContradiction (fun k => c (h9.mpr k)), h6.mp c2⟩)) (fun c2 => k117 (fun z => c2 (h6.mpr z.2))))
theorem fy_woStep {post : Int32 → Prop} {J10 J20 : Int32 → Int32 → Int32 → Prop} {e p : Nat} {a b x4 : Int32} (hC : fi_C n O V A B y_ops y_vs y_as y_bs) (hp : p < n) (he : e < n) (hc : fi_cp (O e))
    (K : ∀ a2 b2, fi_ws n O V A B e p a b a2 b2 → J20 a2 b2 (nI (p + 1))) {z0 : Int32} (hz : z0 = 0 ↔ ¬ fi_gn O V A B e p) : wY_without_54 post J10 J20 (nI e) a b x4 (nI p) z0 (nI n) y_ops y_vs y_as y_bs := by
  have hn := hC.1
  have ha : fi_is a (fun y => bt a y = true) := fun y hy => Iff.rfl
  have hb : fi_is b (fun y => bt b y = true) := fun y hy => Iff.rfl
  have fin : ∀ x7 x8 x9 x10 : Int32, (x7 = 0 ↔ ¬ fi_sp O V A B p e) → fi_is x8 (fi_E n O B p) → (x9 = 0 ↔ ¬ bt a p = true) → (x10 = 0 ↔ ¬ bt b p = true) → wY_without_105 post J10 J20 (nI e) a b x4 (nI p) z0 x7 x8 x9 x10 (nI n) y_ops y_vs y_as y_bs := by
    intro x7 x8 x9 x10 h7 h8 h9 h10
    refine fy_wo105 hz h7 h9 h10 ha hb h8 (fun a2 b2 g1 g2 => K a2 b2 ⟨fi_is_low g1 ?_, fi_is_low g2 ?_⟩)
    · rintro y (w | w)
      · exact fi_bt_lt w
      · have := (fi_E_lt hn w.2).2; omega
    · rintro y (w | w)
      · exact fi_bt_lt w
      · have := (fi_E_lt hn w.2).2; omega
  have k88 : ∀ x7 x8 x9 : Int32, (x7 = 0 ↔ ¬ fi_sp O V A B p e) → fi_is x8 (fi_E n O B p) → (x9 = 0 ↔ ¬ bt a p = true) → wY_without_88 post J10 J20 (nI e) a b x4 (nI p) z0 x7 x8 x9 (nI n) y_ops y_vs y_as y_bs := by
    intro x7 x8 x9 h7 h8 h9
    refine br_c (fun c => fin x7 x8 x9 1 h7 h8 h9 ⟨fun z => absurd z (by decide), fun z => absurd ((fi_t1 (by omega)).mp c) z⟩) (fun c => fin x7 x8 x9 0 h7 h8 h9 ⟨fun _ z => c ((fi_t1 (by omega)).mpr z), fun _ => rfl⟩)
  have k54 : ∀ x7 : Int32, (x7 = 0 ↔ ¬ fi_sp O V A B p e) → wpY_goingOn (fun r => (((a >>> (nI p &&& 31)) &&& 1) = 1 → wY_without_88 post J10 J20 (nI e) a b x4 (nI p) z0 x7 r 1 (nI n) y_ops y_vs y_as y_bs) ∧ (¬ ((a >>> (nI p &&& 31)) &&& 1) = 1 → wY_without_88 post J10 J20 (nI e) a b x4 (nI p) z0 x7 r 0 (nI n) y_ops y_vs y_as y_bs)) (nI n, y_ops, y_vs, y_as, y_bs) (nI p) := by
    intro x7 h7
    refine fy_goingOn hC hp (fun r hr => br_c (fun c => k88 x7 r 1 h7 hr ⟨fun z => absurd z (by decide), fun z => absurd ((fi_t1 (by omega)).mp c) z⟩) (fun c => k88 x7 r 0 h7 hr ⟨fun _ z => c ((fi_t1 (by omega)).mpr z), fun _ => rfl⟩))
  unfold wY_without_54
  exact fy_spoils hC hp he hc (fun k => k54 1 ⟨fun z => absurd z (by decide), fun z => absurd k z⟩) (fun k => k54 0 ⟨fun _ => k, fun _ => rfl⟩)
theorem fy_without20 {post : Int32 → Prop} {J10 : Int32 → Int32 → Int32 → Prop} {e p m : Nat} {a b x4 : Int32} (hC : fi_C n O V A B y_ops y_vs y_as y_bs) (hp : p < n) (he : e < n) (hc : fi_cp (O e))
    (K : ∀ a2 b2, fi_ws n O V A B e p a b a2 b2 → wY_without_20 post J10 (nI e) x4 (nI n) y_ops y_vs y_as y_bs m a2 b2 (nI (p + 1))) : wY_without_20 post J10 (nI e) x4 (nI n) y_ops y_vs y_as y_bs (m + 1) a b (nI p) := by
  have hn := hC.1
  refine pk_le n p (fun k => by omega) (fun _ => fy_same hC hp he (fun k => br_f (by decide) ?_) (fun k => br_t rfl (fy_woStep hC hp he hc K ⟨fun _ z => k z.1, fun _ => rfl⟩)))
  refine fy_spoils hC hp he hc (fun k2 => br_f (by decide) (fy_woStep hC hp he hc K ⟨fun _ z => z.2 k2, fun _ => rfl⟩)) (fun k2 => br_t rfl (fy_woStep hC hp he hc K ⟨fun z => absurd z (by decide), fun z => absurd ⟨k, k2⟩ z⟩))
theorem fy_without {post : Int32 → Prop} {e : Nat} (hC : fi_C n O V A B y_ops y_vs y_as y_bs) (he : e < n) (hc : fi_cp (O e)) (h : ∀ r, fi_is r (fi_NH n O V A B e false) → post r) : wpY_without post (nI n, y_ops, y_vs, y_as, y_bs) (nI e) := by
  have hn := hC.1
  have k10 : ∀ d i a b, i + d = 40 → (∀ y, bt a y = true → fi_NH n O V A B e false y) → (∀ y, bt b y = true → fi_NH n O V A B e true y) → bt a 0 = true → (fi_wc n O V A B e n a b a b ∨ i + 1 ≤ fi_w2 a b) →
      wY_without_10 post (nI e) (nI n) y_ops y_vs y_as y_bs (d + 1) a b (nI i) := by
    intro d
    induction d with
    | zero =>
      intro i a b hi sa sb a0 cl
      have cl2 : fi_wc n O V A B e n a b a b := by
        rcases cl with c | c
        · exact c
        · have := fi_cn_le (P := fun c => (c < 20 ∧ bt a c = true) ∨ (20 ≤ c ∧ bt b (c - 20) = true)) 40
          unfold fi_w2 at c
          omega
      refine pk_le 40 i (fun _ => h a (fun y hy => ⟨sa y, fun z => ?_⟩)) (fun k => by omega)
      exact z (fun c y => if c = true then bt b y = true else bt a y = true) (fun _ => a0) (fun p q E w => (cl2 p q E.1 E).1 (by simpa using w)) (fun p q E w => (cl2 p q E.1 E).2 (by simpa using w))
    | succ d ih =>
      intro i a b hi sa sb a0 cl
      refine pk_le 40 i (fun k => by omega) (fun _ => ?_)
      have k20 : ∀ d2 p a2 b2, p + d2 = n → (∀ y, bt a y = true → bt a2 y = true) → (∀ y, bt b y = true → bt b2 y = true) → (∀ y, bt a2 y = true → fi_NH n O V A B e false y) → (∀ y, bt b2 y = true → fi_NH n O V A B e true y) →
          (fi_wc n O V A B e n a b a b → a2 = a ∧ b2 = b) → fi_wc n O V A B e p a b a2 b2 → wY_without_20 post (wY_without_10 post (nI e) (nI n) y_ops y_vs y_as y_bs (d + 1)) (nI e) (nI i) (nI n) y_ops y_vs y_as y_bs (d2 + 1) a2 b2 (nI p) := by
        intro d2
        induction d2 with
        | zero =>
          intro p a2 b2 hp ia ib sa2 sb2 e1 e2
          have ep : p = n := by omega
          subst ep
          refine pk_le p p (fun _ => nm_r (nI_1 i) (ih (i + 1) a2 b2 (by omega) sa2 sb2 (ia 0 a0) ?_)) (fun k => by omega)
          by_cases c : ∃ y, y < p ∧ ((bt a2 y = true ∧ ¬ bt a y = true) ∨ (bt b2 y = true ∧ ¬ bt b y = true))
          · right
            obtain ⟨y, y1, y2⟩ := c
            have sub : ∀ c, c < 40 → ((c < 20 ∧ bt a c = true) ∨ (20 ≤ c ∧ bt b (c - 20) = true)) → ((c < 20 ∧ bt a2 c = true) ∨ (20 ≤ c ∧ bt b2 (c - 20) = true)) := fun c _ w => w.imp (fun z => ⟨z.1, ia _ z.2⟩) (fun z => ⟨z.1, ib _ z.2⟩)
            have ct : fi_w2 a b + 1 ≤ fi_w2 a2 b2 := by
              rcases y2 with w | w
              · exact fi_cn_lt 40 sub y (by omega) (Or.inl ⟨by omega, w.1⟩) (fun z => z.elim (fun k => w.2 k.2) (fun k => by omega))
              · refine fi_cn_lt 40 sub (y + 20) (by omega) (Or.inr ⟨by omega, by rw [Nat.add_sub_cancel]; exact w.1⟩) (fun z => z.elim (fun k => by omega) (fun k => w.2 ?_))
                rw [Nat.add_sub_cancel] at k; exact k.2
            rcases cl with c2 | c2
            · have q := e1 c2
              rw [q.1, q.2] at y2
              rcases y2 with w | w
              · exact absurd w.1 w.2
              · exact absurd w.1 w.2
            · omega
          · left
            have ea : ∀ y, y < p → (bt a2 y = true → bt a y = true) := fun y hy w => Classical.byContradiction (fun k => c ⟨y, hy, Or.inl ⟨w, k⟩⟩)
            have eb : ∀ y, y < p → (bt b2 y = true → bt b y = true) := fun y hy w => Classical.byContradiction (fun k => c ⟨y, hy, Or.inr ⟨w, k⟩⟩)
            intro y q hy E
            exact ⟨fun w => (e2 y q hy E).1 (w.imp (fun z => ⟨ea y hy z.1, z.2⟩) (fun z => ⟨eb y hy z.1, z.2⟩)), fun w => (e2 y q hy E).2 (w.imp (fun z => ⟨ea y hy z.1, z.2⟩) (fun z => ⟨eb y hy z.1, z.2⟩))⟩
        | succ d2 ih2 =>
          intro p a2 b2 hp ia ib sa2 sb2 e1 e2
          refine fy_without20 hC (by omega) he hc (fun a3 b3 w => ih2 (p + 1) a3 b3 (by omega) (fun y hy => (w.1 y).mpr (Or.inl (ia y hy))) (fun y hy => (w.2 y).mpr (Or.inl (ib y hy))) (fun y hy => ?_) (fun y hy => ?_) (fun cc => ?_) (fun y q hy E => ?_))
          · rcases (w.1 y).mp hy with z | z
            · exact sa2 y z
            · exact fi_NH_f z.2 (z.1.imp (fun k => ⟨sa2 p k.1, k.2⟩) (fun k => ⟨sb2 p k.1, k.2⟩))
          · rcases (w.2 y).mp hy with z | z
            · exact sb2 y z
            · exact fi_NH_t z.2 (z.1.imp (fun k => ⟨sa2 p k.1, k.2⟩) (fun k => ⟨sb2 p k.1, k.2⟩))
          · obtain ⟨q1, q2⟩ := e1 cc
            subst q1; subst q2
            exact ⟨fi_bt_eq (fun y => ⟨fun hy => ((w.1 y).mp hy).elim id (fun z => (cc p y (by omega) z.2).1 z.1), fun hy => (w.1 y).mpr (Or.inl hy)⟩), fi_bt_eq (fun y => ⟨fun hy => ((w.2 y).mp hy).elim id (fun z => (cc p y (by omega) z.2).2 z.1), fun hy => (w.2 y).mpr (Or.inl hy)⟩)⟩
          · by_cases ey : y = p
            · subst ey
              exact ⟨fun k => (w.1 q).mpr (Or.inr ⟨k.imp (fun z => ⟨ia _ z.1, z.2⟩) (fun z => ⟨ib _ z.1, z.2⟩), E⟩), fun k => (w.2 q).mpr (Or.inr ⟨k.imp (fun z => ⟨ia _ z.1, z.2⟩) (fun z => ⟨ib _ z.1, z.2⟩), E⟩)⟩
            · have k := e2 y q (by omega) E
              exact ⟨fun z => (w.1 q).mpr (Or.inl (k.1 z)), fun z => (w.2 q).mpr (Or.inl (k.2 z))⟩
      exact ⟨_, k20 n 0 a b (by omega) (fun y hy => hy) (fun y hy => hy) sa sb (fun _ => ⟨rfl, rfl⟩) (fun y q hy => by omega)⟩
  unfold wpY_without
  refine fy_start hn (fun r hr => ⟨_, k10 40 0 r 0 (by omega) (fun y hy => ?_) (fun y hy => ?_) ((hr 0 (by omega)).mpr ⟨by omega, rfl⟩) (Or.inr ?_)⟩)
  · have z := (hr y (fi_bt_lt hy)).mp hy
    rw [z.2]; exact fi_NH_0 z.1
  · rw [b_0] at hy; exact absurd hy (by decide)
  · have : bt r 0 = true := (hr 0 (by omega)).mpr ⟨by omega, rfl⟩
    exact fi_cn_pos (j := 0) (by omega) (Or.inl ⟨by omega, this⟩)
/-- from p one can miss what e names -/
def fi_ms (n : Nat) (O V A B : Nat → Nat) (p e : Nat) : Prop := ∃ z, fi_fw n O B (fun a => a = p) (fun q => q < n ∧ fi_sm O A B q e) (fun _ => False) z ∧ (z = 20 ∨ (z < n ∧ ¬ fi_sm O A B z e ∧ fi_sp O V A B z e))
theorem fy_missed {post : Int32 → Prop} {p e : Nat} (hC : fi_C n O V A B y_ops y_vs y_as y_bs) (hp : p < n) (he : e < n) (hc : fi_cp (O e)) (h1 : fi_ms n O V A B p e → post 1) (h0 : ¬ fi_ms n O V A B p e → post 0) : wpY_missed post (nI n, y_ops, y_vs, y_as, y_bs) (nI p) (nI e) := by
  have hn := hC.1
  have key : ∀ d i a b, i + d = n → fi_is a (fun q => q < i ∧ q < n ∧ fi_sm O A B q e) → fi_is b (fun q => q = 20 ∨ (q < i ∧ q < n ∧ ¬ fi_sm O A B q e ∧ fi_sp O V A B q e)) → wY_missed_9 post (nI p) (nI e) (nI n) y_ops y_vs y_as y_bs (d + 1) a b (nI i) := by
    intro d
    induction d with
    | zero =>
      intro i a b hi ha hb
      have : i = n := by omega
      subst this
      refine pk_le i i (fun _ => fy_flow (F := fun a => a = p) (T := fun q => q < i ∧ fi_sm O A B q e) (G := fun _ => False) hC (fi_is_1 (by omega)) (fi_is_c ha (fun q _ => ⟨fun z => z.2, fun z => ⟨z.1, z⟩⟩)) fi_is_0 (fun a ha => by omega) (fun r hr => ?_)) (fun k => by omega)
      have z := fi_is_z (fi_is_and hr hb)
      refine br_c (fun c => h0 ?_) (fun c => h1 (Classical.byContradiction (fun k => c (z.mpr (fun y _ w => k ⟨y, w.1, w.2.imp id (fun v => v.2)⟩)))))
      rintro ⟨y, y1, y2⟩
      exact z.mp c y (by omega) ⟨y1, y2.imp id (fun v => ⟨v.1, v⟩)⟩
    | succ d ih =>
      intro i a b hi ha hb
      have bs : ¬ (¬ fi_sm O A B i e ∧ fi_sp O V A B i e) → fi_is b (fun q => q = 20 ∨ (q < i + 1 ∧ q < n ∧ ¬ fi_sm O A B q e ∧ fi_sp O V A B q e)) := fun hno => fi_is_c hb (fun q _ => ⟨fun z => z.imp id (fun y => ⟨by omega, y.2⟩), fun z => z.imp id (fun y => ⟨by
        by_cases c : q = i
        · subst c; exact absurd y.2.2 hno
        · omega, y.2⟩)⟩)
      have bt2 : (¬ fi_sm O A B i e ∧ fi_sp O V A B i e) → fi_is (b ||| ((1 : Int32) <<< (nI i &&& 31))) (fun q => q = 20 ∨ (q < i + 1 ∧ q < n ∧ ¬ fi_sm O A B q e ∧ fi_sp O V A B q e)) := fun hy => fi_is_c (fi_is_or hb (fi_is_1 (by omega))) (fun q _ => ⟨fun z => by
        rcases z with (z | z) | z
        · exact Or.inl z
        · exact Or.inr ⟨by omega, z.2⟩
        · subst z; exact Or.inr ⟨by omega, by omega, hy⟩, fun z => by
        rcases z with z | z
        · exact Or.inl (Or.inl z)
        · by_cases c : q = i
          · exact Or.inr c
          · exact Or.inl (Or.inr ⟨by omega, z.2⟩)⟩)
      refine pk_le n i (fun k => by omega) (fun _ => fy_same hC (by omega) he (fun k => br_f (by decide) (br_f (by decide) (nm_r (nI_1 i) (ih (i + 1) _ b (by omega) (fi_ac_t (P := fun q => q < n ∧ fi_sm O A B q e) a ha (by omega) ⟨by omega, k⟩) (bs (fun z => z.1 k)))))) (fun k => br_t rfl (br_t rfl ?_)))
      have ha2 := fi_ac_s (P := fun q => q < n ∧ fi_sm O A B q e) a ha (fun z => k z.2)
      exact fy_spoils hC (by omega) he hc (fun k2 => br_f (by decide) (nm_e (nm_r (nI_1 i) (ih (i + 1) a _ (by omega) ha2 (bt2 ⟨k, k2⟩))))) (fun k2 => br_t rfl (nm_r (nI_1 i) (ih (i + 1) a b (by omega) ha2 (bs (fun z => k2 z.2)))))
  refine ⟨_, key n 0 0 1048576 (by omega) fi_ac_0 (fun i hi => ?_)⟩
  rw [fi_end i hi]
  simp
end
end
section
section
variable {f_size : Int32} {y_ops y_vs y_as y_bs : Nat → Int32}
variable {n : Nat} {O V A B : Nat → Nat}
theorem fy_reaching {post : Int32 → Prop} {x y : Int32} (hC : fi_C n O V A B y_ops y_vs y_as y_bs)
    (h1 : ∀ p, p < n → y = nI p → fi_RE n O B p → fi_en x → ∀ r, fi_is r (fun d => d < n ∧ fi_RE n O B d ∧ O d ≤ 3 ∧ fi_fw n O B (fi_E n O B d) (fi_wr n O V (V d)) (fun _ => False) p) → post r)
    (h0 : ¬ (fi_en x ∧ ∃ p, p < n ∧ y = nI p ∧ fi_RE n O B p) → post (-1)) : wpY_reaching post (nI n, y_ops, y_vs, y_as, y_bs) x y := by
  have hn := hC.1
  unfold wpY_reaching
  refine fy_engine (fun en => br_f (by decide) (fy_canReach hC (fun p hp e rp => br_f (by decide) ?_) (fun c => br_t rfl (h0 (fun ⟨_, p, p1, p2, p3⟩ => c p p1 p2 p3))))) (fun c => br_t rfl (h0 (fun z => c z.1)))
  subst e
  refine fi_lp (n := n) (fun i e => e < i ∧ e < n ∧ fi_RE n O B e ∧ O e ≤ 3 ∧ fi_fw n O B (fi_E n O B e) (fi_wr n O V (V e)) (fun _ => False) p) fi_ac_0 ?_ ?_
  · intro m r hr
    exact pk_le n n (fun _ => h1 p hp rfl rp en r (fi_is_c hr (fun e _ => ⟨fun z => z.2, fun z => ⟨z.1, z⟩⟩))) (fun k => by omega)
  · intro m i r hi hr K
    have ci := hC.2 i hi
    have ii : vp_in (nI i) 20 := vp_in_nI (by omega) (by omega)
    refine pk_le n i (fun k => by omega) (fun _ => fy_can hC hi (fun re => br_f (by decide) ⟨ii, ?_⟩) (fun re => br_t rfl (nm_r (nI_1 i) (K _ (fi_ac_s r hr (fun z => re z.2.1))))))
    rw [nI_clamp (by omega), ci.1]
    refine fy_writes ci.2.1 (fun w => br_f (by decide) (fy_goingOn hC hi (fun r1 hr1 => ⟨ii, ?_⟩))) (fun w => br_t rfl (nm_r (nI_1 i) (K _ (fi_ac_s r hr (fun z => w z.2.2.1)))))
    have vi := ci.2.2.1 w
    rw [vi.1]
    refine fy_writers (by omega) hC (fun r2 hr2 => fy_flow hC hr1 hr2 fi_is_0 (fun a ha => (fi_E_lt hn ha).2) (fun r3 hr3 => ?_))
    exact br_c (fun c => nm_e (nm_r (nI_1 i) (K _ (fi_ac_t r hr (by omega) ⟨hi, re, w, (fi_is_t1 hr3 (by omega)).mp c⟩)))) (fun c => nm_r (nI_1 i) (K _ (fi_ac_s r hr (fun z => c ((fi_is_t1 hr3 (by omega)).mpr z.2.2.2)))))
theorem fy_live {post : Int32 → Prop} {x y : Int32} (hC : fi_C n O V A B y_ops y_vs y_as y_bs)
    (h1 : ∀ p, p < n → y = nI p → fi_en x → ∀ r, fi_is r (fun v => v < 6 ∧ fi_lv n O V A B p v) → post r)
    (h0 : ¬ (fi_en x ∧ ∃ p, p < n ∧ y = nI p) → post (-1)) : wpY_live post (nI n, y_ops, y_vs, y_as, y_bs) x y := by
  have hn := hC.1
  unfold wpY_live
  refine fy_engine (fun en => br_f (by decide) (fy_in hn (fun p hp e => br_f (by decide) ?_) (fun c => br_t rfl (h0 (fun ⟨_, p, p1, p2⟩ => c p p1 p2))))) (fun c => br_t rfl (h0 (fun z => c z.1)))
  subst e
  refine fi_lp (n := 6) (fun i v => v < i ∧ fi_lv n O V A B p v) fi_ac_0 ?_ ?_
  · intro m r hr
    exact pk_le 6 6 (fun _ => h1 p hp rfl en r hr) (fun k => by omega)
  · intro m i r hi hr K
    exact pk_le 6 i (fun k => by omega) (fun _ => fy_isLive hp (by omega) hC (fun k => br_f (by decide) (nm_e (nm_r (nI_1 i) (K _ (fi_ac_t r hr (by omega) k))))) (fun k => br_t rfl (nm_r (nI_1 i) (K _ (fi_ac_s r hr k)))))
theorem fy_available {post : Int32 → Prop} {x y : Int32} (hC : fi_C n O V A B y_ops y_vs y_as y_bs)
    (h1 : ∀ p, p < n → y = nI p → fi_RE n O B p → fi_en x → ∀ r, fi_is r (fun e => fi_nm n O A B e ∧ ¬ fi_NH n O V A B e false p) → post r)
    (h0 : ¬ (fi_en x ∧ ∃ p, p < n ∧ y = nI p ∧ fi_RE n O B p) → post (-1)) : wpY_available post (nI n, y_ops, y_vs, y_as, y_bs) x y := by
  have hn := hC.1
  unfold wpY_available
  refine fy_engine (fun en => br_f (by decide) (fy_canReach hC (fun p hp e rp => br_f (by decide) ?_) (fun c => br_t rfl (h0 (fun ⟨_, p, p1, p2, p3⟩ => c p p1 p2 p3))))) (fun c => br_t rfl (h0 (fun z => c z.1)))
  subst e
  refine fi_lp (n := n) (fun i e => e < i ∧ fi_nm n O A B e ∧ ¬ fi_NH n O V A B e false p) fi_ac_0 ?_ ?_
  · intro m r hr
    exact pk_le n n (fun _ => h1 p hp rfl rp en r (fi_is_c hr (fun e _ => ⟨fun z => z.2, fun z => ⟨z.1.1, z⟩⟩))) (fun k => by omega)
  · intro m i r hi hr K
    refine pk_le n i (fun k => by omega) (fun _ => fy_isName hC hi (fun k => br_f (by decide) (fy_without hC hi k.2.1 (fun r2 hr2 => ?_))) (fun k => br_t rfl (nm_r (nI_1 i) (K _ (fi_ac_s r hr (fun z => k z.1))))))
    exact br_c (fun c => nm_e (nm_r (nI_1 i) (K _ (fi_ac_t r hr (by omega) ⟨k, (fi_is_t0 hr2 (by omega)).mp c⟩)))) (fun c => nm_r (nI_1 i) (K _ (fi_ac_s r hr (fun z => c ((fi_is_t0 hr2 (by omega)).mpr z.2)))))
theorem fy_busy {post : Int32 → Prop} {x y : Int32} (hC : fi_C n O V A B y_ops y_vs y_as y_bs)
    (h1 : ∀ p, p < n → y = nI p → fi_en x → ∀ r, fi_is r (fun e => fi_nm n O A B e ∧ ¬ fi_ms n O V A B p e) → post r)
    (h0 : ¬ (fi_en x ∧ ∃ p, p < n ∧ y = nI p) → post (-1)) : wpY_busy post (nI n, y_ops, y_vs, y_as, y_bs) x y := by
  have hn := hC.1
  unfold wpY_busy
  refine fy_engine (fun en => br_f (by decide) (fy_in hn (fun p hp e => br_f (by decide) ?_) (fun c => br_t rfl (h0 (fun ⟨_, p, p1, p2⟩ => c p p1 p2))))) (fun c => br_t rfl (h0 (fun z => c z.1)))
  subst e
  refine fi_lp (n := n) (fun i e => e < i ∧ fi_nm n O A B e ∧ ¬ fi_ms n O V A B p e) fi_ac_0 ?_ ?_
  · intro m r hr
    exact pk_le n n (fun _ => h1 p hp rfl en r (fi_is_c hr (fun e _ => ⟨fun z => z.2, fun z => ⟨z.1.1, z⟩⟩))) (fun k => by omega)
  · intro m i r hi hr K
    refine pk_le n i (fun k => by omega) (fun _ => fy_isName hC hi (fun k => br_f (by decide) (fy_missed hC hp hi k.2.1 (fun k2 => br_f (by decide) (nm_r (nI_1 i) (K _ (fi_ac_s r hr (fun z => z.2 k2))))) (fun k2 => br_t rfl (nm_e (nm_r (nI_1 i) (K _ (fi_ac_t r hr (by omega) ⟨k, k2⟩))))))) (fun k => br_t rfl (nm_r (nI_1 i) (K _ (fi_ac_s r hr (fun z => k z.1))))))
theorem fy_agree {post : Int32 → Prop} {x y : Int32} (h1 : fi_en x → fi_en y → post 1) (h0 : ¬ (fi_en x ∧ fi_en y) → post 0) : wpY_agree post (f_size, y_ops, y_vs, y_as, y_bs) x y := by
  unfold wpY_agree
  exact fy_engine (fun a => br_f (by decide) (fy_engine (fun b => br_f (by decide) (h1 a b)) (fun b => br_t rfl (h0 (fun z => b z.2))))) (fun a => br_t rfl (h0 (fun z => a z.1)))
theorem fy_before {post : Int32 → Prop} {y : Int32} (hC : fi_C n O V A B y_ops y_vs y_as y_bs)
    (h1 : ∀ p, p < n → y = nI p → fi_RE n O B p → ∀ r, fi_is r (fun q => q < n ∧ fi_D n O B q p) → post r)
    (h0 : ¬ (∃ p, p < n ∧ y = nI p ∧ fi_RE n O B p) → post (-1)) : wpY_before post (nI n, y_ops, y_vs, y_as, y_bs) y := by
  have hn := hC.1
  unfold wpY_before
  refine fy_canReach hC (fun p hp e rp => br_f (by decide) ?_) (fun c => br_t rfl (h0 (fun ⟨p, p1, p2, p3⟩ => c p p1 p2 p3)))
  subst e
  refine fi_lp (n := n) (fun i q => q < i ∧ fi_D n O B q p) fi_ac_0 ?_ ?_
  · intro m r hr
    exact pk_le n n (fun _ => h1 p hp rfl rp r hr) (fun k => by omega)
  · intro m i r hi hr K
    exact pk_le n i (fun k => by omega) (fun _ => fy_isBefore hC hi hp (fun k => br_f (by decide) (nm_e (nm_r (nI_1 i) (K _ (fi_ac_t r hr (by omega) k))))) (fun k => br_t rfl (nm_r (nI_1 i) (K _ (fi_ac_s r hr k)))))
theorem fi_fw_lt {F T G : Nat → Prop} (hn : n ≤ 20) (lo : ∀ a, F a → a < 21) {z : Nat} (h : fi_fw n O B F T G z) : z < 21 := h (fun z => z < 21) (fun a ha => lo a ha.1) (fun a b _ e => (fi_E_lt hn e.1).2)
theorem fy_after {post : Int32 → Prop} {y : Int32} (hC : fi_C n O V A B y_ops y_vs y_as y_bs)
    (h1 : ∀ p, p < n → y = nI p → fi_fw n O B (fun a => a = p) (fun _ => False) (fun _ => False) 20 → ∀ r, fi_is r (fun q => q < n ∧ ¬ fi_fw n O B (fun a => a = p) (fun _ => False) (fun a => a = q) 20) → post r)
    (h0 : ¬ (∃ p, p < n ∧ y = nI p ∧ fi_fw n O B (fun a => a = p) (fun _ => False) (fun _ => False) 20) → post (-1)) : wpY_after post (nI n, y_ops, y_vs, y_as, y_bs) y := by
  have hn := hC.1
  unfold wpY_after
  refine fy_in hn (fun p hp e => br_f (by decide) ?_) (fun c => br_t rfl (h0 (fun ⟨p, p1, p2, _⟩ => c p p1 p2)))
  subst e
  refine fy_flow hC (fi_is_1 (by omega)) fi_is_0 fi_is_0 (fun a ha => by omega) (fun r0 hr0 => ?_)
  have e20 := fi_is_20 hr0 (fun i _ z => fi_fw_lt hn (fun a ha => by omega) z)
  refine br_c (fun c => h0 (fun ⟨q, q1, q2, q3⟩ => ?_)) (fun c => ?_)
  · have : p = q := (nI_eq (by omega) (by omega)).mp q2
    subst this
    exact e20.mp c q3
  · have rp : fi_fw n O B (fun a => a = p) (fun _ => False) (fun _ => False) 20 := Classical.byContradiction (fun k => c (e20.mpr k))
    refine fi_lp (n := n) (fun i q => q < i ∧ ¬ fi_fw n O B (fun a => a = p) (fun _ => False) (fun a => a = q) 20) fi_ac_0 ?_ ?_
    · intro m r hr
      exact pk_le n n (fun _ => h1 p hp rfl rp r hr) (fun k => by omega)
    · intro m i r hi hr K
      refine pk_le n i (fun k => by omega) (fun _ => fy_flow hC (fi_is_1 (by omega)) fi_is_0 (fi_is_1 (by omega)) (fun a ha => by omega) (fun r2 hr2 => ?_))
      have e2 := fi_is_20 hr2 (fun i _ z => fi_fw_lt hn (fun a ha => by omega) z)
      exact br_c (fun c => nm_e (nm_r (nI_1 i) (K _ (fi_ac_t r hr (by omega) (e2.mp c))))) (fun c => nm_r (nI_1 i) (K _ (fi_ac_s r hr (fun k => c (e2.mpr k)))))
theorem fi_RE_lt {q : Nat} (hn : n ≤ 20) (h : fi_RE n O B q) : q < 21 := h (fun z => z < 21) (fun a ha => by rw [ha]; exact fi_nd_lt hn) (fun a b _ e => (fi_E_lt hn e).2)
theorem fy_frontier {post : Int32 → Prop} {y : Int32} (hC : fi_C n O V A B y_ops y_vs y_as y_bs)
    (h1 : ∀ p, p < n → y = nI p → fi_RE n O B p → ∀ r, fi_is r (fi_bd n O B p) → post r)
    (h0 : ¬ (∃ p, p < n ∧ y = nI p ∧ fi_RE n O B p) → post (-1)) : wpY_frontier post (nI n, y_ops, y_vs, y_as, y_bs) y := by
  have hn := hC.1
  unfold wpY_frontier
  refine fy_canReach hC (fun p hp e rp => br_f (by decide) ?_) (fun c => br_t rfl (h0 (fun ⟨p, p1, p2, p3⟩ => c p p1 p2 p3)))
  subst e
  refine fi_lp (n := n) (fun i q => ∃ r, r < i ∧ fi_RE n O B r ∧ fi_D n O B p r ∧ fi_E n O B r q) ?_ ?_ ?_
  · exact fi_is_c fi_is_0 (fun i _ => ⟨fun z => z.elim, fun ⟨r, hr, _⟩ => by omega⟩)
  · intro m s hs
    refine pk_le n n (fun _ => ?_) (fun k => by omega)
    refine fi_lp (n := n) (fun i q => (∃ r, r < n ∧ fi_RE n O B r ∧ fi_D n O B p r ∧ fi_E n O B r q) ∧ ¬ (q < i ∧ q ≠ p ∧ fi_D n O B p q)) ?_ ?_ ?_
    · exact fi_is_c hs (fun q _ => ⟨fun z => ⟨z, fun y => by omega⟩, fun z => z.1⟩)
    · intro m2 t ht
      refine pk_le n n (fun _ => fy_reachable hC (fun r2 hr2 => h1 p hp rfl rp _ (fi_is_c (fi_is_and ht hr2) (fun q _ => ⟨?_, ?_⟩)))) (fun k => by omega)
      · rintro ⟨⟨⟨r, r1, r2, r3, r4⟩, z1⟩, z2, z3⟩
        refine ⟨r, r1, r2, r3, r4, by omega, ?_⟩
        by_cases c : q = p
        · exact Or.inl c
        · exact Or.inr (fun k => z1 ⟨z2, c, k⟩)
      · intro hb
        have hq := fi_bd_lt hb
        obtain ⟨r, r1, r2, r3, r4, r5, r6⟩ := hb
        refine ⟨⟨⟨r, r1, r2, r3, r4⟩, fun z => ?_⟩, hq, fi_RE_s r2 r4⟩
        rcases r6 with w | w
        · exact z.2.1 w
        · exact w z.2.2
    · intro m2 i t hi ht K
      have skip : ¬ (i ≠ p ∧ fi_D n O B p i) → wY_frontier_55 post (nI p) (nI n) y_ops y_vs y_as y_bs m2 t (nI (i + 1)) := fun hno => K t (fi_is_c ht (fun q _ => ⟨fun z => ⟨z.1, fun y => z.2 ⟨by
        by_cases c : q = i
        · subst c; exact absurd y.2 hno
        · omega, y.2⟩⟩, fun z => ⟨z.1, fun y => z.2 ⟨by omega, y.2⟩⟩⟩))
      refine pk_le n i (fun k => by omega) (fun _ => pk_eq i p (fun c => nm_r (nI_1 i) (skip (fun z => z.1 c))) (fun c => fy_isBefore hC hp hi (fun k => br_f (by decide) (nm_e (nm_r (nI_1 i) (K _ (fi_is_c (fi_is_and ht (fi_is_not (fi_is_1 (by omega)))) (fun q _ => ⟨?_, ?_⟩)))))) (fun k => br_t rfl (nm_r (nI_1 i) (skip (fun z => k z.2))))))
      · rintro ⟨⟨z1, z2⟩, z3⟩
        exact ⟨z1, fun y => z2 ⟨by omega, y.2⟩⟩
      · rintro ⟨z1, z2⟩
        exact ⟨⟨z1, fun y => z2 ⟨by omega, y.2⟩⟩, fun e => z2 ⟨by omega, by omega, by rw [e]; exact k⟩⟩
  · intro m i s hi hs K
    have skip : ¬ (fi_RE n O B i ∧ fi_D n O B p i) → wY_frontier_14 post (nI p) (nI n) y_ops y_vs y_as y_bs m s (nI (i + 1)) := fun hno => K s (fi_is_c hs (fun q _ => ⟨fun ⟨r, r1, r2⟩ => ⟨r, by omega, r2⟩, fun ⟨r, r1, r2, r3, r4⟩ => ⟨r, by
      by_cases c : r = i
      · subst c; exact absurd ⟨r2, r3⟩ hno
      · omega, r2, r3, r4⟩⟩))
    refine pk_le n i (fun k => by omega) (fun _ => fy_can hC hi (fun re => br_f (by decide) (fy_isBefore hC hp hi (fun dd => br_f (by decide) (fy_goingOn hC hi (fun r2 hr2 => nm_e (nm_r (nI_1 i) (K _ (fi_is_c (fi_is_or hs hr2) (fun q _ => ⟨?_, ?_⟩))))))) (fun dd => br_t rfl (nm_r (nI_1 i) (skip (fun z => dd z.2)))))) (fun re => br_t rfl (nm_r (nI_1 i) (skip (fun z => re z.1)))))
    · rintro (⟨r, r1, r2⟩ | z)
      · exact ⟨r, by omega, r2⟩
      · exact ⟨i, by omega, re, dd, z⟩
    · rintro ⟨r, r1, r2, r3, r4⟩
      by_cases c : r = i
      · subst c; exact Or.inr r4
      · exact Or.inl ⟨r, by omega, r2, r3, r4⟩
theorem fi_jn_eq {v : Nat} (z : Nat) : fi_lu n (fun S p q => ((fi_jf n O V v p ∧ fi_RE n O B p) ∨ S p) ∧ fi_bd n O B p q) (fun _ => False) z ↔ fi_jn n O V B v z := by
  constructor
  · intro h S h1 h2
    refine (h (fun z => S z ∧ fi_RE n O B z) (fun a ha => ha.elim) (fun p x hp u => ?_)).1
    have rx : fi_RE n O B x := by
      obtain ⟨r, r1, r2, r3, r4, r5⟩ := u.2
      exact fi_RE_s r2 r4
    rcases u.1 with w | w
    · exact ⟨h2 p x hp ⟨Or.inl w.1, w.2, u.2⟩, rx⟩
    · exact ⟨h2 p x hp ⟨Or.inr w.1, w.2, u.2⟩, rx⟩
  · intro h S h1 h2
    refine h S h1 (fun p x hp u => h2 p x hp ⟨?_, u.2.2⟩)
    exact u.1.imp (fun w => ⟨w, u.2.1⟩) id
theorem fy_joins {post : Int32 → Prop} {x : Int32} (hC : fi_C n O V A B y_ops y_vs y_as y_bs)
    (h1 : ∀ v, v < 6 → x = nI v → ∀ r, fi_is r (fi_jn n O V B v) → post r) (h0 : ¬ fi_var x → post (-1)) : wpY_joins post (nI n, y_ops, y_vs, y_as, y_bs) x := by
  have hn := hC.1
  unfold wpY_joins
  refine fy_var (fun ⟨v, hv, e⟩ => br_f (by decide) ?_) (fun c => br_t rfl (h0 c))
  subst e
  refine fy_writers (by omega) hC (fun r1 hr1 => fy_start hn (fun r2 hr2 => fy_reachable hC (fun r3 hr3 => nm_e ?_)))
  have hF : ∀ p, p < n → (bt ((r1 ||| r2) &&& r3) p = true ↔ (fi_jf n O V v p ∧ fi_RE n O B p)) := by
    intro p hp
    rw [b_and, b_or, Bool.and_eq_true, Bool.or_eq_true, hr1 p (by omega), hr2 p (by omega), hr3 p (by omega)]
    unfold fi_jf
    constructor
    · rintro ⟨z | z, y⟩
      · exact ⟨Or.inl z, y.2⟩
      · exact ⟨Or.inr z.2, y.2⟩
    · rintro ⟨z | z, y⟩
      · exact ⟨Or.inl z, hp, y⟩
      · exact ⟨Or.inr ⟨by omega, z⟩, hp, y⟩
  generalize (r1 ||| r2) &&& r3 = x2 at hF
  refine fi_pass (N := 20) (M := 21) (n := n) (G := fun y => y < 20 ∧ fi_RE n O B y) (I := fun _ => False) (U := fun S p q => ((fi_jf n O V v p ∧ fi_RE n O B p) ∨ S p) ∧ fi_bd n O B p q)
    (Wo := fun m s i => wY_joins_31 post x2 (nI n) y_ops y_vs y_as y_bs m s i)
    (Wi := fun m i k s q => wY_joins_41 post (wY_joins_31 post x2 (nI n) y_ops y_vs y_as y_bs m) x2 (nI i) (nI n) y_ops y_vs y_as y_bs k s q)
    (post := post) (by omega) (fun y hy => hy.1) ?_ ?_ (fun a ha => ha.elim) (Or.inl (by omega)) ?_ ?_ ?_ ?_ (fun s hs => h1 v hv rfl s (fi_is_c hs (fun z _ => fi_jn_eq z))) 0 fi_is_0
  · rintro P Q p x hPQ ⟨u1, u2⟩
    exact ⟨u1.imp id (hPQ p), u2⟩
  · rintro P p x hp hP ⟨u1, u2⟩
    have := fi_bd_lt u2
    obtain ⟨r, r1, r2, r3, r4, r5⟩ := u2
    exact ⟨by omega, fi_RE_s r2 r4⟩
  · intro m s hs
    exact pk_le 21 21 (fun _ => hs) (fun k => by omega)
  · intro m i s hi hk
    exact pk_le 21 i (fun k => by omega) (fun _ => hk)
  · intro m i k s hi hw
    exact pk_le n n (fun _ => nm_r (nI_1 i) hw) (fun k => by omega)
  · intro m i k s p hi hp lo K
    have hs2 : fi_is s (fun y => bt s y = true) := fun y hy => Iff.rfl
    have bb : bt (x2 ||| s) p = true ↔ ((fi_jf n O V v p ∧ fi_RE n O B p) ∨ bt s p = true) := by rw [b_or, Bool.or_eq_true, hF p hp]
    refine pk_le n p (fun k => by omega) (fun _ => br_c (fun c => ?_) (fun c => nm_r (nI_1 p) (K s (fi_is_c hs2 (fun q _ => ⟨Or.inl, fun w => w.elim id (fun y => absurd ((fi_t1 (by omega)).mpr (bb.mpr y.1)) c)⟩)))))
    have b1 := bb.mp ((fi_t1 (show p < 32 by omega)).mp c)
    have rp : fi_RE n O B p := b1.elim (fun z => z.2) (fun z => (lo p z).2)
    refine fy_frontier hC (fun q hq e _ r hr => ?_) (fun hno => absurd ⟨p, hp, rfl, rp⟩ hno)
    have : p = q := (nI_eq (by omega) (by omega)).mp e
    subst this
    exact nm_e (nm_r (nI_1 p) (K _ (fi_is_c (fi_is_or hs2 hr) (fun q _ => ⟨fun w => w.imp id (fun y => ⟨b1, y⟩), fun w => w.imp id (fun y => y.2)⟩))))
/-- the loop of h, as the reference has it -/
def fi_ly (n : Nat) (O B : Nat → Nat) (h q : Nat) : Prop := (∃ r, fi_bk n O B h r) ∧ (q = h ∨ (q < n ∧ fi_RE n O B q ∧ ∃ z, fi_fw n O B (fun a => a = q) (fun _ => False) (fun a => a = h) z ∧ fi_bk n O B h z))
theorem fy_loop {post : Int32 → Prop} {y : Int32} (hC : fi_C n O V A B y_ops y_vs y_as y_bs)
    (h1 : ∀ p, p < n → y = nI p → fi_RE n O B p → ∀ r, fi_is r (fi_ly n O B p) → post r)
    (h0 : ¬ (∃ p, p < n ∧ y = nI p ∧ fi_RE n O B p) → post (-1)) : wpY_loop post (nI n, y_ops, y_vs, y_as, y_bs) y := by
  have hn := hC.1
  unfold wpY_loop
  refine fy_canReach hC (fun p hp e rp => br_f (by decide) ?_) (fun c => br_t rfl (h0 (fun ⟨p, p1, p2, p3⟩ => c p p1 p2 p3)))
  subst e
  refine fi_lp (n := n) (fun i r => r < i ∧ fi_bk n O B p r) fi_ac_0 ?_ ?_
  · intro m s hs0
    have hs : fi_is s (fi_bk n O B p) := fi_is_c hs0 (fun q _ => ⟨fun z => z.2, fun z => ⟨z.1, z⟩⟩)
    have ez := fi_is_z hs
    refine pk_le n n (fun _ => br_c (fun c => ?_) (fun c => nm_e ?_)) (fun k => by omega)
    · have none : ¬ ∃ r, fi_bk n O B p r := fun ⟨r, hr⟩ => ez.mp c r (by have := hr.1; omega) hr
      have fin : post 0 := h1 p hp rfl rp 0 (fi_is_c fi_is_0 (fun q _ => ⟨fun z => z.elim, fun z => none z.1⟩))
      exact ⟨1, br_c (fun _ => fin) (fun _ => br_t c fin)⟩
    · have some : ∃ r, fi_bk n O B p r := Classical.byContradiction (fun k => c (ez.mpr (fun i _ z => k ⟨i, z⟩)))
      refine fi_lp (n := n) (fun i q => q = p ∨ (q < i ∧ q < n ∧ fi_RE n O B q ∧ ∃ z, fi_fw n O B (fun a => a = q) (fun _ => False) (fun a => a = p) z ∧ fi_bk n O B p z)) ?_ ?_ ?_
      · exact fi_is_c (fi_is_1 (by omega)) (fun q _ => ⟨Or.inl, fun z => z.elim id (fun w => by omega)⟩)
      · intro m2 t ht
        exact pk_le n n (fun _ => h1 p hp rfl rp t (fi_is_c ht (fun q _ => ⟨fun z => ⟨some, z.imp id (fun w => w.2)⟩, fun z => z.2.imp id (fun w => ⟨w.1, w⟩)⟩))) (fun k => by omega)
      · intro m2 i t hi ht K
        have no : ¬ (i < n ∧ fi_RE n O B i ∧ ∃ z, fi_fw n O B (fun a => a = i) (fun _ => False) (fun a => a = p) z ∧ fi_bk n O B p z) → wY_loop_138 post (wY_loop_95 post (nI p) s (nI n) y_ops y_vs y_as y_bs m2) (nI p) s t (nI i) (nI n) y_ops y_vs y_as y_bs := by
          intro hno
          refine br_t rfl (nm_r (nI_1 i) (K t (fi_is_c ht (fun q _ => ⟨fun z => z.imp id (fun w => ⟨by omega, w.2⟩), fun z => z.imp id (fun w => ⟨?_, w.2⟩)⟩))))
          by_cases e : q = i
          · subst e; exact absurd w.2 hno
          · omega
        refine pk_le n i (fun k => by omega) (fun _ => br_f c (fy_can hC hi (fun re => br_f (by decide) (fy_flow hC (fi_is_1 (by omega)) fi_is_0 (fi_is_1 (by omega)) (fun a ha => by omega) (fun r2 hr2 => ?_))) (fun re => br_t rfl (no (fun z => re z.2.1)))))
        have e2 := fi_is_z (fi_is_and hr2 hs)
        refine br_c (fun c2 => no (fun ⟨_, _, z, z1, z2⟩ => e2.mp c2 z (by have := z2.1; omega) ⟨z1, z2⟩)) (fun c2 => br_f (by decide) (nm_e (nm_r (nI_1 i) (K _ (fi_is_c (fi_is_or ht (fi_is_1 (by omega))) (fun q _ => ⟨?_, ?_⟩))))))
        · rintro ((z | z) | z)
          · exact Or.inl z
          · exact Or.inr ⟨by omega, z.2⟩
          · subst z
            refine Or.inr ⟨by omega, hi, re, ?_⟩
            exact Classical.byContradiction (fun k => c2 (e2.mpr (fun y _ w => k ⟨y, w⟩)))
        · rintro (z | z)
          · exact Or.inl (Or.inl z)
          · by_cases e : q = i
            · exact Or.inr e
            · exact Or.inl (Or.inr ⟨by omega, z.2⟩)
  · intro m i s hi hs K
    have no : ¬ fi_bk n O B p i → wY_loop_56 post (wY_loop_14 post (nI p) (nI n) y_ops y_vs y_as y_bs m) (nI p) s (nI i) (nI n) y_ops y_vs y_as y_bs := fun hno => br_t rfl (nm_r (nI_1 i) (K s (fi_ac_s s hs hno)))
    refine pk_le n i (fun k => by omega) (fun _ => fy_can hC hi (fun re => br_f (by decide) (fy_goingOn hC hi (fun r2 hr2 => br_c (fun c => ?_) (fun c => no (fun z => c ((fi_is_t1 hr2 (by omega)).mpr z.2.2.1)))))) (fun re => br_t rfl (no (fun z => re z.2.1))))
    exact fy_isBefore hC hp hi (fun dd => br_f (by decide) (br_f (by decide) (nm_e (nm_r (nI_1 i) (K _ (fi_ac_t s hs (by omega) ⟨hi, re, (fi_is_t1 hr2 (by omega)).mp c, dd⟩)))))) (fun dd => br_t rfl (no (fun z => dd z.2.2.2)))
theorem fy_unset {post : Int32 → Prop} {y : Int32} (hC : fi_C n O V A B y_ops y_vs y_as y_bs)
    (h1 : ∀ p, p < n → y = nI p → fi_RE n O B p → ∀ r, fi_is r (fun v => v < 6 ∧ fi_fw n O B (fun q => 0 < n ∧ q = 0) (fi_wr n O V v) (fun _ => False) p) → post r)
    (h0 : ¬ (∃ p, p < n ∧ y = nI p ∧ fi_RE n O B p) → post (-1)) : wpY_unset post (nI n, y_ops, y_vs, y_as, y_bs) y := by
  have hn := hC.1
  unfold wpY_unset
  refine fy_canReach hC (fun p hp e rp => br_f (by decide) ?_) (fun c => br_t rfl (h0 (fun ⟨p, p1, p2, p3⟩ => c p p1 p2 p3)))
  subst e
  refine fi_lp (n := 6) (fun i v => v < i ∧ fi_fw n O B (fun q => 0 < n ∧ q = 0) (fi_wr n O V v) (fun _ => False) p) fi_ac_0 ?_ ?_
  · intro m r hr
    exact pk_le 6 6 (fun _ => h1 p hp rfl rp r hr) (fun k => by omega)
  · intro m i r hi hr K
    refine pk_le 6 i (fun k => by omega) (fun _ => fy_start hn (fun r1 hr1 => fy_writers (by omega) hC (fun r2 hr2 => fy_flow hC hr1 hr2 fi_is_0 (fun a ha => by omega) (fun r3 hr3 => ?_))))
    exact br_c (fun c => nm_e (nm_r (nI_1 i) (K _ (fi_ac_t r hr (by omega) ((fi_is_t1 hr3 (by omega)).mp c))))) (fun c => nm_r (nI_1 i) (K _ (fi_ac_s r hr (fun k => c ((fi_is_t1 hr3 (by omega)).mpr k)))))
/-- dead, as the reference has it -/
def fi_dy (n : Nat) (O V A B : Nat → Nat) (d : Nat) : Prop := d < n ∧ O d ≤ 3 ∧ (¬ ∃ p, p < n ∧ fi_E n O B d p ∧ fi_lv n O V A B p (V d)) ∧ fi_RE n O B d
theorem fy_dead {post : Int32 → Prop} (hC : fi_C n O V A B y_ops y_vs y_as y_bs) (h : ∀ r, fi_is r (fi_dy n O V A B) → post r) : wpY_dead post (nI n, y_ops, y_vs, y_as, y_bs) := by
  have hn := hC.1
  unfold wpY_dead
  refine fi_lp (n := n) (fun i d => d < i ∧ fi_dy n O V A B d) fi_ac_0 ?_ ?_
  · intro m r hr
    exact pk_le n n (fun _ => h r (fi_is_c hr (fun q _ => ⟨fun z => z.2, fun z => ⟨z.1, z⟩⟩))) (fun k => by omega)
  · intro m d r hd hr K
    have cd := hC.2 d hd
    have k88 : ∀ x : Int32, (x = 0 ↔ (O d ≤ 3 ∧ ¬ ∃ p, p < n ∧ fi_E n O B d p ∧ fi_lv n O V A B p (V d))) → wY_dead_88 post (wY_dead_4 post (nI n) y_ops y_vs y_as y_bs m) r (nI d) x (nI n) y_ops y_vs y_as y_bs := by
      intro x hx
      refine br_c (fun c => fy_can hC hd (fun re => br_f (by decide) (nm_e (nm_r (nI_1 d) (K _ (fi_ac_t r hr (by omega) ⟨hd, (hx.mp c).1, (hx.mp c).2, re⟩))))) (fun re => br_t rfl (nm_r (nI_1 d) (K _ (fi_ac_s r hr (fun z => re z.2.2.2)))))) (fun c => nm_r (nI_1 d) (K _ (fi_ac_s r hr (fun z => c (hx.mpr ⟨z.2.1, z.2.2.1⟩)))))
    have k34 : O d ≤ 3 → ∀ d2 i x, i + d2 = n → ((x = 0 ∧ ¬ ∃ p, p < i ∧ fi_E n O B d p ∧ fi_lv n O V A B p (V d)) ∨ (x = 1 ∧ ∃ p, p < n ∧ fi_E n O B d p ∧ fi_lv n O V A B p (V d))) →
        wY_dead_34 post (wY_dead_4 post (nI n) y_ops y_vs y_as y_bs m) r (nI d) (nI n) y_ops y_vs y_as y_bs (d2 + 1) x (nI i) := by
      intro w d2
      have vd := cd.2.2.1 w
      induction d2 with
      | zero =>
        intro i x hi H
        have : i = n := by omega
        subst this
        refine pk_le i i (fun _ => k88 x ?_) (fun k => by omega)
        rcases H with ⟨rfl, H⟩ | ⟨rfl, H⟩
        · exact ⟨fun _ => ⟨w, H⟩, fun _ => rfl⟩
        · exact ⟨fun z => absurd z (by decide), fun z => absurd H z.2⟩
      | succ d2 ih =>
        intro i x hi H
        refine pk_le n i (fun k => by omega) (fun _ => ?_)
        rcases H with ⟨rfl, H⟩ | ⟨rfl, H⟩
        · have nxt : ¬ (fi_E n O B d i ∧ fi_lv n O V A B i (V d)) → wY_dead_34 post (wY_dead_4 post (nI n) y_ops y_vs y_as y_bs m) r (nI d) (nI n) y_ops y_vs y_as y_bs (d2 + 1) 0 (nI (i + 1)) := fun hno => ih (i + 1) 0 (by omega) (Or.inl ⟨rfl, fun ⟨p, p1, p2, p3⟩ => by
            by_cases c : p = i
            · subst c; exact hno ⟨p2, p3⟩
            · exact H ⟨p, by omega, p2, p3⟩⟩)
          refine br_t rfl (fy_goingOn hC hd (fun r2 hr2 => br_c (fun c => ⟨vp_in_nI (by omega) (by omega), ?_⟩) (fun c => nm_r (nI_1 i) (nxt (fun z => c ((fi_is_t1 hr2 (by omega)).mpr z.1))))))
          rw [nI_clamp (by omega), vd.1]
          have ee := (fi_is_t1 hr2 (show i < 32 by omega)).mp c
          exact fy_isLive (by omega) (by omega) hC (fun k => br_f (by decide) (nm_r (nI_1 i) (ih (i + 1) 1 (by omega) (Or.inr ⟨rfl, i, by omega, ee, k⟩)))) (fun k => br_t rfl (nm_r (nI_1 i) (nxt (fun z => k z.2))))
        · exact br_f (by decide) (k88 1 ⟨fun z => absurd z (by decide), fun z => absurd H z.2⟩)
    refine pk_le n d (fun k => by omega) (fun _ => ⟨vp_in_nI (by omega) (by omega), ?_⟩)
    rw [nI_clamp (by omega), cd.1]
    refine fy_writes cd.2.1 (fun w => br_f (by decide) ⟨_, k34 w n 0 0 (by omega) (Or.inl ⟨rfl, fun ⟨p, p1, _⟩ => by omega⟩)⟩) (fun w => br_t rfl ⟨1, ?_⟩)
    have e1 : (1 : Int32) = 0 ↔ (O d ≤ 3 ∧ ¬ ∃ p, p < n ∧ fi_E n O B d p ∧ fi_lv n O V A B p (V d)) := ⟨fun z => absurd z (by decide), fun z => absurd z.1 w⟩
    exact br_c (fun _ => k88 1 e1) (fun _ => br_f (by decide) (k88 1 e1))
end
end
section
section
variable {ah : Bool} {act : Nat → Prop} {E : Nat → Nat → Prop} {AD TK ST : Nat → Prop}
theorem fi_LF_st {y : Nat} (h : ST y) : fi_LF ah act E AD TK ST y := fun S h1 _ _ => h1 y h
theorem fi_LF_ad {p q : Nat} (a : act p) (e : E p q) (h : AD p) : fi_LF ah act E AD TK ST (fi_dst ah p q) := fun S _ h2 _ => h2 p q a e h
theorem fi_LF_tk {p q : Nat} (a : act p) (e : E p q) (h : fi_LF ah act E AD TK ST (fi_src ah p q)) (t : ¬ TK p) : fi_LF ah act E AD TK ST (fi_dst ah p q) := fun S h1 h2 h3 => h3 p q a e (h S h1 h2 h3) t
/-- against the steps: a way on to where it starts or is added -/
theorem fi_LF_back (ha : ∀ p, act p) (x : Nat) : fi_LF true act E AD TK ST x ↔ ∃ z, fi_rc (fun a b => E a b ∧ ¬ TK a) (fun a => a = x) z ∧ (ST z ∨ (AD z ∧ ∃ q, E z q)) := by
  constructor
  · intro h
    refine h (fun x => ∃ z, fi_rc (fun a b => E a b ∧ ¬ TK a) (fun a => a = x) z ∧ (ST z ∨ (AD z ∧ ∃ q, E z q))) (fun y hy => ⟨y, fi_rc_b rfl, Or.inl hy⟩) (fun p q _ e hp => ⟨p, fi_rc_b rfl, Or.inr ⟨hp, q, e⟩⟩) ?_
    rintro p q - e ⟨z, z1, z2⟩ t
    refine ⟨z, fi_rc_t (fun a ha => ?_) z1, z2⟩
    have : a = q := ha
    subst this
    exact fi_rc_s (fi_rc_b rfl) ⟨e, t⟩
  · rintro ⟨z, z1, z2⟩
    have k : fi_LF true act E AD TK ST z → fi_LF true act E AD TK ST x := by
      refine z1 (fun a => fi_LF true act E AD TK ST a → fi_LF true act E AD TK ST x) (fun a e h => ?_) (fun a b ih e h => ?_)
      · have : a = x := e
        rw [← this]; exact h
      · exact ih (fi_LF_tk (ah := true) (ha a) e.1 h e.2)
    refine k ?_
    rcases z2 with w | ⟨w, q, e⟩
    · exact fi_LF_st w
    · exact fi_LF_ad (ah := true) (ha z) e w
end
section
variable {n : Nat} {O V A B : Nat → Nat}
theorem fi_RE_n {q : Nat} (h : fi_RE n O B q) : q < n ∨ q = 20 := h (fun q => q < n ∨ q = 20) (fun a ha => by rw [ha]; exact fi_nd_n) (fun a b _ e => fi_E_n e)
theorem fi_eq0 {p e : Nat} : fi_FX n O V A B 0 p e ↔ (e < n ∧ fi_RE n O B e ∧ O e ≤ 3 ∧ fi_fw n O B (fi_E n O B e) (fi_wr n O V (V e)) (fun _ => False) p) := by
  constructor
  · intro h
    refine h (fun x => e < n ∧ fi_RE n O B e ∧ O e ≤ 3 ∧ fi_fw n O B (fi_E n O B e) (fi_wr n O V (V e)) (fun _ => False) x) (fun y hy => ?_) (fun a q ac E ad => ?_) (fun a q ac E hs tk => ?_)
    · rcases hy with w | w | w <;> exact absurd w.1 (by decide)
    · have w := fi_AD0.mp ad
      have re : fi_RE n O B a := ac.elim (fun z => absurd z (by decide)) id
      rw [w.2]
      exact ⟨E.1, re, w.1, fi_rc_b ⟨E, fun z => z⟩⟩
    · obtain ⟨h1, h2, h3, h4⟩ := hs
      exact ⟨h1, h2, h3, fi_rc_s h4 ⟨E, fun w => tk (fi_TK0.mpr ⟨w.2.1, h1, h3, w.2.2.symm⟩), fun z => z⟩⟩
  · rintro ⟨h1, h2, h3, h4⟩
    refine (h4 (fun x => fi_FX n O V A B 0 x e ∧ fi_RE n O B x) (fun a ha => ⟨?_, fi_RE_s h2 ha.1⟩) (fun a b ha hb => ⟨?_, fi_RE_s ha.2 hb.1⟩)).1
    · exact fi_LF_ad (ah := false) (Or.inr h2) ha.1 (fi_AD0.mpr ⟨h3, rfl⟩)
    · refine fi_LF_tk (ah := false) (Or.inr ha.2) hb.1 ha.1 (fun w => hb.2.1 ?_)
      have w := fi_TK0.mp w
      exact ⟨hb.1.1, w.1, w.2.2.2.symm⟩
theorem fi_eq1 {x v : Nat} : fi_FX n O V A B 1 x v ↔ (x < n ∧ fi_lv n O V A B x v) := by
  have e : fi_FX n O V A B 1 x v ↔ _ := fi_LF_back (act := fi_act n O B (fi_ah 1)) (fun p => Or.inl rfl) x
  rw [e]
  have T : ∀ a b, fi_E n O B a b → (¬ fi_TK n O V A B 1 a v ↔ ¬ fi_wr n O V v a) := fun a b E => not_congr ⟨fun w => ⟨E.1, (fi_TK1.mp w).1, (fi_TK1.mp w).2.symm⟩, fun w => fi_TK1.mpr ⟨w.2.1, w.2.2.symm⟩⟩
  constructor
  · rintro ⟨z, z1, z2⟩
    have z3 : fi_AD n O V A B 1 z v ∧ ∃ q, fi_E n O B z q := by
      rcases z2 with w | w
      · rcases w with w | w | w <;> exact absurd w.1 (by decide)
      · exact w
    obtain ⟨w, q, E⟩ := z3
    refine ⟨?_, z, fi_rc_m (fun a ha => ⟨ha, fun k => k⟩) (fun a b e => ⟨e.1, (T a b e.1).mp e.2, fun k => k⟩) z1, E.1, ?_⟩
    · have := z1 (fun y => y < n → x < n) (fun a ha hy => by
        have : a = x := ha
        omega) (fun a b ha e _ => ha e.1.1)
      exact this E.1
    · exact (fi_AD1.mp w).imp (fun k => ⟨k.1, k.2.symm⟩) (fun k => ⟨k.1, k.2.symm⟩)
  · rintro ⟨hx, z, z1, z2, z3⟩
    refine ⟨z, fi_rc_m (fun a ha => ha.1) (fun a b e => ⟨e.1, (T a b e.1).mpr e.2.1⟩) z1, Or.inr ⟨fi_AD1.mpr (z3.imp (fun k => ⟨k.1, k.2.symm⟩) (fun k => ⟨k.1, k.2.symm⟩)), fi_E_ex z2⟩⟩
theorem fi_lv_6 {xo xv xa xb : Nat → Int32} (hC : fi_C n O V A B xo xv xa xb) {p v : Nat} (h : fi_lv n O V A B p v) : v < 6 := by
  obtain ⟨z, _, z2, z3⟩ := h
  have cz := hC.2 z z2
  rcases z3 with w | w
  · have := (cz.2.2.2.1 w.1).2; omega
  · have := (cz.2.2.2.2.1 w.1).2; omega
theorem fi_eq3 {p e : Nat} (he : fi_nm n O A B e) (hp : p < n) : fi_FX n O V A B 3 p e ↔ fi_ms n O V A B p e := by
  have ee : fi_FX n O V A B 3 p e ↔ _ := fi_LF_back (act := fi_act n O B (fi_ah 3)) (fun p => Or.inl rfl) p
  rw [ee]
  have T : ∀ a b, fi_E n O B a b → (¬ fi_TK n O V A B 3 a e ↔ ¬ (a < n ∧ fi_sm O A B a e)) := fun a b E => not_congr ⟨fun w => ⟨E.1, (fi_TK3.mp w).2⟩, fun w => fi_TK3.mpr ⟨he, w.2⟩⟩
  constructor
  · rintro ⟨z, z1, z2⟩
    refine ⟨z, fi_rc_m (fun a ha => ⟨ha, fun k => k⟩) (fun a b e => ⟨e.1, (T a b e.1).mp e.2, fun k => k⟩) z1, ?_⟩
    rcases z2 with w | ⟨w, q, E⟩
    · rcases w with w | w | w
      · exact absurd w.1 (by decide)
      · exact Or.inl w.2.1
      · exact absurd w.1 (by decide)
    · have w := fi_AD3.mp w
      exact Or.inr ⟨E.1, w.2.2, w.2.1⟩
  · rintro ⟨z, z1, z2⟩
    refine ⟨z, fi_rc_m (fun a ha => ha.1) (fun a b e => ⟨e.1, (T a b e.1).mpr e.2.1⟩) z1, ?_⟩
    rcases z2 with w | ⟨w1, w2, w3⟩
    · exact Or.inl (Or.inr (Or.inl ⟨rfl, w, he⟩))
    · exact Or.inr ⟨fi_AD3.mpr ⟨he, w3, w2⟩, fi_E_ex w1⟩
theorem fi_eq2 {p e : Nat} (he : fi_nm n O A B e) : fi_FX n O V A B 2 p e ↔ fi_NH n O V A B e false p := by
  have h0 : 0 < n := by have := he.1; omega
  have e0 : fi_nd n 0 = 0 := if_pos h0
  constructor
  · intro h
    have both : ∀ a, fi_RE n O B a → fi_NH n O V A B e false a ∨ fi_NH n O V A B e true a := by
      intro a ha
      refine ha (fun a => fi_NH n O V A B e false a ∨ fi_NH n O V A B e true a) (fun a ha => ?_) (fun a b ha hE => ?_)
      · rw [ha, e0]; exact Or.inl (fi_NH_0 h0)
      · rcases ha with w | w
        · by_cases c : fi_gn O V A B e a
          · exact Or.inr (fi_NH_t hE (Or.inl ⟨w, c⟩))
          · exact Or.inl (fi_NH_f hE (Or.inl ⟨w, c⟩))
        · by_cases c : fi_sp O V A B a e
          · exact Or.inl (fi_NH_f hE (Or.inr ⟨w, c⟩))
          · exact Or.inr (fi_NH_t hE (Or.inr ⟨w, c⟩))
    refine h (fun x => fi_NH n O V A B e false x) (fun y hy => ?_) (fun a q ac E ad => ?_) (fun a q ac E hs tk => ?_)
    · rcases hy with w | w | w
      · rw [w.2.1, e0]; exact fi_NH_0 h0
      · exact absurd w.1 (by decide)
      · exact absurd w.1 (by decide)
    · have w := fi_AD2.mp ad
      have re : fi_RE n O B a := ac.elim (fun z => absurd z (by decide)) id
      rcases both a re with k | k
      · exact fi_NH_f E (Or.inl ⟨k, fun z => z.2 w.2⟩)
      · exact fi_NH_f E (Or.inr ⟨k, w.2⟩)
    · exact fi_NH_f E (Or.inl ⟨hs, fun z => tk (fi_TK2.mpr ⟨he, z.1⟩)⟩)
  · intro h
    have := h (fun c x => fi_RE n O B x ∧ (c = false → fi_FX n O V A B 2 x e)) (fun _ => ⟨fi_rc_b (by rw [e0]), fun _ => fi_LF_st (Or.inl ⟨rfl, e0.symm, he⟩)⟩) (fun a q E w => ?_) (fun a q E w => ⟨?_, fun z => absurd z (by decide)⟩)
    · exact this.2 rfl
    · have re : fi_RE n O B a := w.elim (fun z => z.1.1) (fun z => z.1.1)
      refine ⟨fi_RE_s re E, fun _ => ?_⟩
      by_cases c : fi_sp O V A B a e
      · exact fi_LF_ad (ah := false) (Or.inr re) E (fi_AD2.mpr ⟨he, c⟩)
      · rcases w with w | w
        · exact fi_LF_tk (ah := false) (Or.inr re) E (w.1.2 rfl) (fun z => w.2 ⟨(fi_TK2.mp z).2, c⟩)
        · exact absurd w.2 c
    · exact fi_RE_s (w.elim (fun z => z.1.1) (fun z => z.1.1)) E
theorem fi_eq4 {p v : Nat} (hn : 0 < n) : fi_FX n O V A B 4 p v ↔ (v < 6 ∧ fi_fw n O B (fun q => 0 < n ∧ q = 0) (fi_wr n O V v) (fun _ => False) p) := by
  have e0 : fi_nd n 0 = 0 := if_pos hn
  constructor
  · intro h
    refine h (fun x => v < 6 ∧ fi_fw n O B (fun q => 0 < n ∧ q = 0) (fi_wr n O V v) (fun _ => False) x) (fun y hy => ?_) (fun a q ac E ad => absurd ad fi_AD4) (fun a q ac E hs tk => ⟨hs.1, fi_rc_s hs.2 ⟨E, fun w => tk (fi_TK4.mpr ⟨w.2.1, w.2.2.symm⟩), fun z => z⟩⟩)
    rcases hy with w | w | w
    · exact absurd w.1 (by decide)
    · exact absurd w.1 (by decide)
    · exact ⟨w.2.2, fi_rc_b ⟨⟨hn, by rw [w.2.1, e0]⟩, fun z => z⟩⟩
  · rintro ⟨h1, h2⟩
    refine (h2 (fun x => fi_FX n O V A B 4 x v ∧ fi_RE n O B x) (fun a ha => ⟨fi_LF_st (Or.inr (Or.inr ⟨rfl, by rw [ha.1.2, e0], h1⟩)), fi_rc_b (by rw [ha.1.2, e0])⟩) (fun a b ha hb => ⟨?_, fi_RE_s ha.2 hb.1⟩)).1
    exact fi_LF_tk (ah := false) (Or.inr ha.2) hb.1 ha.1 (fun w => hb.2.1 ⟨hb.1.1, (fi_TK4.mp w).1, (fi_TK4.mp w).2.symm⟩)
theorem fi_D_n {q p : Nat} (hp : fi_RE n O B p) (hq : q < 20) (h : fi_D n O B q p) : q < n := by
  have rq : fi_RE n O B q := Classical.byContradiction (fun k => by
    refine h ?_
    have nq : ∀ x, fi_RE n O B x → x ≠ q := fun x hx e => k (by rw [← e]; exact hx)
    exact fi_rc_j (fun x => fi_rc (fun a b => fi_E n O B a b ∧ b ≠ q) (fun a => a = fi_nd n 0 ∧ a ≠ q) x) (fun a ha => fi_rc_b ⟨ha, nq a (fi_rc_b ha)⟩) (fun a b ha hb e => fi_rc_s hb ⟨e, nq b (fi_rc_s ha e)⟩) hp)
  rcases fi_RE_n rq with c | c
  · exact c
  · omega
theorem fi_af1 {p : Nat} : fi_fw n O B (fun a => a = p) (fun _ => False) (fun _ => False) 20 ↔ fi_rc (fun a b => fi_E n O B b a) (fun a => a = 20) p := by
  constructor
  · intro h
    have h2 : fi_rc (fi_E n O B) (fun a => a = p) 20 := fi_rc_m (fun a ha => ha.1) (fun a b e => e.1) h
    exact fi_rc_rev h2
  · intro h
    have h2 : fi_rc (fi_E n O B) (fun a => a = p) 20 := fi_rc_rev (E := fun a b => fi_E n O B b a) h
    exact fi_rc_m (fun a ha => ⟨ha, fun z => z⟩) (fun a b e => ⟨e, fun z => z, fun z => z⟩) h2
theorem fi_af2 {p q : Nat} (hq : q ≠ 20) : fi_fw n O B (fun a => a = p) (fun _ => False) (fun a => a = q) 20 ↔ fi_rc (fun a b => fi_E n O B b a ∧ b ≠ q) (fun a => a = 20 ∧ a ≠ q) p := by
  constructor
  · intro h
    have h2 : fi_rc (fun a b => fi_E n O B a b ∧ a ≠ q ∧ b ≠ q) (fun a => a = p) 20 ∧ p ≠ q := by
      have k := fi_rc_j (fun x => fi_rc (fun a b => fi_E n O B a b ∧ a ≠ q ∧ b ≠ q) (fun a => a = p) x ∧ x ≠ q ∧ p ≠ q) (fun a ha => ?_) (fun a b _ ha e => ?_) h
      · exact ⟨k.1, k.2.2⟩
      · have e1 : a = p := ha.1
        have e2 : ¬ a = q := ha.2
        exact ⟨fi_rc_b e1, e2, by rw [← e1]; exact e2⟩
      · exact ⟨fi_rc_s ha.1 ⟨e.1, ha.2.1, e.2.2⟩, e.2.2, ha.2.2⟩
    exact fi_rc_m (fun a ha => ⟨ha, by rw [ha]; exact fun z => hq z.symm⟩) (fun a b e => ⟨e.1, e.2.1⟩) (fi_rc_rev h2.1)
  · intro h
    have h2 : fi_rc (fun a b => fi_E n O B b a ∧ a ≠ q ∧ b ≠ q) (fun a => a = 20) p ∧ p ≠ q := by
      refine fi_rc_j (fun x => fi_rc (fun a b => fi_E n O B b a ∧ a ≠ q ∧ b ≠ q) (fun a => a = 20) x ∧ x ≠ q) (fun a ha => ⟨fi_rc_b ha.1, ha.2⟩) (fun a b _ ha e => ⟨fi_rc_s ha.1 ⟨e.1, ha.2, e.2⟩, e.2⟩) h
    have h3 := fi_rc_rev (E := fun a b => fi_E n O B b a ∧ a ≠ q ∧ b ≠ q) h2.1
    refine fi_rc_m (fun a ha => ⟨ha, ?_⟩) (fun a b e => ⟨e.1, fun z => z, ?_⟩) h3
    · intro z
      exact h2.2 (ha.symm.trans z)
    · exact e.2.1
theorem fi_af3 {p q : Nat} (hp : p < n) (h : fi_rc (fun a b => fi_E n O B b a) (fun a => a = 20) p) (hq : q < 20) (hd : fi_Dm (fun a b => fi_E n O B b a) 20 q p) : q < n := by
  refine Classical.byContradiction (fun k => hd ?_)
  refine (fi_rc_j (fun x => fi_rc (fun a b => fi_E n O B b a ∧ b ≠ q) (fun a => a = 20 ∧ a ≠ q) x) (fun a ha => fi_rc_b ⟨ha, ?_⟩) (fun a b _ ha e => fi_rc_s ha ⟨e, ?_⟩) h)
  · rw [ha]; omega
  · have := e.1; omega
theorem fi_ll_lt {h x : Nat} (hh : h < n) (k : fi_ll n O B h x) : x < n := by
  refine k (fun x => x < n) (fun a ⟨r, r1, r2⟩ => ?_) (fun p x hp u => by rw [u.1]; exact hp)
  rcases r2 with w | w
  · rw [w]; exact r1.1
  · rw [w]; exact hh
theorem fi_ll_eq {h q : Nat} (hn : n ≤ 20) (hh : h < n) : fi_ll n O B h q ↔ fi_ly n O B h q := by
  constructor
  · intro k
    refine k (fun q => fi_ly n O B h q) (fun a ⟨r, r1, r2⟩ => ⟨⟨r, r1⟩, ?_⟩) (fun p x hp u => ?_)
    · rcases r2 with w | w
      · by_cases c : a = h
        · exact Or.inl c
        · subst w
          exact Or.inr ⟨r1.1, r1.2.1, a, fi_rc_b ⟨rfl, c⟩, r1⟩
      · exact Or.inl w
    · obtain ⟨u1, u2, z, z1, z2, z3, z4⟩ := u
      subst u1
      refine ⟨z4.1, ?_⟩
      by_cases c : x = h
      · exact Or.inl c
      · rcases z4.2 with w | ⟨w1, w2, y, y1, y2⟩
        · exact absurd w z3
        · refine Or.inr ⟨hp, u2, y, fi_rc_t (fun a ha => ?_) y1, y2⟩
          have e : a = z := ha.1
          rw [e]
          exact fi_rc_s (fi_rc_b ⟨rfl, c⟩) ⟨z1, fun k => k, z3⟩
  · rintro ⟨⟨r, hr⟩, k⟩
    rcases k with w | ⟨w1, w2, z, z1, z2⟩
    · intro S h1 _
      exact h1 q ⟨r, hr, Or.inr w⟩
    · have key := z1 (fun a => fi_RE n O B a ∧ (fi_ll n O B h a → fi_ll n O B h q)) (fun a ha => ?_) (fun a b ha e => ⟨fi_RE_s ha.1 e.1, fun hb => ha.2 ?_⟩)
      · refine key.2 (fun S h1 _ => h1 z ⟨z, z2, Or.inl rfl⟩)
      · have e : a = q := ha.1
        rw [e]; exact ⟨w2, fun k => k⟩
      · have lb := fi_ll_lt hh hb
        intro S h1 h2
        exact h2 a a e.1.1 ⟨rfl, ha.1, b, e.1, by omega, e.2.2, hb S h1 h2⟩
theorem fi_dd_eq {d : Nat} : fi_dd n O V A B d ↔ fi_dy n O V A B d := by
  have e : (∃ q, fi_E n O B d q ∧ fi_FX n O V A B 1 q (V d)) ↔ ∃ p, p < n ∧ fi_E n O B d p ∧ fi_lv n O V A B p (V d) := by
    constructor
    · rintro ⟨q, q1, q2⟩
      have w := fi_eq1.mp q2
      exact ⟨q, w.1, q1, w.2⟩
    · rintro ⟨q, q1, q2, q3⟩
      exact ⟨q, q2, fi_eq1.mpr ⟨q1, q3⟩⟩
  unfold fi_dd fi_dy
  rw [e]
  exact ⟨fun z => ⟨z.1, z.2.2.1, z.2.2.2, z.2.1⟩, fun z => ⟨z.1, z.2.2.2, z.2.1, z.2.2.1⟩⟩
end
end
section
/-- the operands fit -/
def fi_ok (o : Nat) (v a b : Int32) : Prop := (o ≤ 3 → fi_var v) ∧ (fi_rd o → fi_var a) ∧ (fi_cp o → fi_var b) ∧ (5 ≤ o → ∃ t, t ≤ 20 ∧ b = nI t)
theorem fx_ok44 {post : Int32 → Prop} {o : Nat} {b : Int32} (ho : o ≤ 6) (h1 : (5 ≤ o → ∃ t, t ≤ 20 ∧ b = nI t) → post 1) (h0 : ¬ (5 ≤ o → ∃ t, t ≤ 20 ∧ b = nI t) → post 0) : wX_operandsOk_44 post (nI o) b := by
  refine pk_lt o 5 (fun c => h1 (fun z => by omega)) (fun c => ?_)
  by_cases c2 : b < 0
  · refine br_t c2 (h0 (fun z => ?_))
    obtain ⟨t, t1, t2⟩ := z c
    rw [t2] at c2
    exact nI_pos (by omega) c2
  · obtain ⟨j, hj, rfl⟩ := nI_of c2
    refine br_f c2 (pk_lt 20 j (fun k => h0 (fun z => ?_)) (fun k => h1 (fun _ => ⟨j, k, rfl⟩)))
    obtain ⟨t, t1, t2⟩ := z c
    have := (nI_eq hj (by omega)).mp t2
    omega
theorem fx_ok {post : Int32 → Prop} {o : Nat} {v a b : Int32} (ho : o ≤ 6) (h1 : fi_ok o v a b → post 1) (h0 : ¬ fi_ok o v a b → post 0) : wpX_operandsOk post (nI o) v a b := by
  have k44 : (o ≤ 3 → fi_var v) → (fi_rd o → fi_var a) → (fi_cp o → fi_var b) → wX_operandsOk_44 post (nI o) b := fun g1 g2 g3 => fx_ok44 ho (fun g4 => h1 ⟨g1, g2, g3, g4⟩) (fun g4 => h0 (fun z => g4 z.2.2.2))
  have k28 : (o ≤ 3 → fi_var v) → (fi_rd o → fi_var a) → wX_operandsOk_28 post (nI o) b := fun g1 g2 => by
    unfold wX_operandsOk_28
    exact fx_comp ho (fun c => br_f (by decide) (fx_isVar (fun w => br_f (by decide) (k44 g1 g2 (fun _ => w))) (fun w => br_t rfl (h0 (fun z => w (z.2.2.1 c)))))) (fun c => br_t rfl (k44 g1 g2 (fun z => absurd z c)))
  have k14 : (o ≤ 3 → fi_var v) → wX_operandsOk_14 post (nI o) a b := fun g1 => by
    unfold wX_operandsOk_14
    exact fx_reads ho (fun c => br_f (by decide) (fx_isVar (fun w => br_f (by decide) (k28 g1 (fun _ => w))) (fun w => br_t rfl (h0 (fun z => w (z.2.1 c)))))) (fun c => br_t rfl (k28 g1 (fun z => absurd z c)))
  unfold wpX_operandsOk
  exact fx_writes ho (fun c => br_f (by decide) (fx_isVar (fun w => br_f (by decide) (k14 (fun _ => w))) (fun w => br_t rfl (h0 (fun z => w (z.1 c)))))) (fun c => br_t rfl (k14 (fun z => absurd z c)))
theorem fi_push {n : Nat} {O V A B : Nat → Nat} {xo xv xa xb : Nat → Int32} {o kv ka kb : Nat} {ov tv av bv : Int32} (hC : fi_C n O V A B xo xv xa xb) (hn : n < 20) (ho : o ≤ 6) (e1 : ov = nI o) (e2 : o ≤ 3 → tv = nI kv ∧ kv < 6) (e3 : fi_rd o → av = nI ka ∧ ka < 6) (e4 : fi_cp o → bv = nI kb ∧ kb < 6) (e5 : 5 ≤ o → bv = nI kb ∧ kb ≤ 20) :
    fi_C (n + 1) (fun p => if p = n then o else O p) (fun p => if p = n then kv else V p) (fun p => if p = n then ka else A p) (fun p => if p = n then kb else B p) (upd xo n ov) (upd xv n tv) (upd xa n av) (upd xb n bv) := by
  refine ⟨by omega, fun p hp => ?_⟩
  by_cases c : p = n
  · subst c
    simp only [if_true, pk_us]
    exact ⟨e1, ho, e2, e3, e4, e5⟩
  · simp only [if_neg c]
    rw [pk_un c, pk_un c, pk_un c, pk_un c]
    exact hC.2 p (by omega)
section
variable {f_count f_edges f_queueFirst f_queueSize f_backwards f_walked : Int32} {a_ops a_targets a_firsts a_seconds a_next a_other a_reached a_edgeFrom a_edgeTo a_edgeAdds a_edgeTakes a_starts a_bits a_kept a_queue a_queued a_wayThere a_wayAdds a_wayTakes a_number a_walkNode a_parent a_least a_linked a_above a_bucketFirst a_bucketNext a_pathNode : Nat → Int32}
variable {n : Nat} {O V A B : Nat → Nat}
theorem fx_emit {post : Int32 → SX → Prop} {x v a b : Int32} (hC : fi_C n O V A B a_ops a_targets a_firsts a_seconds)
    (h0 : ¬ (∃ o, o ≤ 6 ∧ x = nI o ∧ fi_ok o v a b) → ∀ u, fi_cd n O V A B u → post (-1) u)
    (h2 : ∀ o, o ≤ 6 → x = nI o → fi_ok o v a b → ¬ n < 20 → ∀ u, fi_cd n O V A B u → post (-2) u)
    (h1 : ∀ o, o ≤ 6 → x = nI o → fi_ok o v a b → n < 20 → ∀ u, fi_cd (n + 1) (fun p => if p = n then o else O p) (fun p => if p = n then v.toNatClampNeg else V p) (fun p => if p = n then a.toNatClampNeg else A p) (fun p => if p = n then b.toNatClampNeg else B p) u → post (nI n) u) :
    wpX_emit post (nI n, f_edges, f_queueFirst, f_queueSize, f_backwards, f_walked, a_ops, a_targets, a_firsts, a_seconds, a_next, a_other, a_reached, a_edgeFrom, a_edgeTo, a_edgeAdds, a_edgeTakes, a_starts, a_bits, a_kept, a_queue, a_queued, a_wayThere, a_wayAdds, a_wayTakes, a_number, a_walkNode, a_parent, a_least, a_linked, a_above, a_bucketFirst, a_bucketNext, a_pathNode) x v a b := by
  have hn := hC.1
  by_cases c : x < 0
  · refine br_t c (h0 (fun ⟨o, o1, o2, _⟩ => ?_) _ ⟨rfl, hC⟩)
    rw [o2] at c
    exact nI_pos (by omega) c
  · obtain ⟨o, hj, rfl⟩ := nI_of c
    refine br_f c (pk_lt 6 o (fun k => h0 (fun ⟨o', o1, o2, _⟩ => ?_) _ ⟨rfl, hC⟩) (fun k => ?_))
    · have := (nI_eq hj (by omega)).mp o2
      omega
    · refine fx_ok k (fun g => br_f (by decide) ?_) (fun g => br_t rfl (h0 (fun ⟨o', o1, o2, o3⟩ => ?_) _ ⟨rfl, hC⟩))
      · refine pk_lt n 20 (fun k2 => ?_) (fun k2 => h2 o k rfl g (by omega) _ ⟨rfl, hC⟩)
        have ic : vp_in (nI n) 20 := vp_in_nI k2 (by omega)
        refine ⟨ic, ?_⟩
        rw [nI_clamp (by omega)]
        refine nm_e ⟨ic, nm_e ⟨ic, nm_e ⟨ic, nm_e (nm_r (nI_1 n) ?_)⟩⟩⟩
        rw [nI_pred]
        refine h1 o k rfl g k2 _ ⟨rfl, fi_push hC k2 k (fi_nb (by omega)) (fun w => ?_) (fun w => ?_) (fun w => ?_) (fun w => ?_)⟩
        · obtain ⟨t, t1, t2⟩ := g.1 w
          subst t2
          rw [nI_clamp (by omega)]
          exact ⟨fi_nb (by omega), t1⟩
        · obtain ⟨t, t1, t2⟩ := g.2.1 w
          subst t2
          rw [nI_clamp (by omega)]
          exact ⟨fi_nb (by omega), t1⟩
        · obtain ⟨t, t1, t2⟩ := g.2.2.1 w
          subst t2
          rw [nI_clamp (by omega)]
          exact ⟨fi_nb (by omega), t1⟩
        · obtain ⟨t, t1, t2⟩ := g.2.2.2 w
          subst t2
          rw [nI_clamp (by omega)]
          exact ⟨fi_nb (by omega), t1⟩
      · have : o = o' := (nI_eq hj (by omega)).mp o2
        subst this
        exact g o3
end
section
variable {f_size : Int32} {y_ops y_vs y_as y_bs : Nat → Int32}
variable {n : Nat} {O V A B : Nat → Nat}
theorem fy_emit {post : Int32 → SY → Prop} {x v a b : Int32} (hC : fi_C n O V A B y_ops y_vs y_as y_bs)
    (h0 : ¬ (∃ o, o ≤ 6 ∧ x = nI o ∧ fi_ok o v a b) → post (-1) (nI n, y_ops, y_vs, y_as, y_bs))
    (h2 : ∀ o, o ≤ 6 → x = nI o → fi_ok o v a b → ¬ n < 20 → post (-2) (nI n, y_ops, y_vs, y_as, y_bs))
    (h1 : ∀ o, o ≤ 6 → x = nI o → fi_ok o v a b → n < 20 → ∀ z1 z2 z3 z4, fi_C (n + 1) (fun p => if p = n then o else O p) (fun p => if p = n then v.toNatClampNeg else V p) (fun p => if p = n then a.toNatClampNeg else A p) (fun p => if p = n then b.toNatClampNeg else B p) z1 z2 z3 z4 → post (nI n) (nI (n + 1), z1, z2, z3, z4)) :
    wpY_emit post (nI n, y_ops, y_vs, y_as, y_bs) x v a b := by
  have hn := hC.1
  by_cases c : x < 0
  · refine br_t c (h0 (fun ⟨o, o1, o2, _⟩ => ?_))
    rw [o2] at c
    exact nI_pos (by omega) c
  · obtain ⟨o, hj, rfl⟩ := nI_of c
    refine br_f c (pk_le o 6 (fun k => ?_) (fun k => h0 (fun ⟨o', o1, o2, _⟩ => ?_)))
    · have no : ¬ fi_ok o v a b → wY_emit_82 post (nI o) v a b (nI n) y_ops y_vs y_as y_bs := fun g => br_t rfl (h0 (fun ⟨o', o1, o2, o3⟩ => by
        have : o = o' := (nI_eq hj (by omega)).mp o2
        subst this
        exact g o3))
      have yes : fi_ok o v a b → wY_emit_78 post (nI o) v a b (nI n) y_ops y_vs y_as y_bs := by
        intro g
        refine br_f (by decide) (pk_lt n 20 (fun k2 => ?_) (fun k2 => h2 o k rfl g (by omega)))
        have ic : vp_in (nI n) 20 := vp_in_nI k2 (by omega)
        refine ⟨ic, ?_⟩
        rw [nI_clamp (by omega)]
        refine nm_e ⟨ic, nm_e ⟨ic, nm_e ⟨ic, nm_e (nm_r (nI_1 n) ?_)⟩⟩⟩
        rw [nI_pred]
        refine h1 o k rfl g k2 _ _ _ _ (fi_push hC k2 k rfl (fun w => ?_) (fun w => ?_) (fun w => ?_) (fun w => ?_))
        · obtain ⟨t, t1, t2⟩ := g.1 w
          subst t2
          rw [nI_clamp (by omega)]
          exact ⟨rfl, t1⟩
        · obtain ⟨t, t1, t2⟩ := g.2.1 w
          subst t2
          rw [nI_clamp (by omega)]
          exact ⟨rfl, t1⟩
        · obtain ⟨t, t1, t2⟩ := g.2.2.1 w
          subst t2
          rw [nI_clamp (by omega)]
          exact ⟨rfl, t1⟩
        · obtain ⟨t, t1, t2⟩ := g.2.2.2 w
          subst t2
          rw [nI_clamp (by omega)]
          exact ⟨rfl, t1⟩
      have k61 : (o ≤ 3 → fi_var v) → (fi_rd o → fi_var a) → (fi_cp o → fi_var b) → wY_emit_61 post (nI o) v a b (nI n) y_ops y_vs y_as y_bs := by
        intro g1 g2 g3
        refine pk_lt o 5 (fun c => yes ⟨g1, g2, g3, fun z => by omega⟩) (fun c => ?_)
        by_cases c2 : b < 0
        · refine br_t c2 (no (fun z => ?_))
          obtain ⟨t, t1, t2⟩ := z.2.2.2 c
          rw [t2] at c2
          exact nI_pos (by omega) c2
        · obtain ⟨j, hj, rfl⟩ := nI_of c2
          refine br_f c2 (pk_lt 20 j (fun k => no (fun z => ?_)) (fun k => yes ⟨g1, g2, g3, fun _ => ⟨j, k, rfl⟩⟩))
          obtain ⟨t, t1, t2⟩ := z.2.2.2 c
          have := (nI_eq hj (by omega)).mp t2
          omega
      have k44 : (o ≤ 3 → fi_var v) → (fi_rd o → fi_var a) → wY_emit_44 post (nI o) v a b (nI n) y_ops y_vs y_as y_bs := fun g1 g2 => by
        unfold wY_emit_44
        exact fy_comp k (fun c => br_f (by decide) (fy_var (fun w => br_f (by decide) (k61 g1 g2 (fun _ => w))) (fun w => br_t rfl (no (fun z => w (z.2.2.1 c)))))) (fun c => br_t rfl (k61 g1 g2 (fun z => absurd z c)))
      have k28 : (o ≤ 3 → fi_var v) → wY_emit_28 post (nI o) v a b (nI n) y_ops y_vs y_as y_bs := fun g1 => by
        unfold wY_emit_28
        exact fy_reads k (fun c => br_f (by decide) (fy_var (fun w => br_f (by decide) (k44 g1 (fun _ => w))) (fun w => br_t rfl (no (fun z => w (z.2.1 c)))))) (fun c => br_t rfl (k44 g1 (fun z => absurd z c)))
      exact fy_writes k (fun c => br_f (by decide) (fy_var (fun w => br_f (by decide) (k28 (fun _ => w))) (fun w => br_t rfl (no (fun z => w (z.1 c)))))) (fun c => br_t rfl (k28 (fun z => absurd z c)))
    · have := (nI_eq hj (by omega)).mp o2
      omega
end
end
section
/-- both objects hold one code; nothing else is kept from call to call -/
def i_Rel (_ : Nat) (u : SX) (v : SY) : Prop := ∃ n O V A B, fi_cd n O V A B u ∧ v.1 = nI n ∧ fi_C n O V A B v.2.1 v.2.2.1 v.2.2.2.1 v.2.2.2.2
theorem i_up {k : Nat} {u : SX} {v : SY} (h : i_Rel k u v) : i_Rel (k + 5) u v := h
theorem fi_el {k : Nat} {u : SX} {v : SY} {P : SX → SY → Prop} (h : ∀ (n : Nat) (O V A B : Nat → Nat) (f_edges f_queueFirst f_queueSize f_backwards f_walked : Int32) (a_ops a_targets a_firsts a_seconds a_next a_other a_reached a_edgeFrom a_edgeTo a_edgeAdds a_edgeTakes a_starts a_bits a_kept a_queue a_queued a_wayThere a_wayAdds a_wayTakes a_number a_walkNode a_parent a_least a_linked a_above a_bucketFirst a_bucketNext a_pathNode : Nat → Int32) (y_ops y_vs y_as y_bs : Nat → Int32), fi_C n O V A B a_ops a_targets a_firsts a_seconds → fi_C n O V A B y_ops y_vs y_as y_bs → P (nI n, f_edges, f_queueFirst, f_queueSize, f_backwards, f_walked, a_ops, a_targets, a_firsts, a_seconds, a_next, a_other, a_reached, a_edgeFrom, a_edgeTo, a_edgeAdds, a_edgeTakes, a_starts, a_bits, a_kept, a_queue, a_queued, a_wayThere, a_wayAdds, a_wayTakes, a_number, a_walkNode, a_parent, a_least, a_linked, a_above, a_bucketFirst, a_bucketNext, a_pathNode) (nI n, y_ops, y_vs, y_as, y_bs)) (I : i_Rel k u v) : P u v := by
  obtain ⟨n, O, V, A, B, ⟨h1, h2⟩, h3, h4⟩ := I
  obtain ⟨f_count, f_edges, f_queueFirst, f_queueSize, f_backwards, f_walked, a_ops, a_targets, a_firsts, a_seconds, a_next, a_other, a_reached, a_edgeFrom, a_edgeTo, a_edgeAdds, a_edgeTakes, a_starts, a_bits, a_kept, a_queue, a_queued, a_wayThere, a_wayAdds, a_wayTakes, a_number, a_walkNode, a_parent, a_least, a_linked, a_above, a_bucketFirst, a_bucketNext, a_pathNode⟩ := u
  obtain ⟨f_size, y_ops, y_vs, y_as, y_bs⟩ := v
  have e1 : f_count = nI n := h1
  have e2 : f_size = nI n := h3
  subst e1
  subst e2
  exact h n O V A B f_edges f_queueFirst f_queueSize f_backwards f_walked a_ops a_targets a_firsts a_seconds a_next a_other a_reached a_edgeFrom a_edgeTo a_edgeAdds a_edgeTakes a_starts a_bits a_kept a_queue a_queued a_wayThere a_wayAdds a_wayTakes a_number a_walkNode a_parent a_least a_linked a_above a_bucketFirst a_bucketNext a_pathNode y_ops y_vs y_as y_bs h2 h4
theorem i_vc0 : wpX_init (fun u => wpY_init (fun v => i_Rel 0 u v)) := by
  unfold wpX_init wpY_init
  exact ⟨0, fun _ => 0, fun _ => 0, fun _ => 0, fun _ => 0, ⟨rfl, Nat.zero_le _, fun p hp => absurd hp (Nat.not_lt_zero p)⟩, rfl, Nat.zero_le _, fun p hp => absurd hp (Nat.not_lt_zero p)⟩
theorem i_vc_emit {k : Nat} {u : SX} {v : SY} (I : i_Rel k u v) (hk : k + 5 ≤ 2560) (v1 : Int32) (v2 : Int32) (v3 : Int32) (v4 : Int32) : wpX_emit (fun r u' => wpY_emit (fun r' v' => r' = r ∧ i_Rel (k + 5) u' v') v v1 v2 v3 v4) u v1 v2 v3 v4 := by
  refine fi_el (P := fun u v => wpX_emit (fun r u' => wpY_emit (fun r' v' => r' = r ∧ i_Rel (k + 5) u' v') v v1 v2 v3 v4) u v1 v2 v3 v4) ?_ I
  intro n O V A B f_edges f_queueFirst f_queueSize f_backwards f_walked a_ops a_targets a_firsts a_seconds a_next a_other a_reached a_edgeFrom a_edgeTo a_edgeAdds a_edgeTakes a_starts a_bits a_kept a_queue a_queued a_wayThere a_wayAdds a_wayTakes a_number a_walkNode a_parent a_least a_linked a_above a_bucketFirst a_bucketNext a_pathNode y_ops y_vs y_as y_bs hX hY
  have hn := hX.1
  refine fx_emit hX (fun hno u hu => fy_emit hY (fun _ => ⟨rfl, n, O, V, A, B, hu, rfl, hY⟩) (fun o o1 o2 o3 => absurd ⟨o, o1, o2, o3⟩ hno) (fun o o1 o2 o3 => absurd ⟨o, o1, o2, o3⟩ hno)) (fun o o1 o2 o3 o4 u hu => fy_emit hY (fun hno => absurd ⟨o, o1, o2, o3⟩ hno) (fun _ _ _ _ _ => ⟨rfl, n, O, V, A, B, hu, rfl, hY⟩) (fun _ _ _ _ o5 => absurd o5 o4)) (fun o o1 o2 o3 o4 u hu => fy_emit hY (fun hno => absurd ⟨o, o1, o2, o3⟩ hno) (fun _ _ _ _ o5 => absurd o4 o5) (fun o' o1' o2' o3' _ z1 z2 z3 z4 hz => ?_))
  have e : o' = o := (nI_eq (by omega) (by omega)).mp (o2'.symm.trans o2)
  subst e
  exact ⟨rfl, n + 1, _, _, _, _, hu, rfl, hz⟩
theorem i_vc_drop {k : Nat} {u : SX} {v : SY} (I : i_Rel k u v) (hk : k + 5 ≤ 2560) : wpX_drop (fun r u' => wpY_drop (fun r' v' => r' = r ∧ i_Rel (k + 5) u' v') v) u := by
  refine fi_el (P := fun u v => wpX_drop (fun r u' => wpY_drop (fun r' v' => r' = r ∧ i_Rel (k + 5) u' v') v) u) ?_ I
  intro n O V A B f_edges f_queueFirst f_queueSize f_backwards f_walked a_ops a_targets a_firsts a_seconds a_next a_other a_reached a_edgeFrom a_edgeTo a_edgeAdds a_edgeTakes a_starts a_bits a_kept a_queue a_queued a_wayThere a_wayAdds a_wayTakes a_number a_walkNode a_parent a_least a_linked a_above a_bucketFirst a_bucketNext a_pathNode y_ops y_vs y_as y_bs hX hY
  have hn := hX.1
  cases n with
  | zero => exact br_t rfl (br_t rfl ⟨rfl, 0, O, V, A, B, ⟨rfl, hX⟩, rfl, hY⟩)
  | succ m =>
    have ne : ¬ nI (m + 1) = 0 := nI_ne0 (by omega) (by omega)
    exact br_f ne (nm_r (nI_pred m) (br_f ne (nm_r (nI_pred m) ⟨rfl, m, O, V, A, B, ⟨rfl, by omega, fun p hp => hX.2 p (by omega)⟩, rfl, by omega, fun p hp => hY.2 p (by omega)⟩)))
theorem i_vc_length {k : Nat} {u : SX} {v : SY} (I : i_Rel k u v) (hk : k + 5 ≤ 2560) : wpX_length (fun r => wpY_length (fun r' => r' = r ∧ i_Rel (k + 5) u v) v) u := by
  refine fi_el (P := fun u v => wpX_length (fun r => wpY_length (fun r' => r' = r ∧ i_Rel (k + 5) u v) v) u) ?_ I
  intro n O V A B f_edges f_queueFirst f_queueSize f_backwards f_walked a_ops a_targets a_firsts a_seconds a_next a_other a_reached a_edgeFrom a_edgeTo a_edgeAdds a_edgeTakes a_starts a_bits a_kept a_queue a_queued a_wayThere a_wayAdds a_wayTakes a_number a_walkNode a_parent a_least a_linked a_above a_bucketFirst a_bucketNext a_pathNode y_ops y_vs y_as y_bs hX hY
  have hn := hX.1
  exact ⟨rfl, n, O, V, A, B, ⟨rfl, hX⟩, rfl, hY⟩
theorem i_vc_reachable {k : Nat} {u : SX} {v : SY} (I : i_Rel k u v) (hk : k + 5 ≤ 2560) : wpX_reachable (fun r u' => wpY_reachable (fun r' => r' = r ∧ i_Rel (k + 5) u' v) v) u := by
  refine fi_el (P := fun u v => wpX_reachable (fun r u' => wpY_reachable (fun r' => r' = r ∧ i_Rel (k + 5) u' v) v) u) ?_ I
  intro n O V A B f_edges f_queueFirst f_queueSize f_backwards f_walked a_ops a_targets a_firsts a_seconds a_next a_other a_reached a_edgeFrom a_edgeTo a_edgeAdds a_edgeTakes a_starts a_bits a_kept a_queue a_queued a_wayThere a_wayAdds a_wayTakes a_number a_walkNode a_parent a_least a_linked a_above a_bucketFirst a_bucketNext a_pathNode y_ops y_vs y_as y_bs hX hY
  have hn := hX.1
  refine fx_reachable hX (fun r hr nx ot re wd nu wk pa pn => fy_reachable hY (fun r2 hr2 => ⟨fi_is_eq hr2 hr (fun e _ => Iff.rfl), n, O, V, A, B, ⟨rfl, hX⟩, rfl, hY⟩))
theorem i_vc_reaching {k : Nat} {u : SX} {v : SY} (I : i_Rel k u v) (hk : k + 5 ≤ 2560) (v1 : Int32) (v2 : Int32) : wpX_reaching (fun r u' => wpY_reaching (fun r' => r' = r ∧ i_Rel (k + 5) u' v) v v1 v2) u v1 v2 := by
  refine fi_el (P := fun u v => wpX_reaching (fun r u' => wpY_reaching (fun r' => r' = r ∧ i_Rel (k + 5) u' v) v v1 v2) u v1 v2) ?_ I
  intro n O V A B f_edges f_queueFirst f_queueSize f_backwards f_walked a_ops a_targets a_firsts a_seconds a_next a_other a_reached a_edgeFrom a_edgeTo a_edgeAdds a_edgeTakes a_starts a_bits a_kept a_queue a_queued a_wayThere a_wayAdds a_wayTakes a_number a_walkNode a_parent a_least a_linked a_above a_bucketFirst a_bucketNext a_pathNode y_ops y_vs y_as y_bs hX hY
  have hn := hX.1
  refine fx_reaching hX (fun p hp e re en r u hr hu => fy_reaching hY (fun q hq e2 re2 en2 r2 hr2 => ⟨?_, n, O, V, A, B, hu, rfl, hY⟩) (fun hno => absurd ⟨en, p, hp, e, re⟩ hno)) (fun hno u hu => fy_reaching hY (fun q hq e2 re2 en2 r2 hr2 => absurd ⟨en2, q, hq, e2, re2⟩ hno) (fun _ => ⟨rfl, n, O, V, A, B, hu, rfl, hY⟩))
  have eq : q = p := (nI_eq (by omega) (by omega)).mp (e2.symm.trans e)
  subst eq
  exact fi_is_eq hr2 hr (fun d _ => fi_eq0.symm)
theorem i_vc_live {k : Nat} {u : SX} {v : SY} (I : i_Rel k u v) (hk : k + 5 ≤ 2560) (v1 : Int32) (v2 : Int32) : wpX_live (fun r u' => wpY_live (fun r' => r' = r ∧ i_Rel (k + 5) u' v) v v1 v2) u v1 v2 := by
  refine fi_el (P := fun u v => wpX_live (fun r u' => wpY_live (fun r' => r' = r ∧ i_Rel (k + 5) u' v) v v1 v2) u v1 v2) ?_ I
  intro n O V A B f_edges f_queueFirst f_queueSize f_backwards f_walked a_ops a_targets a_firsts a_seconds a_next a_other a_reached a_edgeFrom a_edgeTo a_edgeAdds a_edgeTakes a_starts a_bits a_kept a_queue a_queued a_wayThere a_wayAdds a_wayTakes a_number a_walkNode a_parent a_least a_linked a_above a_bucketFirst a_bucketNext a_pathNode y_ops y_vs y_as y_bs hX hY
  have hn := hX.1
  refine fx_live hX (fun p hp e en r u hr hu => fy_live hY (fun q hq e2 en2 r2 hr2 => ⟨?_, n, O, V, A, B, hu, rfl, hY⟩) (fun hno => absurd ⟨en, p, hp, e⟩ hno)) (fun hno u hu => fy_live hY (fun q hq e2 en2 r2 hr2 => absurd ⟨en2, q, hq, e2⟩ hno) (fun _ => ⟨rfl, n, O, V, A, B, hu, rfl, hY⟩))
  have eq : q = p := (nI_eq (by omega) (by omega)).mp (e2.symm.trans e)
  subst eq
  exact fi_is_eq hr2 hr (fun d _ => ⟨fun z => fi_eq1.mpr ⟨hq, z.2⟩, fun z => ⟨fi_lv_6 hX (fi_eq1.mp z).2, (fi_eq1.mp z).2⟩⟩)
theorem i_vc_available {k : Nat} {u : SX} {v : SY} (I : i_Rel k u v) (hk : k + 5 ≤ 2560) (v1 : Int32) (v2 : Int32) : wpX_available (fun r u' => wpY_available (fun r' => r' = r ∧ i_Rel (k + 5) u' v) v v1 v2) u v1 v2 := by
  refine fi_el (P := fun u v => wpX_available (fun r u' => wpY_available (fun r' => r' = r ∧ i_Rel (k + 5) u' v) v v1 v2) u v1 v2) ?_ I
  intro n O V A B f_edges f_queueFirst f_queueSize f_backwards f_walked a_ops a_targets a_firsts a_seconds a_next a_other a_reached a_edgeFrom a_edgeTo a_edgeAdds a_edgeTakes a_starts a_bits a_kept a_queue a_queued a_wayThere a_wayAdds a_wayTakes a_number a_walkNode a_parent a_least a_linked a_above a_bucketFirst a_bucketNext a_pathNode y_ops y_vs y_as y_bs hX hY
  have hn := hX.1
  refine fx_available hX (fun p hp e re en r u hr hu => fy_available hY (fun q hq e2 re2 en2 r2 hr2 => ⟨?_, n, O, V, A, B, hu, rfl, hY⟩) (fun hno => absurd ⟨en, p, hp, e, re⟩ hno)) (fun hno u hu => fy_available hY (fun q hq e2 re2 en2 r2 hr2 => absurd ⟨en2, q, hq, e2, re2⟩ hno) (fun _ => ⟨rfl, n, O, V, A, B, hu, rfl, hY⟩))
  have eq : q = p := (nI_eq (by omega) (by omega)).mp (e2.symm.trans e)
  subst eq
  exact fi_is_eq hr2 hr (fun d _ => ⟨fun z => ⟨z.1, fun k => z.2 ((fi_eq2 z.1).mp k)⟩, fun z => ⟨z.1, fun k => z.2 ((fi_eq2 z.1).mpr k)⟩⟩)
theorem i_vc_busy {k : Nat} {u : SX} {v : SY} (I : i_Rel k u v) (hk : k + 5 ≤ 2560) (v1 : Int32) (v2 : Int32) : wpX_busy (fun r u' => wpY_busy (fun r' => r' = r ∧ i_Rel (k + 5) u' v) v v1 v2) u v1 v2 := by
  refine fi_el (P := fun u v => wpX_busy (fun r u' => wpY_busy (fun r' => r' = r ∧ i_Rel (k + 5) u' v) v v1 v2) u v1 v2) ?_ I
  intro n O V A B f_edges f_queueFirst f_queueSize f_backwards f_walked a_ops a_targets a_firsts a_seconds a_next a_other a_reached a_edgeFrom a_edgeTo a_edgeAdds a_edgeTakes a_starts a_bits a_kept a_queue a_queued a_wayThere a_wayAdds a_wayTakes a_number a_walkNode a_parent a_least a_linked a_above a_bucketFirst a_bucketNext a_pathNode y_ops y_vs y_as y_bs hX hY
  have hn := hX.1
  refine fx_busy hX (fun p hp e en r u hr hu => fy_busy hY (fun q hq e2 en2 r2 hr2 => ⟨?_, n, O, V, A, B, hu, rfl, hY⟩) (fun hno => absurd ⟨en, p, hp, e⟩ hno)) (fun hno u hu => fy_busy hY (fun q hq e2 en2 r2 hr2 => absurd ⟨en2, q, hq, e2⟩ hno) (fun _ => ⟨rfl, n, O, V, A, B, hu, rfl, hY⟩))
  have eq : q = p := (nI_eq (by omega) (by omega)).mp (e2.symm.trans e)
  subst eq
  exact fi_is_eq hr2 hr (fun d _ => ⟨fun z => ⟨z.1, fun k => z.2 ((fi_eq3 z.1 hq).mp k)⟩, fun z => ⟨z.1, fun k => z.2 ((fi_eq3 z.1 hq).mpr k)⟩⟩)
theorem i_vc_agree {k : Nat} {u : SX} {v : SY} (I : i_Rel k u v) (hk : k + 5 ≤ 2560) (v1 : Int32) (v2 : Int32) : wpX_agree (fun r u' => wpY_agree (fun r' => r' = r ∧ i_Rel (k + 5) u' v) v v1 v2) u v1 v2 := by
  refine fi_el (P := fun u v => wpX_agree (fun r u' => wpY_agree (fun r' => r' = r ∧ i_Rel (k + 5) u' v) v v1 v2) u v1 v2) ?_ I
  intro n O V A B f_edges f_queueFirst f_queueSize f_backwards f_walked a_ops a_targets a_firsts a_seconds a_next a_other a_reached a_edgeFrom a_edgeTo a_edgeAdds a_edgeTakes a_starts a_bits a_kept a_queue a_queued a_wayThere a_wayAdds a_wayTakes a_number a_walkNode a_parent a_least a_linked a_above a_bucketFirst a_bucketNext a_pathNode y_ops y_vs y_as y_bs hX hY
  have hn := hX.1
  exact fx_agree hX (fun a b u hu => fy_agree (fun _ _ => ⟨rfl, n, O, V, A, B, hu, rfl, hY⟩) (fun c => absurd ⟨a, b⟩ c)) (fun c u hu => fy_agree (fun a b => absurd ⟨a, b⟩ c) (fun _ => ⟨rfl, n, O, V, A, B, hu, rfl, hY⟩))
theorem i_vc_before {k : Nat} {u : SX} {v : SY} (I : i_Rel k u v) (hk : k + 5 ≤ 2560) (v1 : Int32) : wpX_before (fun r u' => wpY_before (fun r' => r' = r ∧ i_Rel (k + 5) u' v) v v1) u v1 := by
  refine fi_el (P := fun u v => wpX_before (fun r u' => wpY_before (fun r' => r' = r ∧ i_Rel (k + 5) u' v) v v1) u v1) ?_ I
  intro n O V A B f_edges f_queueFirst f_queueSize f_backwards f_walked a_ops a_targets a_firsts a_seconds a_next a_other a_reached a_edgeFrom a_edgeTo a_edgeAdds a_edgeTakes a_starts a_bits a_kept a_queue a_queued a_wayThere a_wayAdds a_wayTakes a_number a_walkNode a_parent a_least a_linked a_above a_bucketFirst a_bucketNext a_pathNode y_ops y_vs y_as y_bs hX hY
  have hn := hX.1
  refine fx_before hX (fun p hp e re r u hr hu => fy_before hY (fun q hq e2 re2 r2 hr2 => ⟨?_, n, O, V, A, B, hu, rfl, hY⟩) (fun hno => absurd ⟨p, hp, e, re⟩ hno)) (fun hno u hu => fy_before hY (fun q hq e2 re2 r2 hr2 => absurd ⟨q, hq, e2, re2⟩ hno) (fun _ => ⟨rfl, n, O, V, A, B, hu, rfl, hY⟩))
  have eq : q = p := (nI_eq (by omega) (by omega)).mp (e2.symm.trans e)
  subst eq
  exact fi_is_eq hr2 hr (fun d _ => ⟨fun z => ⟨by omega, z.2⟩, fun z => ⟨fi_D_n re z.1 z.2, z.2⟩⟩)
theorem i_vc_after {k : Nat} {u : SX} {v : SY} (I : i_Rel k u v) (hk : k + 5 ≤ 2560) (v1 : Int32) : wpX_after (fun r u' => wpY_after (fun r' => r' = r ∧ i_Rel (k + 5) u' v) v v1) u v1 := by
  refine fi_el (P := fun u v => wpX_after (fun r u' => wpY_after (fun r' => r' = r ∧ i_Rel (k + 5) u' v) v v1) u v1) ?_ I
  intro n O V A B f_edges f_queueFirst f_queueSize f_backwards f_walked a_ops a_targets a_firsts a_seconds a_next a_other a_reached a_edgeFrom a_edgeTo a_edgeAdds a_edgeTakes a_starts a_bits a_kept a_queue a_queued a_wayThere a_wayAdds a_wayTakes a_number a_walkNode a_parent a_least a_linked a_above a_bucketFirst a_bucketNext a_pathNode y_ops y_vs y_as y_bs hX hY
  have hn := hX.1
  refine fx_after hX (fun p hp e re r u hr hu => fy_after hY (fun q hq e2 re2 r2 hr2 => ⟨?_, n, O, V, A, B, hu, rfl, hY⟩) (fun hno => absurd ⟨p, hp, e, fi_af1.mpr re⟩ hno)) (fun hno u hu => fy_after hY (fun q hq e2 re2 r2 hr2 => absurd ⟨q, hq, e2, fi_af1.mp re2⟩ hno) (fun _ => ⟨rfl, n, O, V, A, B, hu, rfl, hY⟩))
  have eq : q = p := (nI_eq (by omega) (by omega)).mp (e2.symm.trans e)
  subst eq
  refine fi_is_eq hr2 hr (fun d _ => ⟨fun z => ⟨by omega, fun k => z.2 ((fi_af2 (by omega)).mpr k)⟩, fun z => ⟨fi_af3 hq re z.1 z.2, fun k => z.2 ((fi_af2 (by omega)).mp k)⟩⟩)
theorem i_vc_frontier {k : Nat} {u : SX} {v : SY} (I : i_Rel k u v) (hk : k + 5 ≤ 2560) (v1 : Int32) : wpX_frontier (fun r u' => wpY_frontier (fun r' => r' = r ∧ i_Rel (k + 5) u' v) v v1) u v1 := by
  refine fi_el (P := fun u v => wpX_frontier (fun r u' => wpY_frontier (fun r' => r' = r ∧ i_Rel (k + 5) u' v) v v1) u v1) ?_ I
  intro n O V A B f_edges f_queueFirst f_queueSize f_backwards f_walked a_ops a_targets a_firsts a_seconds a_next a_other a_reached a_edgeFrom a_edgeTo a_edgeAdds a_edgeTakes a_starts a_bits a_kept a_queue a_queued a_wayThere a_wayAdds a_wayTakes a_number a_walkNode a_parent a_least a_linked a_above a_bucketFirst a_bucketNext a_pathNode y_ops y_vs y_as y_bs hX hY
  have hn := hX.1
  refine fx_frontier hX (fun p hp e re r u hr hu => fy_frontier hY (fun q hq e2 re2 r2 hr2 => ⟨?_, n, O, V, A, B, hu, rfl, hY⟩) (fun hno => absurd ⟨p, hp, e, re⟩ hno)) (fun hno u hu => fy_frontier hY (fun q hq e2 re2 r2 hr2 => absurd ⟨q, hq, e2, re2⟩ hno) (fun _ => ⟨rfl, n, O, V, A, B, hu, rfl, hY⟩))
  have eq : q = p := (nI_eq (by omega) (by omega)).mp (e2.symm.trans e)
  subst eq
  exact fi_is_eq hr2 hr (fun d _ => Iff.rfl)
theorem i_vc_joins {k : Nat} {u : SX} {v : SY} (I : i_Rel k u v) (hk : k + 5 ≤ 2560) (v1 : Int32) : wpX_joins (fun r u' => wpY_joins (fun r' => r' = r ∧ i_Rel (k + 5) u' v) v v1) u v1 := by
  refine fi_el (P := fun u v => wpX_joins (fun r u' => wpY_joins (fun r' => r' = r ∧ i_Rel (k + 5) u' v) v v1) u v1) ?_ I
  intro n O V A B f_edges f_queueFirst f_queueSize f_backwards f_walked a_ops a_targets a_firsts a_seconds a_next a_other a_reached a_edgeFrom a_edgeTo a_edgeAdds a_edgeTakes a_starts a_bits a_kept a_queue a_queued a_wayThere a_wayAdds a_wayTakes a_number a_walkNode a_parent a_least a_linked a_above a_bucketFirst a_bucketNext a_pathNode y_ops y_vs y_as y_bs hX hY
  have hn := hX.1
  refine fx_joins hX (fun v hv e r u hr hu => fy_joins hY (fun w hw e2 r2 hr2 => ⟨?_, n, O, V, A, B, hu, rfl, hY⟩) (fun hno => absurd ⟨v, hv, e⟩ hno)) (fun hno u hu => fy_joins hY (fun w hw e2 r2 hr2 => absurd ⟨w, hw, e2⟩ hno) (fun _ => ⟨rfl, n, O, V, A, B, hu, rfl, hY⟩))
  have eq : w = v := (nI_eq (by omega) (by omega)).mp (e2.symm.trans e)
  subst eq
  exact fi_is_eq hr2 hr (fun d _ => Iff.rfl)
theorem i_vc_loop {k : Nat} {u : SX} {v : SY} (I : i_Rel k u v) (hk : k + 5 ≤ 2560) (v1 : Int32) : wpX_loop (fun r u' => wpY_loop (fun r' => r' = r ∧ i_Rel (k + 5) u' v) v v1) u v1 := by
  refine fi_el (P := fun u v => wpX_loop (fun r u' => wpY_loop (fun r' => r' = r ∧ i_Rel (k + 5) u' v) v v1) u v1) ?_ I
  intro n O V A B f_edges f_queueFirst f_queueSize f_backwards f_walked a_ops a_targets a_firsts a_seconds a_next a_other a_reached a_edgeFrom a_edgeTo a_edgeAdds a_edgeTakes a_starts a_bits a_kept a_queue a_queued a_wayThere a_wayAdds a_wayTakes a_number a_walkNode a_parent a_least a_linked a_above a_bucketFirst a_bucketNext a_pathNode y_ops y_vs y_as y_bs hX hY
  have hn := hX.1
  refine fx_loop hX (fun p hp e re r u hr hu => fy_loop hY (fun q hq e2 re2 r2 hr2 => ⟨?_, n, O, V, A, B, hu, rfl, hY⟩) (fun hno => absurd ⟨p, hp, e, re⟩ hno)) (fun hno u hu => fy_loop hY (fun q hq e2 re2 r2 hr2 => absurd ⟨q, hq, e2, re2⟩ hno) (fun _ => ⟨rfl, n, O, V, A, B, hu, rfl, hY⟩))
  have eq : q = p := (nI_eq (by omega) (by omega)).mp (e2.symm.trans e)
  subst eq
  exact fi_is_eq hr2 hr (fun d _ => (fi_ll_eq hn hq).symm)
theorem i_vc_unset {k : Nat} {u : SX} {v : SY} (I : i_Rel k u v) (hk : k + 5 ≤ 2560) (v1 : Int32) : wpX_unset (fun r u' => wpY_unset (fun r' => r' = r ∧ i_Rel (k + 5) u' v) v v1) u v1 := by
  refine fi_el (P := fun u v => wpX_unset (fun r u' => wpY_unset (fun r' => r' = r ∧ i_Rel (k + 5) u' v) v v1) u v1) ?_ I
  intro n O V A B f_edges f_queueFirst f_queueSize f_backwards f_walked a_ops a_targets a_firsts a_seconds a_next a_other a_reached a_edgeFrom a_edgeTo a_edgeAdds a_edgeTakes a_starts a_bits a_kept a_queue a_queued a_wayThere a_wayAdds a_wayTakes a_number a_walkNode a_parent a_least a_linked a_above a_bucketFirst a_bucketNext a_pathNode y_ops y_vs y_as y_bs hX hY
  have hn := hX.1
  refine fx_unset hX (fun p hp e re r u hr hu => fy_unset hY (fun q hq e2 re2 r2 hr2 => ⟨?_, n, O, V, A, B, hu, rfl, hY⟩) (fun hno => absurd ⟨p, hp, e, re⟩ hno)) (fun hno u hu => fy_unset hY (fun q hq e2 re2 r2 hr2 => absurd ⟨q, hq, e2, re2⟩ hno) (fun _ => ⟨rfl, n, O, V, A, B, hu, rfl, hY⟩))
  have eq : q = p := (nI_eq (by omega) (by omega)).mp (e2.symm.trans e)
  subst eq
  exact fi_is_eq hr2 hr (fun d _ => (fi_eq4 (by omega)).symm)
theorem i_vc_dead {k : Nat} {u : SX} {v : SY} (I : i_Rel k u v) (hk : k + 5 ≤ 2560) : wpX_dead (fun r u' => wpY_dead (fun r' => r' = r ∧ i_Rel (k + 5) u' v) v) u := by
  refine fi_el (P := fun u v => wpX_dead (fun r u' => wpY_dead (fun r' => r' = r ∧ i_Rel (k + 5) u' v) v) u) ?_ I
  intro n O V A B f_edges f_queueFirst f_queueSize f_backwards f_walked a_ops a_targets a_firsts a_seconds a_next a_other a_reached a_edgeFrom a_edgeTo a_edgeAdds a_edgeTakes a_starts a_bits a_kept a_queue a_queued a_wayThere a_wayAdds a_wayTakes a_number a_walkNode a_parent a_least a_linked a_above a_bucketFirst a_bucketNext a_pathNode y_ops y_vs y_as y_bs hX hY
  have hn := hX.1
  exact fx_dead hX (fun r u hr hu => fy_dead hY (fun r2 hr2 => ⟨fi_is_eq hr2 hr (fun d _ => fi_dd_eq.symm), n, O, V, A, B, hu, rfl, hY⟩))
end
