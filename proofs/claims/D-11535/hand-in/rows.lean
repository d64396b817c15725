section
/-! sets of places as naturals: an Int32 is nI m, what it has are the bits of m -/
theorem cd_smod : ∀ n, n < 32 → ((nI n &&& 31).toBitVec.smod 32).toNat = n := by decide +kernel
theorem cd_and (a b : Nat) : nI a &&& nI b = nI (a &&& b) := by
  apply Int32.toBitVec_inj.1
  show BitVec.ofNat 32 a &&& BitVec.ofNat 32 b = BitVec.ofNat 32 (a &&& b)
  apply BitVec.eq_of_getLsbD_eq
  intro i hi
  simp [hi]
theorem cd_or (a b : Nat) : nI a ||| nI b = nI (a ||| b) := by
  apply Int32.toBitVec_inj.1
  show BitVec.ofNat 32 a ||| BitVec.ofNat 32 b = BitVec.ofNat 32 (a ||| b)
  apply BitVec.eq_of_getLsbD_eq
  intro i hi
  simp [hi]
theorem cd_xor (a b : Nat) : nI a ^^^ nI b = nI (a ^^^ b) := by
  apply Int32.toBitVec_inj.1
  show BitVec.ofNat 32 a ^^^ BitVec.ofNat 32 b = BitVec.ofNat 32 (a ^^^ b)
  apply BitVec.eq_of_getLsbD_eq
  intro i hi
  simp [hi]
theorem cd_bitN {m i : Nat} (hm : m < 2 ^ 31) (hi : i < 32) : (nI m >>> (nI i &&& 31)) &&& 1 = nI (m / 2 ^ i % 2) := by
  rw [pk_shrN hm _ i (cd_smod i hi)]
  exact pk_andN (Nat.lt_of_le_of_lt (Nat.div_le_self _ _) (by omega)) 1 (by decide)
theorem cd_tb (m i : Nat) : m.testBit i = decide (m / 2 ^ i % 2 = 1) := Nat.testBit_eq_decide_div_mod_eq
/-- a truth value as the desk answers it -/
def cd_b (b : Bool) : Int32 := cond b 1 0
theorem cd_bitB {m i : Nat} (hm : m < 2 ^ 31) (hi : i < 32) : (nI m >>> (nI i &&& 31)) &&& 1 = cd_b (m.testBit i) := by
  rw [cd_bitN hm hi, cd_tb]
  rcases Nat.mod_two_eq_zero_or_one (m / 2 ^ i) with h | h
  · rw [h]; rfl
  · rw [h]; rfl
theorem cd_b1 {b : Bool} : cd_b b = 1 ↔ b = true := by cases b <;> decide
theorem cd_z {b : Bool} {A B : Prop} (f : b = false → A) (g : b = true → B) : (cd_b b = 0 → A) ∧ (¬ cd_b b = 0 → B) := by
  cases b
  · exact br_t (by decide) (f rfl)
  · exact br_f (by decide) (g rfl)
/-- one bit asked for by the law's own text -/
theorem cd_bt {m i : Nat} {y : Int32} {A B : Prop} (hy : y = nI i) (hm : m < 2 ^ 31) (hi : i < 32) (f : m.testBit i = true → A) (g : m.testBit i = false → B) :
    (((nI m >>> (y &&& 31)) &&& 1) = 1 → A) ∧ (¬ ((nI m >>> (y &&& 31)) &&& 1) = 1 → B) := by
  rw [hy, cd_bitB hm hi]
  cases h : m.testBit i
  · exact br_f (by decide) (g h)
  · exact br_t (by decide) (f h)
theorem cd_in {post : Int32 → Prop} {c kn fo hu : Int32} {a1 a2 a3 a4 a5 : Nat → Int32} {m i : Nat} (hm : m < 2 ^ 31) (hi : i < 32) (h : post (cd_b (m.testBit i))) :
    wpX_in post (c, kn, fo, hu, a1, a2, a3, a4, a5) (nI m) (nI i) := by
  refine cd_bt rfl hm hi (fun e => ?_) (fun e => ?_)
  · rw [e] at h; exact h
  · rw [e] at h; exact h
theorem cd_zero {a : Nat} : a = 0 ↔ ∀ i, a.testBit i = false :=
  ⟨fun h i => by rw [h]; exact Nat.zero_testBit i, fun h => Nat.eq_of_testBit_eq (fun i => by rw [h i, Nat.zero_testBit])⟩
theorem cd_high {a i k : Nat} (h : a < 2 ^ k) (hi : k ≤ i) : a.testBit i = false :=
  Nat.testBit_lt_two_pow (Nat.lt_of_lt_of_le h (Nat.pow_le_pow_right (by omega) hi))
theorem cd_low {a i k : Nat} (h : a < 2 ^ k) (hi : a.testBit i = true) : i < k := by
  rcases Nat.lt_or_ge i k with g | g
  · exact g
  · rw [cd_high h g] at hi; cases hi
theorem cd_tp (n i : Nat) : (2 ^ n).testBit i = decide (n = i) := Nat.testBit_two_pow
theorem cd_orT {a b i : Nat} : (a ||| b).testBit i = true ↔ a.testBit i = true ∨ b.testBit i = true := by
  rw [Nat.testBit_or, Bool.or_eq_true]
theorem cd_orP {a n i : Nat} : (a ||| 2 ^ n).testBit i = true ↔ a.testBit i = true ∨ n = i := by
  rw [cd_orT, cd_tp, decide_eq_true_iff]
theorem cd_andT {a b i : Nat} : (a &&& b).testBit i = true ↔ a.testBit i = true ∧ b.testBit i = true := by
  rw [Nat.testBit_and, Bool.and_eq_true]
theorem cd_modT {a n i : Nat} : (a % 2 ^ n).testBit i = true ↔ i < n ∧ a.testBit i = true := by
  rw [Nat.testBit_mod_two_pow, Bool.and_eq_true, decide_eq_true_iff]
theorem cd_nt {b : Bool} : b = false ↔ ¬ b = true := by cases b <;> decide
/-- a subset -/
def cd_sub (a b : Nat) : Prop := ∀ i, a.testBit i = true → b.testBit i = true
theorem cd_sub_r (a : Nat) : cd_sub a a := fun _ h => h
theorem cd_sub_t {a b c : Nat} (h : cd_sub a b) (g : cd_sub b c) : cd_sub a c := fun i t => g i (h i t)
theorem cd_ext {a b N : Nat} (ha : a < 2 ^ N) (hb : b < 2 ^ N) (h : ∀ i, i < N → (a.testBit i = true ↔ b.testBit i = true)) : a = b :=
  Nat.eq_of_testBit_eq (fun i => by
    rcases Nat.lt_or_ge i N with g | g
    · exact Bool.eq_iff_iff.mpr (h i g)
    · rw [cd_high ha g, cd_high hb g])
theorem cd_sub_a {a b : Nat} (h : cd_sub a b) (g : cd_sub b a) : a = b :=
  Nat.eq_of_testBit_eq (fun i => Bool.eq_iff_iff.mpr ⟨h i, g i⟩)
theorem cd_sub_and {a b : Nat} (h : cd_sub a b) : a &&& b = a :=
  Nat.eq_of_testBit_eq (fun i => Bool.eq_iff_iff.mpr (cd_andT.trans ⟨fun t => t.1, fun t => ⟨t, h i t⟩⟩))
theorem cd_sub_le {a b : Nat} (h : cd_sub a b) : a ≤ b := by
  have t : a &&& b ≤ b := Nat.and_le_right
  rw [cd_sub_and h] at t
  exact t
theorem cd_notN (b i : Nat) (hi : i < 32) : (b ^^^ (2 ^ 32 - 1)).testBit i = !b.testBit i := by
  rw [Nat.testBit_xor, Nat.testBit_two_pow_sub_one, decide_eq_true hi, Bool.xor_true]
theorem cd_not (a b : Nat) : nI a &&& (nI b ^^^ (-1)) = nI (a &&& (b ^^^ (2 ^ 32 - 1))) := by
  rw [show (-1 : Int32) = nI (2 ^ 32 - 1) from by decide +kernel, cd_xor, cd_and]
theorem cd_dfT {a b i : Nat} (ha : a < 2 ^ 31) : (a &&& (b ^^^ (2 ^ 32 - 1))).testBit i = true ↔ a.testBit i = true ∧ ¬ b.testBit i = true := by
  rw [cd_andT]
  constructor
  · intro h
    have g := cd_low ha h.1
    have t := h.2
    rw [cd_notN b i (by omega)] at t
    exact ⟨h.1, by cases e : b.testBit i <;> simp_all⟩
  · intro h
    have g := cd_low ha h.1
    refine ⟨h.1, ?_⟩
    rw [cd_notN b i (by omega), cd_nt.mpr h.2]
    rfl
theorem cd_df_lt {a b N : Nat} (ha : a < 2 ^ N) : a &&& (b ^^^ (2 ^ 32 - 1)) < 2 ^ N := Nat.lt_of_le_of_lt Nat.and_le_left ha
theorem cd_df_0 {a b : Nat} (ha : a < 2 ^ 31) : a &&& (b ^^^ (2 ^ 32 - 1)) = 0 ↔ cd_sub a b := by
  refine cd_zero.trans ⟨fun h i hi => ?_, fun h i => ?_⟩
  · have t := h i
    cases e : b.testBit i
    · have u := (cd_dfT (b := b) ha).mpr ⟨hi, cd_nt.mp e⟩
      rw [t] at u; cases u
    · rfl
  · refine cd_nt.mpr (fun t => ?_)
    have u := (cd_dfT ha).mp t
    exact u.2 (h i u.1)
theorem cd_subI {a b : Nat} (ha : a < 2 ^ 31) : (nI a &&& (nI b ^^^ (-1))) = 0 ↔ cd_sub a b := by
  rw [cd_not]
  exact (nI_eq (b := 0) (cd_df_lt ha) (by omega)).trans (cd_df_0 ha)
theorem cd_one : ∀ i, i < 31 → (1 : Int32) <<< (nI i &&& 31) = nI (2 ^ i) := by decide +kernel
theorem cd_ev : ∀ i, i < 31 → ((1 : Int32) <<< (nI i &&& 31)) - 1 = nI (2 ^ i - 1) := by decide +kernel
theorem cd_p31 {N : Nat} (h : N ≤ 11) : 2 ^ N ≤ 2048 := Nat.le_trans (Nat.pow_le_pow_right (by omega) h) (by decide)
theorem cd_pp (N : Nat) : 0 < 2 ^ N := Nat.pow_pos (by omega)
theorem cd_mask32 (x : Int32) {N : Nat} (h : N ≤ 11) : x &&& nI (2 ^ N - 1) = nI (x.toBitVec.toNat % 2 ^ N) := by
  have h1 := cd_p31 h
  exact pk_and x N (pk_tn (by omega))
theorem cd_maskN {m N : Nat} (h : N ≤ 11) (hm : m < 2 ^ N) : nI m &&& nI (2 ^ N - 1) = nI m := by
  have h1 := cd_p31 h
  rw [pk_andN (by omega) N (pk_tn (by omega)), Nat.mod_eq_of_lt hm]
theorem cd_sh {m : Nat} (h : m < 2048) : (nI m).toInt16.toInt32 = nI m := by
  apply Int32.toInt_inj.mp
  rw [Int16.toInt_toInt32, Int32.toInt_toInt16, nI_toInt (by omega)]
  rw [Int.bmod_def]
  omega
theorem cd_by : ∀ m, m < 16 → (nI m).toInt8.toInt32 = nI m := by decide +kernel
/-- every property of places below N is a set -/
theorem cd_mask (P : Nat → Prop) (N : Nat) : ∃ m, m < 2 ^ N ∧ ∀ i, i < N → (m.testBit i = true ↔ P i) := by
  induction N with
  | zero => exact ⟨0, by decide, fun i h => absurd h (by omega)⟩
  | succ N ih =>
    obtain ⟨m, hm, h⟩ := ih
    have hp : 2 ^ (N + 1) = 2 * 2 ^ N := by rw [Nat.pow_succ, Nat.mul_comm]
    by_cases p : P N
    · refine ⟨m ||| 2 ^ N, Nat.or_lt_two_pow (by omega) (by have := cd_pp N; omega), fun i hi => ?_⟩
      rw [cd_orP]
      by_cases e : N = i
      · exact ⟨fun _ => e ▸ p, fun _ => Or.inr e⟩
      · exact ⟨fun t => t.elim (fun u => (h i (by omega)).mp u) (fun u => absurd u e), fun t => Or.inl ((h i (by omega)).mpr t)⟩
    · refine ⟨m, by omega, fun i hi => ?_⟩
      by_cases e : i = N
      · rw [e, cd_high hm (Nat.le_refl N)]
        exact ⟨fun t => (by cases t), fun t => absurd t p⟩
      · exact h i (by omega)
/-- how many of the four lowest places a set has -/
def cd_pc (x : Nat) : Nat := x % 2 + x / 2 % 2 + x / 4 % 2 + x / 8 % 2
theorem cd_pcA : ∀ x, x < 16 → ∀ y, y < 16 → x &&& y = x → x ≠ y → cd_pc x < cd_pc y := by decide +kernel
theorem cd_pcB : ∀ x, x < 16 → 4 ≤ cd_pc x → x = 15 := by decide +kernel
theorem cd_pcC : ∀ x, x < 16 → cd_pc x = 0 → x = 0 := by decide +kernel
theorem cd_15 : ∀ i, i < 4 → (15 : Nat).testBit i = true := by decide +kernel
theorem cd_pcS {x y : Nat} (hx : x < 16) (hy : y < 16) (h : cd_sub x y) (e : x ≠ y) : cd_pc x < cd_pc y := cd_pcA x hx y hy (cd_sub_and h) e
/-- the k-th implication of the law's list -/
def cd_E (l k : Nat) : Nat := l / 2 ^ (4 * k) % 16
theorem cd_E_lt (l k : Nat) : cd_E l k < 16 := Nat.mod_lt _ (by omega)
theorem cd_ent {l k : Nat} (hl : l < 2 ^ 31) (hk : k < 8) : (nI l >>> ((4 * nI k) &&& 31)) &&& 15 = nI (cd_E l k) := by
  rw [show (4 : Int32) * nI k = nI (4 * k) from pk_mul 4 k, pk_shrN hl _ (4 * k) (cd_smod _ (by omega))]
  exact pk_andN (Nat.lt_of_le_of_lt (Nat.div_le_self _ _) (by omega)) 4 (by decide)
theorem cd_lo {e : Nat} (h : e < 16) : nI e &&& 3 = nI (e % 4) := pk_andN (by omega) 2 (by decide)
theorem cd_hi {e : Nat} (h : e < 16) : nI e >>> ((2 : Int32) &&& 31) = nI (e / 4) := pk_shrN (by omega) _ 2 (by decide)
end
section
/-! the plain law: implications between atoms; E k is the k-th, its first part E k % 4, its second E k / 4 -/
/-- B keeps to the implications that S has -/
def cd_Mp (E : Nat → Nat) (n S B : Nat) : Prop :=
  ∀ k, k < n → S.testBit (4 + k) = true → B.testBit (E k % 4) = true → B.testBit (E k / 4) = true
/-- b follows from the atoms A by the implications that S has -/
def cd_Der (E : Nat → Nat) (n S : Nat) (A : Nat → Prop) (b : Nat) : Prop :=
  ∀ B : Nat, (∀ i, i < 4 → A i → B.testBit i = true) → cd_Mp E n S B → B.testBit b = true
/-- a set that has all that follows from it -/
def cd_Th (E : Nat → Nat) (n m : Nat) : Prop :=
  cd_Mp E n m m ∧ ∀ k, k < n → cd_Der E n m (fun i => m.testBit i = true ∨ i = E k % 4) (E k / 4) → m.testBit (4 + k) = true
/-- G is what follows from S -/
def cd_Cl (E : Nat → Nat) (n S G : Nat) : Prop :=
  (∀ b, b < 4 → (G.testBit b = true ↔ cd_Der E n S (fun i => S.testBit i = true) b)) ∧
  (∀ k, k < n → (G.testBit (4 + k) = true ↔ cd_Der E n S (fun i => S.testBit i = true ∨ i = E k % 4) (E k / 4)))
theorem cd_Mp_s {E : Nat → Nat} {n S T B : Nat} (h : cd_sub S T) (g : cd_Mp E n T B) : cd_Mp E n S B :=
  fun k hk hs hl => g k hk (h _ hs) hl
theorem cd_Der_c {E : Nat → Nat} {n S : Nat} {A A' : Nat → Prop} {b : Nat} (h : ∀ i, i < 4 → (A i ↔ A' i)) : cd_Der E n S A b ↔ cd_Der E n S A' b :=
  ⟨fun d B hB hm => d B (fun i hi ha => hB i hi ((h i hi).mp ha)) hm, fun d B hB hm => d B (fun i hi ha => hB i hi ((h i hi).mpr ha)) hm⟩
theorem cd_Cl_ex (E : Nat → Nat) (n S : Nat) : ∃ G, G < 2 ^ (4 + n) ∧ cd_Cl E n S G := by
  obtain ⟨m, hm, h⟩ := cd_mask (fun i => (i < 4 → cd_Der E n S (fun i => S.testBit i = true) i) ∧ (4 ≤ i → cd_Der E n S (fun j => S.testBit j = true ∨ j = E (i - 4) % 4) (E (i - 4) / 4))) (4 + n)
  refine ⟨m, hm, fun b hb => ?_, fun k hk => ?_⟩
  · rw [h b (by omega)]
    exact ⟨fun t => t.1 hb, fun t => ⟨fun _ => t, fun z => absurd z (by omega)⟩⟩
  · rw [h (4 + k) (by omega), show 4 + k - 4 = k by omega]
    exact ⟨fun t => t.2 (by omega), fun t => ⟨fun z => absurd z (by omega), fun _ => t⟩⟩
theorem cd_pl (i : Nat) (n : Nat) (h : i < 4 + n) : i < 4 ∨ ∃ k, k < n ∧ i = 4 + k := by
  rcases Nat.lt_or_ge i 4 with g | g
  · exact Or.inl g
  · exact Or.inr ⟨i - 4, by omega, by omega⟩
theorem cd_Cl_sub {E : Nat → Nat} {n S G : Nat} (hS : S < 2 ^ (4 + n)) (c : cd_Cl E n S G) : cd_sub S G := by
  intro i hi
  rcases cd_pl i n (cd_low hS hi) with g | ⟨k, hk, rfl⟩
  · exact (c.1 i g).mpr (fun B hB _ => hB i g hi)
  · refine (c.2 k hk).mpr (fun B hB hm => hm k hk hi (hB _ (Nat.mod_lt _ (by omega)) (Or.inr rfl)))
theorem cd_Cl_least {E : Nat → Nat} {n S G W : Nat} (hG : G < 2 ^ (4 + n)) (c : cd_Cl E n S G) (w : cd_Th E n W) (h : cd_sub S W) : cd_sub G W := by
  intro i hi
  rcases cd_pl i n (cd_low hG hi) with g | ⟨k, hk, rfl⟩
  · exact (c.1 i g).mp hi W (fun j _ hj => h j hj) (cd_Mp_s h w.1)
  · refine w.2 k hk (fun B hB hm => (c.2 k hk).mp hi B (fun j hj t => hB j hj ?_) (cd_Mp_s h hm))
    exact t.elim (fun u => Or.inl (h j u)) (fun u => Or.inr u)
theorem cd_hl (E : Nat → Nat) (hE : ∀ k, E k < 16) (k : Nat) : E k % 4 < 4 ∧ E k / 4 < 4 := by
  have := hE k
  omega
theorem cd_Cl_th {E : Nat → Nat} (hE : ∀ k, E k < 16) {n S G : Nat} (c : cd_Cl E n S G) : cd_Th E n G := by
  refine ⟨fun k hk h4 hl => ?_, fun k hk d => ?_⟩
  · refine (c.1 _ (cd_hl E hE k).2).mpr (fun B hB hm => ?_)
    refine (c.2 k hk).mp h4 B (fun i hi t => t.elim (fun u => hB i hi u) (fun u => ?_)) hm
    rw [u]
    exact (c.1 _ (cd_hl E hE k).1).mp hl B hB hm
  · refine (c.2 k hk).mpr (fun B hB hm => ?_)
    have hB' : ∀ i, i < 4 → S.testBit i = true → B.testBit i = true := fun i hi t => hB i hi (Or.inl t)
    refine d B (fun i hi t => t.elim (fun u => (c.1 i hi).mp u B hB' hm) (fun u => hB i hi (Or.inr u))) (fun j hj h4 hl => ?_)
    refine (c.2 j hj).mp h4 B (fun i hi t => t.elim (fun u => hB' i hi u) (fun u => ?_)) hm
    rw [u]
    exact hl
theorem cd_Cl_self {E : Nat → Nat} (hE : ∀ k, E k < 16) {n S G : Nat} (hS : S < 2 ^ (4 + n)) (hG : G < 2 ^ (4 + n)) (c : cd_Cl E n S G) : G = S ↔ cd_Th E n S :=
  ⟨fun e => e ▸ cd_Cl_th hE c, fun t => cd_sub_a (cd_Cl_least hG c t (cd_sub_r S)) (cd_Cl_sub hS c)⟩
/-! worlds -/
def cd_par (w : Nat → Nat) (f s a b : Nat) : Prop :=
  (s.testBit a = true ∧ s.testBit b = false) ∨ ∃ j, j < f ∧ cd_sub s (w j) ∧ (w j).testBit a = true ∧ (w j).testBit b = false
def cd_kp1 (E : Nat → Nat) (s k : Nat) : Prop :=
  (s.testBit (4 + k) = true → s.testBit (E k % 4) = true → s.testBit (E k / 4) = true) ∧ (s.testBit (4 + k) = false → s.testBit (E k / 4) = false)
def cd_kp (E : Nat → Nat) (n s : Nat) : Prop := ∀ k, k < n → cd_kp1 E s k
def cd_wd (E : Nat → Nat) (n : Nat) (w : Nat → Nat) (f s : Nat) : Prop :=
  cd_kp E n s ∧ ∀ k, k < n → s.testBit (4 + k) = false → cd_par w f s (E k % 4) (E k / 4)
theorem cd_wd_iff {E : Nat → Nat} (hE : ∀ k, E k < 16) {n f s : Nat} {w : Nat → Nat} (hw : ∀ j, j < f → cd_Th E n (w j))
    (hx : ∀ m, s < m → m < 2 ^ (4 + n) → cd_Th E n m → ∃ j, j < f ∧ w j = m) (hs : s < 2 ^ (4 + n)) : cd_wd E n w f s ↔ cd_Th E n s := by
  constructor
  · intro h
    have hm : cd_Mp E n s s := fun k hk => (h.1 k hk).1
    refine ⟨hm, fun k hk d => ?_⟩
    cases e : s.testBit (4 + k)
    · rcases h.2 k hk e with p | ⟨j, hj, p1, p2, p3⟩
      · have t := d s (fun i _ u => u.elim id (fun v => by rw [v]; exact p.1)) hm
        rw [p.2] at t
        exact t
      · have t := d (w j) (fun i _ u => u.elim (fun v => p1 i v) (fun v => by rw [v]; exact p2)) (cd_Mp_s p1 (hw j hj).1)
        rw [p3] at t
        exact t
    · rfl
  · intro h
    have hr : ∀ k, k < n → s.testBit (4 + k) = false → s.testBit (E k / 4) = false := by
      intro k hk e
      refine cd_nt.mpr (fun t => cd_nt.mp e (h.2 k hk (fun B hB _ => hB _ (cd_hl E hE k).2 (Or.inl t))))
    refine ⟨fun k hk => ⟨h.1 k hk, hr k hk⟩, fun k hk e => ?_⟩
    cases g : s.testBit (E k % 4)
    · obtain ⟨G, hG, c⟩ := cd_Cl_ex E n (s ||| 2 ^ (E k % 4))
      have hlt : s ||| 2 ^ (E k % 4) < 2 ^ (4 + n) := Nat.or_lt_two_pow hs (Nat.pow_lt_pow_right (by omega) (by have := (cd_hl E hE k).1; omega))
      have hsub := cd_Cl_sub hlt c
      have hsG : cd_sub s G := fun i hi => hsub i (cd_orP.mpr (Or.inl hi))
      have hGl : G.testBit (E k % 4) = true := hsub _ (cd_orP.mpr (Or.inr rfl))
      have hne : s ≠ G := fun z => (by rw [← z, g] at hGl; cases hGl)
      have hle := cd_sub_le hsG
      obtain ⟨j, hj, ej⟩ := hx G (by omega) hG (cd_Cl_th hE c)
      refine Or.inr ⟨j, hj, ?_, ?_, ?_⟩
      · rw [ej]; exact hsG
      · rw [ej]; exact hGl
      · rw [ej]
        refine cd_nt.mpr (fun t => cd_nt.mp e (h.2 k hk (fun B hB hm => ?_)))
        refine (c.1 _ (cd_hl E hE k).2).mp t B (fun i hi u => ?_) (fun j hj h4 hl => hm j hj ?_ hl)
        · exact hB i hi ((cd_orP.mp u).elim Or.inl (fun v => Or.inr v.symm))
        · exact (cd_orP.mp h4).elim id (fun v => absurd v (by have := (cd_hl E hE k).1; omega))
    · exact Or.inl ⟨g, hr k hk e⟩
/-- w lists the closed sets below 2 ^ (4 + n) -/
def cd_ls (E : Nat → Nat) (n : Nat) (w : Nat → Nat) (f : Nat) : Prop :=
  (∀ j, j < f → w j < 2 ^ (4 + n) ∧ cd_Th E n (w j)) ∧ (∀ m, m < 2 ^ (4 + n) → cd_Th E n m → ∃ j, j < f ∧ w j = m)
theorem cd_meet {E : Nat → Nat} (hE : ∀ k, E k < 16) {n f S G r : Nat} {w : Nat → Nat} (h : cd_ls E n w f) (hS : S < 2 ^ (4 + n)) (hG : G < 2 ^ (4 + n)) (c : cd_Cl E n S G)
    (hr : r < 2 ^ (4 + n)) (hm : ∀ i, i < 4 + n → (r.testBit i = true ↔ ∀ j, j < f → cd_sub S (w j) → (w j).testBit i = true)) : r = G := by
  refine cd_ext hr hG (fun i hi => ?_)
  rw [hm i hi]
  constructor
  · intro t
    obtain ⟨j, hj, e⟩ := h.2 G hG (cd_Cl_th hE c)
    have u := t j hj (by rw [e]; exact cd_Cl_sub hS c)
    rw [e] at u
    exact u
  · exact fun t j hj hs => cd_Cl_least hG c (h.1 j hj).2 hs i t
theorem cd_above {E : Nat → Nat} {n S G W : Nat} (hS : S < 2 ^ (4 + n)) (hG : G < 2 ^ (4 + n)) (c : cd_Cl E n S G) (w : cd_Th E n W) : cd_sub S W ↔ cd_sub G W :=
  ⟨fun h => cd_Cl_least hG c w h, fun h => cd_sub_t (cd_Cl_sub hS c) h⟩
/-! truth -/
def cd_good (E : Nat → Nat) (n t ch g : Nat) : Prop :=
  (∀ i, i < 4 → (g.testBit i = true ↔ ch.testBit ((i + t) % 4) = true)) ∧ (∀ k, k < n → (g.testBit (4 + k) = true ↔ (g.testBit (E k % 4) = true → g.testBit (E k / 4) = true)))
theorem cd_good_th {E : Nat → Nat} {n t ch g : Nat} (h : cd_good E n t ch g) : cd_Th E n g := by
  refine ⟨fun k hk h4 hl => (h.2 k hk).mp h4 hl, fun k hk d => (h.2 k hk).mpr (fun hl => ?_)⟩
  exact d g (fun i _ u => u.elim id (fun v => by rw [v]; exact hl)) (fun j hj h4 hl => (h.2 j hj).mp h4 hl)
theorem cd_turn (t : Nat) (B : Nat) : ∃ ch, ch < 16 ∧ ∀ i, i < 4 → (ch.testBit ((i + t) % 4) = true ↔ B.testBit i = true) := by
  obtain ⟨m, hm, h⟩ := cd_mask (fun j => B.testBit ((j + 4 - t % 4) % 4) = true) 4
  refine ⟨m, hm, fun i hi => ?_⟩
  rw [h _ (Nat.mod_lt _ (by omega)), show ((i + t) % 4 + 4 - t % 4) % 4 = i by omega]
theorem cd_counter {E : Nat → Nat} (hE : ∀ k, E k < 16) {n t S G c : Nat} (hS : S < 2 ^ (4 + n)) (cl : cd_Cl E n S G) (hc : c < 4 + n) (hn : G.testBit c = false) :
    ∃ ch, ch < 16 ∧ ∀ g, cd_good E n t ch g → cd_sub S g ∧ g.testBit c = false := by
  have key : ∀ B, (∀ i, i < 4 → S.testBit i = true → B.testBit i = true) → cd_Mp E n S B → ∃ ch, ch < 16 ∧ ∀ g, cd_good E n t ch g → cd_sub S g ∧ ∀ i, i < 4 → (g.testBit i = true ↔ B.testBit i = true) := by
    intro B hB hm
    obtain ⟨ch, h1, h2⟩ := cd_turn t B
    refine ⟨ch, h1, fun g hg => ?_⟩
    have ha : ∀ i, i < 4 → (g.testBit i = true ↔ B.testBit i = true) := fun i hi => (hg.1 i hi).trans (h2 i hi)
    refine ⟨fun i hi => ?_, ha⟩
    rcases cd_pl i n (cd_low hS hi) with q | ⟨k, hk, rfl⟩
    · exact (ha i q).mpr (hB i q hi)
    · exact (hg.2 k hk).mpr (fun hl => (ha _ (cd_hl E hE k).2).mpr (hm k hk hi ((ha _ (cd_hl E hE k).1).mp hl)))
  rcases cd_pl c n hc with q | ⟨k, hk, rfl⟩
  · have nd : ¬ cd_Der E n S (fun i => S.testBit i = true) c := fun d => cd_nt.mp hn ((cl.1 c q).mpr d)
    obtain ⟨B, hB⟩ := Classical.not_forall.mp nd
    obtain ⟨h1, hB⟩ := Classical.not_imp.mp hB
    obtain ⟨h2, h3⟩ := Classical.not_imp.mp hB
    obtain ⟨ch, g1, g2⟩ := key B h1 h2
    exact ⟨ch, g1, fun g hg => ⟨(g2 g hg).1, cd_nt.mpr (fun z => h3 (((g2 g hg).2 c q).mp z))⟩⟩
  · have nd : ¬ cd_Der E n S (fun i => S.testBit i = true ∨ i = E k % 4) (E k / 4) := fun d => cd_nt.mp hn ((cl.2 k hk).mpr d)
    obtain ⟨B, hB⟩ := Classical.not_forall.mp nd
    obtain ⟨h1, hB⟩ := Classical.not_imp.mp hB
    obtain ⟨h2, h3⟩ := Classical.not_imp.mp hB
    obtain ⟨ch, g1, g2⟩ := key B (fun i hi u => h1 i hi (Or.inl u)) h2
    refine ⟨ch, g1, fun g hg => ⟨(g2 g hg).1, cd_nt.mpr (fun z => h3 ?_)⟩⟩
    have ha := (g2 g hg).2
    exact (ha _ (cd_hl E hE k).2).mp ((hg.2 k hk).mp z ((ha _ (cd_hl E hE k).1).mpr (h1 _ (cd_hl E hE k).1 (Or.inr rfl))))
/-! the fewest formulas -/
def cd_sz (p : Nat) : Nat → Nat
  | 0 => 0
  | N + 1 => cd_sz p N + p / 2 ^ N % 2
theorem cd_sz_0 (N : Nat) : cd_sz 0 N = 0 := by
  induction N with
  | zero => rfl
  | succ N ih =>
    show cd_sz 0 N + 0 / 2 ^ N % 2 = 0
    rw [ih, Nat.zero_div]
theorem cd_dm {p q i : Nat} (h : p.testBit i = q.testBit i) : p / 2 ^ i % 2 = q / 2 ^ i % 2 := by
  rw [cd_tb, cd_tb, decide_eq_decide] at h
  have h1 : p / 2 ^ i % 2 < 2 := Nat.mod_lt _ (by omega)
  have h2 : q / 2 ^ i % 2 < 2 := Nat.mod_lt _ (by omega)
  omega
theorem cd_sz_or (p i N : Nat) : cd_sz (p ||| 2 ^ i) N ≤ cd_sz p N + 1 ∧ (N ≤ i → cd_sz (p ||| 2 ^ i) N ≤ cd_sz p N) := by
  induction N with
  | zero => exact ⟨Nat.zero_le _, fun _ => Nat.le_refl _⟩
  | succ N ih =>
    show cd_sz (p ||| 2 ^ i) N + (p ||| 2 ^ i) / 2 ^ N % 2 ≤ cd_sz p N + p / 2 ^ N % 2 + 1 ∧ (N + 1 ≤ i → cd_sz (p ||| 2 ^ i) N + (p ||| 2 ^ i) / 2 ^ N % 2 ≤ cd_sz p N + p / 2 ^ N % 2)
    have h1 : (p ||| 2 ^ i) / 2 ^ N % 2 < 2 := Nat.mod_lt _ (by omega)
    by_cases e : i = N
    · have t := ih.2 (by omega)
      exact ⟨by omega, fun z => absurd z (by omega)⟩
    · have t : (p ||| 2 ^ i) / 2 ^ N % 2 = p / 2 ^ N % 2 := by
        refine cd_dm ?_
        rw [Nat.testBit_or, cd_tp, decide_eq_false e, Bool.or_false]
      rw [t]
      exact ⟨by have := ih.1; omega, fun z => by have := ih.2 (by omega); omega⟩
def cd_X (E : Nat → Nat) (n S : Nat) : Nat → Nat → Prop
  | 0 => fun b => b < 4 ∧ S.testBit b = true
  | d + 1 => fun b => cd_X E n S d b ∨ ∃ k, k < n ∧ S.testBit (4 + k) = true ∧ cd_X E n S d (E k % 4) ∧ b = E k / 4
theorem cd_X_p {E : Nat → Nat} {n S : Nat} (N : Nat) : ∀ d b, cd_X E n S d b → ∃ p, cd_sub p S ∧ 0 < p ∧ cd_sz p N ≤ d + 1 ∧ ∀ W, cd_Mp E n W W → cd_sub p W → W.testBit b = true := by
  intro d
  induction d with
  | zero =>
    intro b h
    refine ⟨2 ^ b, fun i hi => ?_, cd_pp b, ?_, fun W _ hs => hs b (by rw [cd_tp, decide_eq_true rfl])⟩
    · rw [cd_tp, decide_eq_true_iff] at hi
      rw [← hi]; exact h.2
    · have t := (cd_sz_or 0 b N).1
      rw [cd_sz_0, Nat.zero_or] at t
      exact t
  | succ d ih =>
    intro b h
    rcases h with h | ⟨k, hk, h4, hl, rfl⟩
    · obtain ⟨p, h1, h2, h3, h5⟩ := ih b h
      exact ⟨p, h1, h2, by omega, h5⟩
    · obtain ⟨p, h1, h2, h3, h5⟩ := ih _ hl
      refine ⟨p ||| 2 ^ (4 + k), fun i hi => ?_, ?_, ?_, fun W hm hs => ?_⟩
      · exact (cd_orP.mp hi).elim (fun u => h1 i u) (fun u => by rw [← u]; exact h4)
      · have : p ≤ p ||| 2 ^ (4 + k) := Nat.left_le_or
        omega
      · have := (cd_sz_or p (4 + k) N).1
        omega
      · exact hm k hk (hs _ (cd_orP.mpr (Or.inr rfl))) (h5 W hm (fun i hi => hs i (cd_orP.mpr (Or.inl hi))))
theorem cd_X_0 {E : Nat → Nat} {n S b : Nat} : ∀ d, cd_X E n S 0 b → cd_X E n S d b := by
  intro d h
  induction d with
  | zero => exact h
  | succ d ih => exact Or.inl ih
theorem cd_X_st {E : Nat → Nat} (hE : ∀ k, E k < 16) {n S d c : Nat} (hc : c < 4) (h : ∀ b, b < 4 → cd_X E n S (d + 1) b → cd_X E n S d b) (hd : cd_Der E n S (fun i => S.testBit i = true) c) : cd_X E n S d c := by
  obtain ⟨m, _, hm⟩ := cd_mask (cd_X E n S d) 4
  refine (hm c hc).mp (hd m (fun i hi u => (hm i hi).mpr (cd_X_0 d ⟨hi, u⟩)) (fun k hk h4 hl => ?_))
  exact (hm _ (cd_hl E hE k).2).mpr (h _ (cd_hl E hE k).2 (Or.inr ⟨k, hk, h4, (hm _ (cd_hl E hE k).1).mp hl, rfl⟩))
theorem cd_X_3 {E : Nat → Nat} (hE : ∀ k, E k < 16) {n S c : Nat} (hc : c < 4) (hd : cd_Der E n S (fun i => S.testBit i = true) c) : cd_X E n S 3 c := by
  refine Classical.byContradiction (fun no => ?_)
  have up : ∀ d, d < 3 → cd_X E n S d c → cd_X E n S 3 c := by
    intro d h t
    have h3 : d = 0 ∨ d = 1 ∨ d = 2 := by omega
    rcases h3 with rfl | rfl | rfl
    · exact Or.inl (Or.inl (Or.inl t))
    · exact Or.inl (Or.inl t)
    · exact Or.inl t
  have st : ∀ d, d < 3 → ¬ ∀ b, b < 4 → cd_X E n S (d + 1) b → cd_X E n S d b := fun d h t => no (up d h (cd_X_st hE hc t hd))
  have mk := fun d => cd_mask (cd_X E n S d) 4
  have gr : ∀ d x y, d < 3 → x < 16 → y < 16 → (∀ i, i < 4 → (x.testBit i = true ↔ cd_X E n S d i)) → (∀ i, i < 4 → (y.testBit i = true ↔ cd_X E n S (d + 1) i)) → cd_pc x < cd_pc y := by
    intro d x y h hx hy ex ey
    refine cd_pcS hx hy (fun i hi => ?_) (fun e => st d h (fun b hb t => ?_))
    · have h4 := cd_low (k := 4) hx hi
      exact (ey i h4).mpr (Or.inl ((ex i h4).mp hi))
    · rw [← ex b hb, e]
      exact (ey b hb).mpr t
  obtain ⟨x0, l0, e0⟩ := mk 0
  obtain ⟨x1, l1, e1⟩ := mk 1
  obtain ⟨x2, l2, e2⟩ := mk 2
  obtain ⟨x3, l3, e3⟩ := mk 3
  have g0 := gr 0 x0 x1 (by omega) l0 l1 e0 e1
  have g1 := gr 1 x1 x2 (by omega) l1 l2 e1 e2
  have g2 := gr 2 x2 x3 (by omega) l2 l3 e2 e3
  have p0 : cd_pc x0 ≠ 0 := by
    intro z
    have z0 := cd_pcC x0 l0 z
    refine st 0 (by omega) (fun b hb t => ?_)
    rcases t with t | ⟨k, hk, h4, hl, rfl⟩
    · exact t
    · have u := (e0 _ (cd_hl E hE k).1).mpr hl
      rw [z0, Nat.zero_testBit] at u
      cases u
  have z3 := cd_pcB x3 l3 (by omega)
  exact no ((e3 c hc).mp (by rw [z3]; exact cd_15 c hc))
theorem cd_path {E : Nat → Nat} (hE : ∀ k, E k < 16) {n S c : Nat} (N : Nat) (hc : c < 4) (hd : cd_Der E n S (fun i => S.testBit i = true) c) :
    ∃ p, cd_sub p S ∧ 0 < p ∧ cd_sz p N ≤ 4 ∧ ∀ W, cd_Mp E n W W → cd_sub p W → W.testBit c = true :=
  cd_X_p N 3 c (cd_X_3 hE hc hd)
/-- the next smaller part of a set -/
theorem cd_next : ∀ (N m c p : Nat), m < 2 ^ N → 0 < c → cd_sub c m → cd_sub p m → p < c → p ≤ (c - 1) &&& m := by
  intro N
  induction N with
  | zero =>
    intro m c p hm h0 hc hp hlt
    have := cd_sub_le hc
    omega
  | succ N ih =>
    intro m c p hm h0 hc hp hlt
    have hh : ∀ {a : Nat}, cd_sub a m → cd_sub (a / 2) (m / 2) := fun h i hi => by
      rw [Nat.testBit_div_two] at hi ⊢
      exact h _ hi
    have hz : ∀ {a : Nat}, cd_sub a m → a % 2 ≤ m % 2 := fun {a} h => by
      have t := h 0
      rw [Nat.testBit_zero, Nat.testBit_zero, decide_eq_true_iff, decide_eq_true_iff] at t
      omega
    have h1 : ((c - 1) &&& m) / 2 = ((c - 1) / 2) &&& (m / 2) := Nat.and_div_two
    have h2 : ((c - 1) &&& m) % 2 = if (c - 1) % 2 = 1 ∧ m % 2 = 1 then 1 else 0 := by
      have t : ((c - 1) &&& m).testBit 0 = ((c - 1).testBit 0 && m.testBit 0) := Nat.testBit_and ..
      rw [Nat.testBit_zero, Nat.testBit_zero, Nat.testBit_zero, ← Bool.decide_and, decide_eq_decide] at t
      split
      · exact t.mpr (by assumption)
      · have : ¬ ((c - 1) &&& m) % 2 = 1 := fun z => absurd (t.mp z) (by assumption)
        omega
    have hcz := hz hc
    have hpz := hz hp
    by_cases e : c % 2 = 1
    · have g : (c - 1) / 2 = c / 2 := by omega
      rw [g, cd_sub_and (hh hc)] at h1
      omega
    · have g : (c - 1) / 2 = c / 2 - 1 := by omega
      have t := ih (m / 2) (c / 2) (p / 2) (by rw [Nat.pow_succ] at hm; omega) (by omega) (hh hc) (hh hp) (by omega)
      rw [g] at h1
      rw [← h1] at t
      have g2 : (c - 1) % 2 = 1 := by omega
      rw [g2] at h2
      split at h2 <;> omega
/-! counting; the last one -/
noncomputable def cd_ct (P : Nat → Prop) : Nat → Nat
  | 0 => 0
  | n + 1 => cd_ct P n + @ite _ (P n) (Classical.propDecidable _) 1 0
theorem cd_ct_t {P : Nat → Prop} {n : Nat} (h : P n) : cd_ct P (n + 1) = cd_ct P n + 1 := by
  show cd_ct P n + @ite _ (P n) (Classical.propDecidable _) 1 0 = _
  rw [if_pos h]
theorem cd_ct_f {P : Nat → Prop} {n : Nat} (h : ¬ P n) : cd_ct P (n + 1) = cd_ct P n := by
  show cd_ct P n + @ite _ (P n) (Classical.propDecidable _) 1 0 = _
  rw [if_neg h, Nat.add_zero]
theorem cd_ct_le (P : Nat → Prop) (n : Nat) : cd_ct P n ≤ n := by
  induction n with
  | zero => exact Nat.le_refl _
  | succ n ih =>
    by_cases h : P n
    · rw [cd_ct_t h]; omega
    · rw [cd_ct_f h]; omega
noncomputable def cd_last (P : Nat → Prop) (w : Nat → Nat) : Nat → Int32
  | 0 => -4
  | n + 1 => @ite _ (P n) (Classical.propDecidable _) (nI (w n)) (cd_last P w n)
theorem cd_last_t {P : Nat → Prop} {w : Nat → Nat} {n : Nat} (h : P n) : cd_last P w (n + 1) = nI (w n) := by
  show @ite _ (P n) (Classical.propDecidable _) _ _ = _
  rw [if_pos h]
theorem cd_last_f {P : Nat → Prop} {w : Nat → Nat} {n : Nat} (h : ¬ P n) : cd_last P w (n + 1) = cd_last P w n := by
  show @ite _ (P n) (Classical.propDecidable _) _ _ = _
  rw [if_neg h]
theorem cd_last_c {P Q : Nat → Prop} {w : Nat → Nat} : ∀ n, (∀ j, j < n → (P j ↔ Q j)) → cd_last P w n = cd_last Q w n := by
  intro n
  induction n with
  | zero => exact fun _ => rfl
  | succ n ih =>
    intro h
    have t := ih (fun j hj => h j (by omega))
    by_cases p : P n
    · rw [cd_last_t p, cd_last_t ((h n (by omega)).mp p)]
    · rw [cd_last_f p, cd_last_f (fun q => p ((h n (by omega)).mpr q)), t]
theorem cd_last_0 {P : Nat → Prop} {w : Nat → Nat} : ∀ n, (∀ j, j < n → ¬ P j) → cd_last P w n = -4 := by
  intro n
  induction n with
  | zero => exact fun _ => rfl
  | succ n ih =>
    intro h
    rw [cd_last_f (h n (by omega)), ih (fun j hj => h j (by omega))]
end
section
/-! the law's closure and place; the desk's put, atom, join -/
theorem cd_inj {a b : Nat} (ha : a < 2 ^ 31) (hb : b < 2 ^ 31) (h : nI a = nI b) : a = b := (nI_eq ha hb).mp h
theorem cd_cl15 {post : Int32 → Prop} {J : Int32 → Int32 → Prop} {l n S v0 : Nat} {x5 : Int32} (hl : l < 2 ^ 31) (hn : n ≤ 7) (hS : S < 2 ^ 31) (hv : v0 < 16)
    (H : ∀ v, v < 16 → cd_sub v0 v → (∀ B, cd_sub v0 B → cd_Mp (cd_E l) n S B → cd_sub v B) → (v = v0 → cd_Mp (cd_E l) n S v) → J (nI v) (x5 + 1)) :
    ∃ fu, wL_closure_15 post J (nI l) (nI n) (nI S) x5 fu (nI v0) 0 := by
  refine pk_loop (fun fu k v => wL_closure_15 post J (nI l) (nI n) (nI S) x5 fu (nI v) (nI k))
    (fun k v => v < 16 ∧ cd_sub v0 v ∧ (∀ B, cd_sub v0 B → cd_Mp (cd_E l) n S B → cd_sub v B) ∧ (v = v0 → cd_Mp (cd_E l) k S v)) n 0 v0 (by omega)
    ⟨hv, fun _ h => h, fun B h _ => h, fun _ k hk => absurd hk (by omega)⟩
    (fun fu v h => pk_le n n (fun _ => nm_e (H v h.1 h.2.1 h.2.2.1 h.2.2.2)) (fun z => absurd z (by omega)))
    (fun fu k v hk h hw => pk_le n k (fun z => absurd z (by omega)) (fun _ => nm_r (cd_ent hl (by omega)) ?_))
  have he := cd_E_lt l k
  have hv16 := h.1
  have hlo := cd_lo he
  have hor : nI v ||| ((1 : Int32) <<< ((nI (cd_E l k) >>> ((2 : Int32) &&& 31)) &&& 31)) = nI (v ||| 2 ^ (cd_E l k / 4)) := by
    rw [cd_hi he, cd_one _ (by omega), cd_or]
  refine cd_bt (nI_add 4 k) hS (by omega) (fun t1 => cd_bt hlo (by omega) (by omega) (fun t2 => nm_r hor (nm_r (nI_1 k) (hw _ ⟨?_, ?_, ?_, ?_⟩))) (fun t2 => nm_r (nI_1 k) (hw _ ⟨h.1, h.2.1, h.2.2.1, fun e j hj h4 hl => ?_⟩))) (fun t1 => nm_r (nI_1 k) (hw _ ⟨h.1, h.2.1, h.2.2.1, fun e j hj h4 hl => ?_⟩))
  · exact Nat.or_lt_two_pow (n := 4) h.1 (Nat.pow_lt_pow_right (by omega) (by omega))
  · exact fun i t => cd_orP.mpr (Or.inl (h.2.1 i t))
  · intro B hB hm i t
    rcases cd_orP.mp t with u | u
    · exact h.2.2.1 B hB hm i u
    · rw [← u]
      exact hm k hk t1 (h.2.2.1 B hB hm _ t2)
  · intro e j hj h4 hl
    have e1 : v = v0 := cd_sub_a (fun i t => by rw [← e]; exact cd_orP.mpr (Or.inl t)) h.2.1
    by_cases ej : j = k
    · rw [ej]; exact cd_orP.mpr (Or.inr rfl)
    · rw [e, ← e1] at hl ⊢
      exact h.2.2.2 e1 j (by omega) h4 hl
  · by_cases ej : j = k
    · rw [ej, t2] at hl; cases hl
    · exact h.2.2.2 e j (by omega) h4 hl
  · by_cases ej : j = k
    · rw [ej, t1] at h4; cases h4
    · exact h.2.2.2 e j (by omega) h4 hl
theorem cd_closure {post : Int32 → Prop} {l n S A : Nat} (hl : l < 2 ^ 31) (hn : n ≤ 7) (hS : S < 2 ^ 31) (hA : A < 16)
    (H : ∀ v, v < 16 → (∀ b, b < 4 → (v.testBit b = true ↔ cd_Der (cd_E l) n S (fun i => A.testBit i = true) b)) → post (nI v)) :
    wpL_closure post () (nI l) (nI n) (nI S) (nI A) := by
  refine pk_loop (fun fu r v => wL_closure_6 post (nI l) (nI n) (nI S) fu (nI v) (nI r))
    (fun r v => v < 16 ∧ cd_sub A v ∧ (∀ B, cd_sub A B → cd_Mp (cd_E l) n S B → cd_sub v B) ∧ (cd_Mp (cd_E l) n S v ∨ r ≤ cd_pc v)) 4 0 A (by omega)
    ⟨hA, cd_sub_r A, fun B h _ => h, Or.inr (Nat.zero_le _)⟩
    (fun fu v h => pk_le 4 4 (fun _ => H v h.1 (fun b hb => ?_)) (fun z => absurd z (by omega)))
    (fun fu r v hr h hw => pk_le 4 r (fun z => absurd z (by omega)) (fun _ => cd_cl15 hl hn hS h.1 (fun v' g1 g2 g3 g4 => ?_)))
  · have hm : cd_Mp (cd_E l) n S v := h.2.2.2.elim id (fun t k _ _ _ => by
      rw [cd_pcB v h.1 t]
      exact cd_15 _ (cd_hl _ (cd_E_lt l) k).2)
    exact ⟨fun t B hB hB2 => h.2.2.1 B (fun i hi => hB i (cd_low (k := 4) hA hi) hi) hB2 b t, fun d => d v (fun i _ t => h.2.1 i t) hm⟩
  · rw [nI_1]
    refine hw v' ⟨g1, cd_sub_t h.2.1 g2, fun B hB hm => g3 B (h.2.2.1 B hB hm) hm, ?_⟩
    by_cases e : v' = v
    · exact Or.inl (g4 e)
    · have hp := cd_pcS h.1 g1 g2 (fun z => e z.symm)
      rcases h.2.2.2 with m | m
      · exact absurd (cd_sub_a (g3 v (cd_sub_r v) m) g2) e
      · exact Or.inr (by omega)
theorem cd_place {post : Int32 → Prop} {l n e : Nat} (hl : l < 2 ^ 31) (hn : n ≤ 7) (he : e < 16)
    (H : ∀ k, k ≤ n → (k < n → cd_E l k = e) → (∀ j, j < k → cd_E l j ≠ e) → post (nI k)) : wpL_place post () (nI l) (nI n) (nI e) := by
  refine pk_loop (σ := Unit) (fun fu k _ => wL_place_2 post (nI l) (nI n) (nI e) fu (nI k)) (fun k _ => ∀ j, j < k → cd_E l j ≠ e) n 0 () (by omega) (fun j hj => absurd hj (by omega))
    (fun fu _ h => pk_le n n (fun _ => H n (Nat.le_refl n) (fun z => absurd z (by omega)) h) (fun z => absurd z (by omega)))
    (fun fu k _ hk h hw => pk_le n k (fun z => absurd z (by omega)) (fun _ => ?_))
  have he' := cd_E_lt l k
  exact pk_eq (cd_E l k) e (fun t => H k (by omega) (fun _ => t) h) (fun t => nm_r (nI_1 k) (hw () (lt_s h t))) (cd_ent hl (by omega)) rfl (by omega) (by omega)
theorem cd_put {post : Int32 → St2 → Prop} {kn fo hu : Int32} {a1 a2 a3 a4 a5 : Nat → Int32} (c k p q r : Nat) (hc : c ≤ 11) (hk : k ≤ c) (hp : p < 16) (hq : q < 16) (hr : r < 16)
    (h1 : ∀ j, j < k → ¬ (a1 j = nI p ∧ a2 j = nI q ∧ a3 j = nI r)) (h2 : k < c → a1 k = nI p ∧ a2 k = nI q ∧ a3 k = nI r)
    (H1 : k < c → post (nI k) (nI c, kn, fo, hu, a1, a2, a3, a4, a5))
    (H2 : k = c → c < 11 ∧ post (nI c) (nI (c + 1), 0, fo, hu, upd a1 c (nI p), upd a2 c (nI q), upd a3 c (nI r), a4, a5)) :
    wpX_put post (nI c, kn, fo, hu, a1, a2, a3, a4, a5) (nI p) (nI q) (nI r) := by
  refine pk_loop (σ := Unit) (fun fu i _ => wX_put_3 post (nI p) (nI q) (nI r) (nI c) kn fo hu a1 a2 a3 a4 a5 fu (nI i)) (fun _ _ => True) k 0 () (by omega) trivial
    (fun fu _ _ => pk_le c k (fun z => ?_) (fun z => ?_))
    (fun fu i _ hi _ hw => pk_le c i (fun z => absurd z (by omega)) (fun _ => ⟨pk_in i 11 (by omega), ?_⟩))
  · obtain ⟨hc', H2⟩ := H2 (by omega)
    refine pk_eq c 11 (fun z => absurd z (by omega)) (fun _ => ?_)
    rw [nI_clamp (show c < 2 ^ 31 by omega), cd_by p hp, cd_by q hq, cd_by r hr]
    refine ⟨pk_in c 11 hc', nm_e ⟨pk_in c 11 hc', nm_e ⟨pk_in c 11 hc', nm_e (nm_r (nI_1 c) ?_)⟩⟩⟩
    rw [nI_pred]
    exact H2
  · rw [nI_clamp (show k < 2 ^ 31 by omega)]
    obtain ⟨e1, e2, e3⟩ := h2 z
    exact ⟨pk_in k 11 (by omega), br_t e1 ⟨pk_in k 11 (by omega), br_t e2 ⟨pk_in k 11 (by omega), br_t e3 (H1 z)⟩⟩⟩
  · rw [nI_clamp (show i < 2 ^ 31 by omega)]
    refine br_c (fun e1 => ⟨pk_in i 11 (by omega), br_c (fun e2 => ⟨pk_in i 11 (by omega), br_c (fun e3 => ?_) (fun e3 => ?_)⟩) (fun e2 => ?_)⟩) (fun e1 => ?_)
    · exact absurd ⟨e1, e2, e3⟩ (h1 i hi)
    · exact nm_r (nI_1 i) (hw () trivial)
    · exact nm_r (nI_1 i) (hw () trivial)
    · exact nm_r (nI_1 i) (hw () trivial)
theorem cd_atom {post : Int32 → St2 → Prop} {kn fo hu : Int32} {a1 a2 a3 a4 a5 : Nat → Int32} {c t : Nat} (hc : c < 4)
    (h : ∀ j, j < c → a1 j = nI 3 ∧ a2 j = nI ((j + t) % 4) ∧ a3 j = nI 0)
    (H : post (nI c) (nI (c + 1), 0, fo, hu, upd a1 c (nI 3), upd a2 c (nI ((c + t) % 4)), upd a3 c (nI 0), a4, a5)) :
    wpX_atom post (nI c, kn, fo, hu, a1, a2, a3, a4, a5) (nI ((c + t) % 4)) := by
  have ha : (c + t) % 4 < 4 := Nat.mod_lt _ (by omega)
  unfold wpX_atom
  refine br_f (nI_pos (by omega)) (br_t (nI_lt (b := 4) ha (by omega)) ?_)
  refine cd_put c c 3 ((c + t) % 4) 0 (by omega) (Nat.le_refl c) (by omega) (by omega) (by omega) (fun j hj z => ?_) (fun z => absurd z (by omega)) (fun z => absurd z (by omega)) (fun _ => ⟨by omega, H⟩)
  have e := cd_inj (by omega) (by omega) ((h j hj).2.1.symm.trans z.2.1)
  omega
theorem cd_miss {post : Int32 → Prop} {kn fo hu : Int32} {a1 a2 a3 a4 a5 : Nat → Int32} {c i : Nat} (hi : i < c) (hc : c < 2 ^ 31) (h : post 0) :
    wpX_missing post (nI c, kn, fo, hu, a1, a2, a3, a4, a5) (nI i) :=
  br_f (nI_pos (by omega)) (br_t (nI_lt hi hc) h)
/-- the list: four atoms, n implications -/
def cd_K (t n : Nat) (E : Nat → Nat) (a1 a2 a3 : Nat → Int32) : Prop :=
  (∀ i, i < 4 → a1 i = nI 3 ∧ a2 i = nI ((i + t) % 4) ∧ a3 i = nI 0) ∧ (∀ k, k < n → a1 (4 + k) = nI 2 ∧ a2 (4 + k) = nI (E k % 4) ∧ a3 (4 + k) = nI (E k / 4))
theorem cd_join {post : Int32 → St2 → Prop} {kn fo hu : Int32} {a1 a2 a3 a4 a5 : Nat → Int32} {t n e k : Nat} {E : Nat → Nat} (hE : ∀ k, E k < 16) (hn : n < 7) (he : e < 16) (K : cd_K t n E a1 a2 a3) (hk : k ≤ n)
    (h1 : k < n → E k = e) (h2 : ∀ j, j < k → E j ≠ e)
    (H1 : k < n → post (nI (4 + k)) (nI (4 + n), kn, fo, hu, a1, a2, a3, a4, a5))
    (H2 : k = n → post (nI (4 + n)) (nI (4 + n + 1), 0, fo, hu, upd a1 (4 + n) (nI 2), upd a2 (4 + n) (nI (e % 4)), upd a3 (4 + n) (nI (e / 4)), a4, a5)) :
    wpX_join post (nI (4 + n), kn, fo, hu, a1, a2, a3, a4, a5) 2 (nI (e % 4)) (nI (e / 4)) := by
  unfold wpX_join
  refine br_f (by decide) (br_f (by decide) ?_)
  refine cd_miss (by omega) (by omega) (br_t rfl ?_)
  refine cd_miss (by omega) (by omega) (br_t rfl ?_)
  refine cd_put (4 + n) (4 + k) 2 (e % 4) (e / 4) (by omega) (by omega) (by omega) (by omega) (by omega) (fun j hj z => ?_) (fun z => ?_) (fun z => H1 (by omega)) (fun z => ⟨by omega, H2 (by omega)⟩)
  · rcases cd_pl j k hj with g | ⟨i, hi, rfl⟩
    · exact absurd (cd_inj (by omega) (by omega) ((K.1 j g).1.symm.trans z.1)) (by omega)
    · have q := K.2 i (by omega)
      have hEi := hE i
      have e1 := cd_inj (by omega) (by omega) (q.2.1.symm.trans z.2.1)
      have e2 := cd_inj (by omega) (by omega) (q.2.2.symm.trans z.2.2)
      exact h2 i hi (by omega)
  · have q := K.2 k (by omega)
    rw [h1 (by omega)] at q
    exact q
end
section
/-! keeps, parts, isWorld, find -/
theorem cd_fin {post : Int32 → Prop} (g : Bool) (f0 : g = false → post 0) (f1 : g = true → post 1) : narrow .boolean (.int (cd_b g)) = .int (cd_b g) ∧ post (cd_b g) := by
  cases g
  · exact ⟨rfl, f0 rfl⟩
  · exact ⟨rfl, f1 rfl⟩
theorem cd_keeps {post : Int32 → Prop} {t n s : Nat} {E : Nat → Nat} {kn fo hu : Int32} {a1 a2 a3 a4 a5 : Nat → Int32} (hE : ∀ k, E k < 16) (hn : n ≤ 7) (K : cd_K t n E a1 a2 a3) (hs : s < 2 ^ 31)
    (H1 : cd_kp E n s → post 1) (H0 : ¬ cd_kp E n s → post 0) : wpX_keeps post (nI (4 + n), kn, fo, hu, a1, a2, a3, a4, a5) (nI s) := by
  refine pk_loop (fun fu i g => wX_keeps_4 post (nI s) (nI (4 + n)) kn fo hu a1 a2 a3 a4 a5 fu (cd_b g) (nI i))
    (fun i g => (g = true → ∀ k, 4 + k < i → cd_kp1 E s k) ∧ (g = false → ¬ cd_kp E n s)) (4 + n) 0 true (by omega) ⟨fun _ k hk => absurd hk (by omega), fun z => (by cases z)⟩
    (fun fu g h => pk_le (4 + n) (4 + n) (fun _ => cd_fin g (fun e => H0 (h.2 e)) (fun e => H1 (fun k hk => h.1 e k (by omega)))) (fun z => absurd z (by omega)))
    (fun fu i g hi h hw => pk_le (4 + n) i (fun z => absurd z (by omega)) (fun _ => cd_z (fun e => cd_fin g (fun e => H0 (h.2 e)) (fun e' => absurd (e.symm.trans e') (by decide))) (fun e => ?_)))
  subst e
  have h1 := h.1 rfl
  rw [nI_clamp (show i < 2 ^ 31 by omega)]
  have hi11 : i < 11 := by omega
  rcases cd_pl i n hi with q | ⟨k, hk, rfl⟩
  · obtain ⟨e1, e2, e3⟩ := K.1 i q
    rw [e1, e2, e3]
    refine cd_in hs (by omega) ⟨pk_in i 11 hi11, cd_in hs (by omega) ⟨pk_in i 11 hi11, cd_in hs (by omega) ⟨pk_in i 11 hi11, br_f (by decide) ⟨pk_in i 11 hi11, br_f (by decide) ⟨pk_in i 11 hi11, br_f (by decide) ⟨pk_in i 11 hi11, br_f (by decide) (nm_r (nI_1 i) (hw true ⟨fun _ k hk => absurd hk (by omega), fun z => (by cases z)⟩))⟩⟩⟩⟩⟩⟩
  · obtain ⟨e1, e2, e3⟩ := K.2 k hk
    have hl := cd_hl E hE k
    rw [e1, e2, e3]
    have ok : cd_kp1 E s k → wX_keeps_4 post (nI s) (nI (4 + n)) kn fo hu a1 a2 a3 a4 a5 fu (cd_b true) (nI (4 + k + 1)) := by
      intro p
      refine hw true ⟨fun _ j hj => ?_, fun z => (by cases z)⟩
      by_cases ej : j = k
      · rw [ej]; exact p
      · exact h1 j (by omega)
    have no : ¬ cd_kp1 E s k → wX_keeps_4 post (nI s) (nI (4 + n)) kn fo hu a1 a2 a3 a4 a5 fu (cd_b false) (nI (4 + k + 1)) :=
      fun p => hw false ⟨fun z => (by cases z), fun _ z => p (z k hk)⟩
    refine cd_in hs (by omega) ⟨pk_in _ 11 hi11, cd_in hs (by omega) ⟨pk_in _ 11 hi11, cd_in hs (by omega) ⟨pk_in _ 11 hi11, br_f (by decide) ⟨pk_in _ 11 hi11, br_f (by decide) ⟨pk_in _ 11 hi11, br_t rfl ?_⟩⟩⟩⟩⟩
    refine cd_z (fun e5 => cd_z (fun e9 => nm_r (nI_1 _) (ok ?_)) (fun e9 => nm_r (nI_1 _) (no ?_))) (fun e5 => cd_z (fun e7 => nm_r (nI_1 _) (ok ?_)) (fun e7 => cd_z (fun e9 => nm_r (nI_1 _) (no ?_)) (fun e9 => nm_r (nI_1 _) (ok ?_))))
    · exact ⟨fun z => (by rw [e5] at z; cases z), fun _ => e9⟩
    · intro p
      have u := p.2 e5
      rw [e9] at u; cases u
    · exact ⟨fun _ z => (by rw [e7] at z; cases z), fun z => (by rw [e5] at z; cases z)⟩
    · intro p
      have u := p.1 e5 e7
      rw [e9] at u; cases u
    · exact ⟨fun _ _ => e9, fun z => (by rw [e5] at z; cases z)⟩
/-- the worlds found so far, as the array holds them -/
def cd_A (w : Nat → Nat) (f : Nat) (a4 : Nat → Int32) : Prop := ∀ j, j < f → a4 j = nI (w j) ∧ w j < 2048
theorem cd_partsL {post : Int32 → Prop} {f s a b : Nat} {w : Nat → Nat} {c kn hu : Int32} {a1 a2 a3 a4 a5 : Nat → Int32} (hf : f ≤ 2048) (hA : cd_A w f a4) (hs : s < 2 ^ 31) (ha : a < 32) (hb : b < 32)
    (h0 : ¬ (s.testBit a = true ∧ s.testBit b = false)) (H1 : cd_par w f s a b → post 1) (H0 : ¬ cd_par w f s a b → post 0) :
    ∃ fu, wX_parts_23 post (nI s) (nI a) (nI b) c kn (nI f) hu a1 a2 a3 a4 a5 fu 0 := by
  refine pk_loop (σ := Unit) (fun fu i _ => wX_parts_23 post (nI s) (nI a) (nI b) c kn (nI f) hu a1 a2 a3 a4 a5 fu (nI i))
    (fun i _ => ∀ j, j < i → ¬ (cd_sub s (w j) ∧ (w j).testBit a = true ∧ (w j).testBit b = false)) f 0 () (by omega) (fun j hj => absurd hj (by omega))
    (fun fu _ h => pk_le f f (fun _ => H0 (fun p => p.elim h0 (fun ⟨j, hj, q⟩ => h j hj q))) (fun z => absurd z (by omega)))
    (fun fu i _ hi h hw => pk_le f i (fun z => absurd z (by omega)) (fun _ => ⟨pk_in i 2048 (by omega), nm_r (e' := nI (w i)) (by rw [nI_clamp (by omega)]; exact (hA i hi).1) ?_⟩))
  have hwi := (hA i hi).2
  refine ek_if (cd_subI hs) (fun t => cd_in (by omega) ha (cd_z (fun e => nm_r (nI_1 i) (hw () (lt_s h (fun q => ?_)))) (fun e => cd_in (by omega) hb (cd_z (fun e' => H1 (Or.inr ⟨i, hi, t, e, e'⟩)) (fun e' => nm_r (nI_1 i) (hw () (lt_s h (fun q => ?_)))))))) (fun t => nm_r (nI_1 i) (hw () (lt_s h (fun q => t q.1))))
  · have u := q.2.1
    rw [e] at u; cases u
  · have u := q.2.2
    rw [e'] at u; cases u
theorem cd_parts {post : Int32 → Prop} {f s a b : Nat} {w : Nat → Nat} {c kn hu : Int32} {a1 a2 a3 a4 a5 : Nat → Int32} (hf : f ≤ 2048) (hA : cd_A w f a4) (hs : s < 2 ^ 31) (ha : a < 32) (hb : b < 32)
    (H1 : cd_par w f s a b → post 1) (H0 : ¬ cd_par w f s a b → post 0) : wpX_parts post (c, kn, nI f, hu, a1, a2, a3, a4, a5) (nI s) (nI a) (nI b) := by
  unfold wpX_parts
  refine cd_in hs ha (cd_z (fun e => cd_partsL hf hA hs ha hb (fun q => ?_) H1 H0) (fun e => cd_in hs hb (cd_z (fun e' => H1 (Or.inl ⟨e, e'⟩)) (fun e' => cd_partsL hf hA hs ha hb (fun q => ?_) H1 H0))))
  · have u := q.1
    rw [e] at u; cases u
  · have u := q.2
    rw [e'] at u; cases u
theorem cd_isWorldL {post : Int32 → Prop} {t n f s : Nat} {E w : Nat → Nat} {kn hu : Int32} {a1 a2 a3 a4 a5 : Nat → Int32} (hE : ∀ k, E k < 16) (hn : n ≤ 7) (K : cd_K t n E a1 a2 a3) (hf : f ≤ 2048) (hA : cd_A w f a4) (hs : s < 2 ^ 31)
    (H1 : cd_wd E n w f s → post 1) (H0 : ¬ cd_wd E n w f s → post 0) (g0 : Bool) (hg : g0 = true ↔ cd_kp E n s) :
    ∃ fu, wX_isWorld_8 post (nI s) (nI (4 + n)) kn (nI f) hu a1 a2 a3 a4 a5 fu (cd_b g0) 0 := by
  refine pk_loop (fun fu i g => wX_isWorld_8 post (nI s) (nI (4 + n)) kn (nI f) hu a1 a2 a3 a4 a5 fu (cd_b g) (nI i))
    (fun i g => (g = true → cd_kp E n s ∧ ∀ k, 4 + k < i → s.testBit (4 + k) = false → cd_par w f s (E k % 4) (E k / 4)) ∧ (g = false → ¬ cd_wd E n w f s)) (4 + n) 0 g0 (by omega)
    ⟨fun z => ⟨hg.mp z, fun k hk => absurd hk (by omega)⟩, fun z y => cd_nt.mp z (hg.mpr y.1)⟩
    (fun fu g h => pk_le (4 + n) (4 + n) (fun _ => cd_fin g (fun e => H0 (h.2 e)) (fun e => H1 ⟨(h.1 e).1, fun k hk => (h.1 e).2 k (by omega)⟩)) (fun z => absurd z (by omega)))
    (fun fu i g hi h hw => pk_le (4 + n) i (fun z => absurd z (by omega)) (fun _ => cd_z (fun e => cd_fin g (fun e => H0 (h.2 e)) (fun e' => absurd (e.symm.trans e') (by decide))) (fun e => ⟨pk_in i 11 (by omega), ?_⟩)))
  subst e
  have h1 := (h.1 rfl).2
  have hkp := (h.1 rfl).1
  rw [nI_clamp (show i < 2 ^ 31 by omega)]
  have hi11 : i < 11 := by omega
  rcases cd_pl i n hi with q | ⟨k, hk, rfl⟩
  · obtain ⟨e1, e2, e3⟩ := K.1 i q
    rw [e1]
    exact br_f (by decide) (nm_r (nI_1 i) (hw true ⟨fun _ => ⟨hkp, fun k hk => absurd hk (by omega)⟩, fun z => (by cases z)⟩))
  · obtain ⟨e1, e2, e3⟩ := K.2 k hk
    have hl := cd_hl E hE k
    rw [e1, e2, e3]
    have ok : (s.testBit (4 + k) = false → cd_par w f s (E k % 4) (E k / 4)) → wX_isWorld_8 post (nI s) (nI (4 + n)) kn (nI f) hu a1 a2 a3 a4 a5 fu (cd_b true) (nI (4 + k + 1)) := by
      intro p
      refine hw true ⟨fun _ => ⟨hkp, fun j hj => ?_⟩, fun z => (by cases z)⟩
      by_cases ej : j = k
      · rw [ej]; exact p
      · exact h1 j (by omega)
    refine br_t rfl (cd_in hs (by omega) (cd_z (fun e => ⟨pk_in _ 11 hi11, pk_in _ 11 hi11, cd_parts hf hA hs (by omega) (by omega) (fun p => nm_r (nI_1 _) (ok (fun _ => p))) (fun p => nm_r (nI_1 _) (hw false ⟨fun z => (by cases z), fun _ y => p (y.2 k hk e)⟩))⟩) (fun e => nm_r (nI_1 _) (ok (fun z => (by rw [e] at z; cases z))))))
theorem cd_isWorld {post : Int32 → Prop} {t n f s : Nat} {E w : Nat → Nat} {kn hu : Int32} {a1 a2 a3 a4 a5 : Nat → Int32} (hE : ∀ k, E k < 16) (hn : n ≤ 7) (K : cd_K t n E a1 a2 a3) (hf : f ≤ 2048) (hA : cd_A w f a4) (hs : s < 2 ^ 31)
    (H1 : cd_wd E n w f s → post 1) (H0 : ¬ cd_wd E n w f s → post 0) : wpX_isWorld post (nI (4 + n), kn, nI f, hu, a1, a2, a3, a4, a5) (nI s) := by
  unfold wpX_isWorld
  exact cd_keeps hE hn K hs (fun p => cd_isWorldL hE hn K hf hA hs H1 H0 true ⟨fun _ => p, fun _ => rfl⟩) (fun p => cd_isWorldL hE hn K hf hA hs H1 H0 false ⟨fun z => (by cases z), fun z => absurd z p⟩)
/-- what the search has found among the sets from i upwards -/
def cd_F (E : Nat → Nat) (n i f : Nat) (w : Nat → Nat) (a4 : Nat → Int32) : Prop :=
  (∀ j, j < f → a4 j = nI (w j) ∧ w j < 2 ^ (4 + n) ∧ cd_Th E n (w j)) ∧ (∀ m, i ≤ m → m < 2 ^ (4 + n) → cd_Th E n m → ∃ j, j < f ∧ w j = m) ∧ f + cd_ct (cd_Th E n) i = cd_ct (cd_Th E n) (2 ^ (4 + n)) ∧ f + i ≤ 2 ^ (4 + n)
theorem cd_F_add {E : Nat → Nat} {n i f : Nat} {w : Nat → Nat} {a4 : Nat → Int32} (h : cd_F E n (i + 1) f w a4) (ht : cd_Th E n i) : cd_F E n i (f + 1) (fun j => if j = f then i else w j) (upd a4 f (nI i)) := by
  obtain ⟨h1, h2, h3, h4⟩ := h
  refine ⟨fun j hj => ?_, fun m hm hm2 hm3 => ?_, ?_, by omega⟩
  · by_cases e : j = f
    · rw [e, pk_us]
      dsimp only
      rw [if_pos rfl]
      exact ⟨rfl, by omega, ht⟩
    · rw [pk_un e]
      dsimp only
      rw [if_neg e]
      exact h1 j (by omega)
  · by_cases e : m = i
    · exact ⟨f, by omega, by dsimp only; rw [if_pos rfl, e]⟩
    · obtain ⟨j, hj, ej⟩ := h2 m (by omega) hm2 hm3
      exact ⟨j, by omega, by dsimp only; rw [if_neg (by omega), ej]⟩
  · rw [cd_ct_t ht] at h3
    omega
theorem cd_F_not {E : Nat → Nat} {n i f : Nat} {w : Nat → Nat} {a4 : Nat → Int32} (h : cd_F E n (i + 1) f w a4) (ht : ¬ cd_Th E n i) : cd_F E n i f w a4 := by
  obtain ⟨h1, h2, h3, h4⟩ := h
  refine ⟨h1, fun m hm hm2 hm3 => ?_, ?_, by omega⟩
  · by_cases e : m = i
    · rw [e] at hm3; exact absurd hm3 ht
    · exact h2 m (by omega) hm2 hm3
  · rw [cd_ct_f ht] at h3
    exact h3
theorem cd_every {post : Int32 → Prop} {kn fo hu : Int32} {a1 a2 a3 a4 a5 : Nat → Int32} {N : Nat} (hN : N < 31) (h : post (nI (2 ^ N - 1))) : wpX_every post (nI N, kn, fo, hu, a1, a2, a3, a4, a5) := by
  show post (((1 : Int32) <<< (nI N &&& 31)) - 1)
  rw [cd_ev N hN]
  exact h
theorem cd_find {post : St2 → Prop} {t n : Nat} {E : Nat → Nat} {fo hu : Int32} {a1 a2 a3 a4 a5 : Nat → Int32} (hE : ∀ k, E k < 16) (hn : n ≤ 7) (K : cd_K t n E a1 a2 a3)
    (H : ∀ f w b4, cd_F E n 0 f w b4 → post (nI (4 + n), 1, nI f, hu, a1, a2, a3, b4, a5)) : wpX_find post (nI (4 + n), 0, fo, hu, a1, a2, a3, a4, a5) := by
  unfold wpX_find
  have hp := cd_p31 (show 4 + n ≤ 11 by omega)
  have hp0 := cd_pp (4 + n)
  refine br_t rfl (cd_every (by omega) ?_)
  have h0 : cd_F E n (2 ^ (4 + n)) 0 (fun _ => 0) a4 := ⟨fun j hj => absurd hj (by omega), fun m hm hm2 => absurd hm2 (by omega), by omega, by omega⟩
  have key := pk_loopD (fun fu i (s : Nat × (Nat → Int32)) => wX_find_23 post (nI (4 + n)) 1 hu fu (nI i + (-1)) (nI s.1) a1 a2 a3 s.2 a5)
    (fun i s => ∃ w, cd_F E n i s.1 w s.2)
    (fun fu s h => by
      obtain ⟨w, h⟩ := h
      exact br_t (by decide) (H s.1 w s.2 h))
    (fun fu i s h hw => by
      obtain ⟨w, h⟩ := h
      obtain ⟨f, b4⟩ := s
      have hlt := h.2.2.2
      dsimp only at h hlt
      show wX_find_23 post (nI (4 + n)) 1 hu (fu + 1) (nI (i + 1) + (-1)) (nI f) a1 a2 a3 b4 a5
      rw [pk_m1]
      have hA : cd_A w f b4 := fun j hj => ⟨(h.1 j hj).1, by have := (h.1 j hj).2.1; omega⟩
      have hiff : cd_wd E n w f i ↔ cd_Th E n i := cd_wd_iff hE (fun j hj => (h.1 j hj).2.2) (fun m hm => h.2.1 m (by omega)) (by omega)
      have ha : upd b4 (nI f).toNatClampNeg (nI i).toInt16.toInt32 = upd b4 f (nI i) := by rw [nI_clamp (by omega), cd_sh (by omega)]
      exact br_f (nI_pos (by omega)) (cd_isWorld hE hn K (by omega) hA (by omega) (fun y => br_f (by decide) ⟨pk_in f 2048 (by omega), nm_r ha (nm_r (nI_1 f) (nm_e (hw (f + 1, upd b4 f (nI i)) ⟨_, cd_F_add h (hiff.mp y)⟩)))⟩) (fun y => br_t rfl (nm_e (hw (f, b4) ⟨w, cd_F_not h (fun z => y (hiff.mpr z))⟩)))))
    (2 ^ (4 + n)) (0, a4) ⟨_, h0⟩
  refine ⟨2 ^ (4 + n) + 1, ?_⟩
  dsimp only at key
  rw [sb_m1 hp0] at key
  exact key
theorem cd_find1 {post : St2 → Prop} {c fo hu : Int32} {a1 a2 a3 a4 a5 : Nat → Int32} (h : post (c, 1, fo, hu, a1, a2, a3, a4, a5)) : wpX_find post (c, 1, fo, hu, a1, a2, a3, a4, a5) :=
  br_f (by decide) h
end
section
/-! what the desk answers once the worlds are known -/
theorem cd_FA {E : Nat → Nat} {n f : Nat} {w : Nat → Nat} {a4 : Nat → Int32} (hn : n ≤ 7) (h : cd_F E n 0 f w a4) : cd_A w f a4 := by
  have hp := cd_p31 (show 4 + n ≤ 11 by omega)
  exact fun j hj => ⟨(h.1 j hj).1, by have := (h.1 j hj).2.1; omega⟩
theorem cd_Fls {E : Nat → Nat} {n f : Nat} {w : Nat → Nat} {a4 : Nat → Int32} (h : cd_F E n 0 f w a4) : cd_ls E n w f :=
  ⟨fun j hj => (h.1 j hj).2, fun m => h.2.1 m (Nat.zero_le m)⟩
theorem cd_Ff {E : Nat → Nat} {n f : Nat} {w : Nat → Nat} {a4 : Nat → Int32} (hn : n ≤ 7) (h : cd_F E n 0 f w a4) : f ≤ 2048 := by
  have hp := cd_p31 (show 4 + n ≤ 11 by omega)
  have := h.2.2.2
  omega
theorem cd_Fc {E : Nat → Nat} {n f : Nat} {w : Nat → Nat} {a4 : Nat → Int32} (h : cd_F E n 0 f w a4) : f = cd_ct (cd_Th E n) (2 ^ (4 + n)) := h.2.2.1
theorem cd_cls {post : Int32 → Prop} {n f S G : Nat} {E w : Nat → Nat} {kn hu : Int32} {a1 a2 a3 a4 a5 : Nat → Int32} (hE : ∀ k, E k < 16) (hn : n ≤ 7) (h : cd_F E n 0 f w a4) (hS : S < 2 ^ (4 + n)) (hG : G < 2 ^ (4 + n)) (c : cd_Cl E n S G)
    (H : post (nI G)) : wpX_closure post (nI (4 + n), kn, nI f, hu, a1, a2, a3, a4, a5) (nI S) := by
  have hp := cd_p31 (show 4 + n ≤ 11 by omega)
  have hp0 := cd_pp (4 + n)
  have hA := cd_FA hn h
  have hf := cd_Ff hn h
  unfold wpX_closure
  refine cd_every (by omega) ?_
  refine pk_loop (fun fu i r => wX_closure_7 post (nI S) (nI (4 + n)) kn (nI f) hu a1 a2 a3 a4 a5 fu (nI r) (nI i))
    (fun i r => r < 2 ^ (4 + n) ∧ ∀ b, b < 4 + n → (r.testBit b = true ↔ ∀ j, j < i → cd_sub S (w j) → (w j).testBit b = true)) f 0 (2 ^ (4 + n) - 1) (by omega)
    ⟨by omega, fun b hb => ⟨fun _ j hj => absurd hj (by omega), fun _ => by rw [Nat.testBit_two_pow_sub_one]; exact decide_eq_true hb⟩⟩
    (fun fu r g => pk_le f f (fun _ => ?_) (fun z => absurd z (by omega)))
    (fun fu i r hi g hw => pk_le f i (fun z => absurd z (by omega)) (fun _ => ⟨pk_in i 2048 (by omega), ?_⟩))
  · rw [cd_meet hE (cd_Fls h) hS hG c g.1 g.2]
    exact H
  · rw [nI_clamp (show i < 2 ^ 31 by omega), (hA i hi).1]
    refine ek_if (cd_subI (by omega)) (fun t => ⟨pk_in i 2048 (by omega), nm_r (cd_and r (w i)) (nm_r (nI_1 i) (hw _ ⟨Nat.lt_of_le_of_lt Nat.and_le_left g.1, fun b hb => ?_⟩))⟩) (fun t => nm_r (nI_1 i) (hw r ⟨g.1, fun b hb => ?_⟩))
    · rw [cd_andT, g.2 b hb]
      exact ⟨fun q => lt_s q.1 (fun _ => q.2), fun q => ⟨fun j hj => q j (by omega), q i (by omega) t⟩⟩
    · rw [g.2 b hb]
      exact ⟨fun q => lt_s q (fun z => absurd z t), fun q j hj => q j (by omega)⟩
theorem cd_all1 {post : Int32 → St2 → Prop} {n f S G : Nat} {E w : Nat → Nat} {x hu : Int32} {a1 a2 a3 a4 a5 : Nat → Int32} (hE : ∀ k, E k < 16) (hn : n ≤ 7) (h : cd_F E n 0 f w a4) (hx : x &&& nI (2 ^ (4 + n) - 1) = nI S) (hS : S < 2 ^ (4 + n)) (hG : G < 2 ^ (4 + n)) (c : cd_Cl E n S G)
    (H : post (nI G) (nI (4 + n), 1, nI f, hu, a1, a2, a3, a4, a5)) : wpX_all post (nI (4 + n), 1, nI f, hu, a1, a2, a3, a4, a5) x := by
  unfold wpX_all
  refine cd_find1 ?_
  exact cd_every (by omega) (nm_r hx (cd_cls hE hn h hS hG c H))
theorem cd_all0 {post : Int32 → St2 → Prop} {t n S G : Nat} {E : Nat → Nat} {x fo hu : Int32} {a1 a2 a3 a4 a5 : Nat → Int32} (hE : ∀ k, E k < 16) (hn : n ≤ 7) (K : cd_K t n E a1 a2 a3) (hx : x &&& nI (2 ^ (4 + n) - 1) = nI S) (hS : S < 2 ^ (4 + n)) (hG : G < 2 ^ (4 + n)) (c : cd_Cl E n S G)
    (H : ∀ f w b4, cd_F E n 0 f w b4 → post (nI G) (nI (4 + n), 1, nI f, hu, a1, a2, a3, b4, a5)) : wpX_all post (nI (4 + n), 0, fo, hu, a1, a2, a3, a4, a5) x := by
  unfold wpX_all
  refine cd_find hE hn K (fun f w b4 h => ?_)
  exact cd_every (by omega) (nm_r hx (cd_cls hE hn h hS hG c (H f w b4 h)))
theorem cd_sat {post : Int32 → St2 → Prop} {n f S : Nat} {E w : Nat → Nat} {x hu : Int32} {a1 a2 a3 a4 a5 : Nat → Int32} (hn : n ≤ 7) (h : cd_F E n 0 f w a4) (hx : x &&& nI (2 ^ (4 + n) - 1) = nI S) (hS : S < 2 ^ (4 + n))
    (H1 : cd_Th E n S → post 1 (nI (4 + n), 1, nI f, hu, a1, a2, a3, a4, a5)) (H0 : ¬ cd_Th E n S → post 0 (nI (4 + n), 1, nI f, hu, a1, a2, a3, a4, a5)) : wpX_saturated post (nI (4 + n), 1, nI f, hu, a1, a2, a3, a4, a5) x := by
  have hp := cd_p31 (show 4 + n ≤ 11 by omega)
  have hA := cd_FA hn h
  have hf := cd_Ff hn h
  have hls := cd_Fls h
  unfold wpX_saturated
  refine cd_find1 ?_
  refine cd_every (by omega) (nm_r hx ?_)
  refine pk_loop (fun fu i g => wX_saturated_16 post (nI S) (nI (4 + n)) 1 (nI f) hu a1 a2 a3 a4 a5 fu (cd_b g) (nI i))
    (fun i g => g = true ↔ ∃ j, j < i ∧ w j = S) f 0 false (by omega) ⟨fun z => (by cases z), fun ⟨j, hj, _⟩ => absurd hj (by omega)⟩
    (fun fu g q => pk_le f f (fun _ => ?_) (fun z => absurd z (by omega)))
    (fun fu i g hi q hw => pk_le f i (fun z => absurd z (by omega)) (fun _ => ⟨pk_in i 2048 (by omega), ?_⟩))
  · cases g
    · refine H0 (fun z => ?_)
      have u := q.mpr (hls.2 S hS z)
      cases u
    · obtain ⟨j, hj, e⟩ := q.mp rfl
      exact H1 (e ▸ (hls.1 j hj).2)
  · have hwi := hA i hi
    rw [nI_clamp (show i < 2 ^ 31 by omega), hwi.1]
    have hwi2 := hwi.2
    refine pk_eq (w i) S (fun e => nm_r (nI_1 i) (hw true ⟨fun _ => ⟨i, by omega, e⟩, fun _ => rfl⟩)) (fun e => nm_r (nI_1 i) (hw g (q.trans ⟨fun ⟨j, hj, ej⟩ => ⟨j, by omega, ej⟩, fun ⟨j, hj, ej⟩ => ⟨j, ?_, ej⟩⟩)))
    have : j ≠ i := fun z => e (z ▸ ej)
    omega
theorem cd_missF {post : Int32 → Prop} {kn fo hu : Int32} {a1 a2 a3 a4 a5 : Nat → Int32} {c : Nat} (hc : c < 2 ^ 31) (h : post 1) :
    wpX_missing post (nI c, kn, fo, hu, a1, a2, a3, a4, a5) (nI c) :=
  br_f (nI_pos hc) (br_f (nI_nlt (Nat.le_refl c) hc) h)
theorem cd_follows {post : Int32 → St2 → Prop} {n f S G i : Nat} {E w : Nat → Nat} {x hu : Int32} {a1 a2 a3 a4 a5 : Nat → Int32} (hE : ∀ k, E k < 16) (hn : n ≤ 7) (h : cd_F E n 0 f w a4) (hx : x &&& nI (2 ^ (4 + n) - 1) = nI S) (hS : S < 2 ^ (4 + n)) (hG : G < 2 ^ (4 + n)) (c : cd_Cl E n S G) (hi : i < 4 + n)
    (H : post (cd_b (G.testBit i)) (nI (4 + n), 1, nI f, hu, a1, a2, a3, a4, a5)) : wpX_follows post (nI (4 + n), 1, nI f, hu, a1, a2, a3, a4, a5) x (nI i) := by
  have hp := cd_p31 (show 4 + n ≤ 11 by omega)
  unfold wpX_follows
  refine cd_miss hi (by omega) (br_t rfl (cd_find1 ?_))
  refine cd_every (by omega) (nm_r hx (cd_cls hE hn h hS hG c ?_))
  rw [cd_bitB (by omega) (by omega)]
  exact H
theorem cd_followsF {post : Int32 → St2 → Prop} {n : Nat} {x kn fo hu : Int32} {a1 a2 a3 a4 a5 : Nat → Int32} (hn : n ≤ 7)
    (H : post (-1) (nI (4 + n), kn, fo, hu, a1, a2, a3, a4, a5)) : wpX_follows post (nI (4 + n), kn, fo, hu, a1, a2, a3, a4, a5) x (nI (4 + n)) := by
  unfold wpX_follows
  exact cd_missF (by omega) (br_f (by decide) H)
theorem cd_against {post : Int32 → St2 → Prop} {n f S c : Nat} {E w : Nat → Nat} {x hu : Int32} {a1 a2 a3 a4 a5 : Nat → Int32} (hn : n ≤ 7) (h : cd_F E n 0 f w a4) (hx : x &&& nI (2 ^ (4 + n) - 1) = nI S) (hS : S < 2 ^ (4 + n)) (hc : c < 4 + n)
    (H : post (cd_last (fun j => cd_sub S (w j) ∧ (w j).testBit c = false) w f) (nI (4 + n), 1, nI f, hu, a1, a2, a3, a4, a5)) : wpX_against post (nI (4 + n), 1, nI f, hu, a1, a2, a3, a4, a5) x (nI c) := by
  have hp := cd_p31 (show 4 + n ≤ 11 by omega)
  have hA := cd_FA hn h
  have hf := cd_Ff hn h
  unfold wpX_against
  refine cd_miss hc (by omega) (br_t rfl (cd_find1 ?_))
  refine cd_every (by omega) (nm_r hx ?_)
  refine pk_loop (fun fu i v => wX_against_28 post (nI c) (nI S) (nI (4 + n)) 1 (nI f) hu a1 a2 a3 a4 a5 fu v (nI i))
    (fun i v => v = cd_last (fun j => cd_sub S (w j) ∧ (w j).testBit c = false) w i) f 0 (-4) (by omega) rfl
    (fun fu v q => pk_le f f (fun _ => by rw [q]; exact H) (fun z => absurd z (by omega)))
    (fun fu i v hi q hw => pk_le f i (fun z => absurd z (by omega)) (fun _ => ⟨pk_in i 2048 (by omega), ?_⟩))
  have hwi := hA i hi
  have hwi2 := hwi.2
  rw [nI_clamp (show i < 2 ^ 31 by omega), hwi.1]
  refine ek_if (cd_subI (by omega)) (fun t => ⟨pk_in i 2048 (by omega), cd_in (by omega) (by omega) (cd_z (fun e => ⟨pk_in i 2048 (by omega), nm_e (nm_r (nI_1 i) (hw _ (cd_last_t ⟨t, e⟩).symm))⟩) (fun e => nm_r (nI_1 i) (hw _ ?_)))⟩) (fun t => nm_r (nI_1 i) (hw _ ?_))
  · rw [cd_last_f (fun z => by have u := z.2; rw [e] at u; cases u)]
    exact q
  · rw [cd_last_f (fun z => t z.1)]
    exact q
theorem cd_beq {b b' : Bool} {A B : Prop} (f : b = b' → A) (g : b ≠ b' → B) : (cd_b b = cd_b b' → A) ∧ (¬ cd_b b = cd_b b' → B) := by
  cases b <;> cases b'
  · exact br_t rfl (f rfl)
  · exact br_f (by decide) (g (by decide))
  · exact br_f (by decide) (g (by decide))
  · exact br_t rfl (f rfl)
theorem cd_alike {post : Int32 → St2 → Prop} {n f a b : Nat} {E w : Nat → Nat} {hu : Int32} {a1 a2 a3 a4 a5 : Nat → Int32} (hn : n ≤ 7) (h : cd_F E n 0 f w a4) (ha : a < 4 + n) (hb : b < 4 + n)
    (H1 : (∀ j, j < f → (w j).testBit a = (w j).testBit b) → post 1 (nI (4 + n), 1, nI f, hu, a1, a2, a3, a4, a5)) (H0 : ¬ (∀ j, j < f → (w j).testBit a = (w j).testBit b) → post 0 (nI (4 + n), 1, nI f, hu, a1, a2, a3, a4, a5)) :
    wpX_alike post (nI (4 + n), 1, nI f, hu, a1, a2, a3, a4, a5) (nI a) (nI b) := by
  have hA := cd_FA hn h
  have hf := cd_Ff hn h
  unfold wpX_alike
  refine cd_miss ha (by omega) (br_t rfl ?_)
  refine cd_miss hb (by omega) (br_t rfl (cd_find1 ?_))
  refine pk_loop (fun fu i g => wX_alike_27 post (nI a) (nI b) (nI (4 + n)) 1 (nI f) hu a1 a2 a3 a4 a5 fu (cd_b g) (nI i))
    (fun i g => (g = true → ∀ j, j < i → (w j).testBit a = (w j).testBit b) ∧ (g = false → ¬ ∀ j, j < f → (w j).testBit a = (w j).testBit b)) f 0 true (by omega) ⟨fun _ j hj => absurd hj (by omega), fun z => (by cases z)⟩
    (fun fu g q => pk_le f f (fun _ => cd_z (fun e => H0 (q.2 e)) (fun e => H1 (q.1 e))) (fun z => absurd z (by omega)))
    (fun fu i g hi q hw => pk_le f i (fun z => absurd z (by omega)) (fun _ => cd_z (fun e => nm_r (nI_1 i) (hw false ⟨fun z => (by cases z), fun _ => q.2 e⟩)) (fun e => ⟨pk_in i 2048 (by omega), ?_⟩)))
  have hwi := hA i hi
  have hwi2 := hwi.2
  rw [nI_clamp (show i < 2 ^ 31 by omega), hwi.1]
  exact cd_in (by omega) (by omega) ⟨pk_in i 2048 (by omega), cd_in (by omega) (by omega) (cd_beq (fun y => nm_r (nI_1 i) (hw true ⟨fun _ => lt_s (q.1 e) y, fun z => (by cases z)⟩)) (fun y => nm_r (nI_1 i) (hw false ⟨fun z => (by cases z), fun _ z => y (z i hi)⟩)))⟩
theorem cd_worlds {post : Int32 → St2 → Prop} {c fo hu : Int32} {a1 a2 a3 a4 a5 : Nat → Int32} (H : post fo (c, 1, fo, hu, a1, a2, a3, a4, a5)) : wpX_worlds post (c, 1, fo, hu, a1, a2, a3, a4, a5) := by
  unfold wpX_worlds
  exact cd_find1 H
theorem cd_closed {post : Int32 → St2 → Prop} {n f : Nat} {E w : Nat → Nat} {hu : Int32} {a1 a2 a3 a4 a5 : Nat → Int32} (hE : ∀ k, E k < 16) (hn : n ≤ 7) (h : cd_F E n 0 f w a4)
    (H : post (nI f) (nI (4 + n), 1, nI f, hu, a1, a2, a3, a4, a5)) : wpX_closedSets post (nI (4 + n), 1, nI f, hu, a1, a2, a3, a4, a5) := by
  have hp := cd_p31 (show 4 + n ≤ 11 by omega)
  have hp0 := cd_pp (4 + n)
  have hfc := cd_Fc h
  unfold wpX_closedSets
  refine cd_find1 ?_
  refine pk_loop (fun fu i c => wX_closedSets_8 post (nI (4 + n)) 1 (nI f) hu a1 a2 a3 a4 a5 fu (nI c) (nI i))
    (fun i c => c = cd_ct (cd_Th E n) i) (2 ^ (4 + n)) 0 0 (by omega) rfl ?_ ?_
  · intro fu c q
    show wX_closedSets_8 post (nI (4 + n)) 1 (nI f) hu a1 a2 a3 a4 a5 (fu + 1) (nI c) (nI (2 ^ (4 + n)))
    unfold wX_closedSets_8
    refine cd_every (by omega) (pk_lt (2 ^ (4 + n) - 1) (2 ^ (4 + n)) (fun _ => ?_) (fun z => absurd z (by omega)))
    rw [q, ← hfc]
    exact H
  · intro fu i c hi q hw
    show wX_closedSets_8 post (nI (4 + n)) 1 (nI f) hu a1 a2 a3 a4 a5 (fu + 1) (nI c) (nI i)
    unfold wX_closedSets_8
    refine cd_every (by omega) (pk_lt (2 ^ (4 + n) - 1) i (fun z => absurd z (by omega)) (fun _ => ?_))
    obtain ⟨G, hG, cl⟩ := cd_Cl_ex E n i
    have hs := cd_Cl_self hE hi hG cl
    refine cd_cls hE hn h hi hG cl (pk_eq G i (fun e => nm_r (nI_1 c) (nm_r (nI_1 i) (hw _ ?_))) (fun e => nm_r (nI_1 i) (hw _ ?_)))
    · rw [cd_ct_t (hs.mp e), q]
    · rw [cd_ct_f (fun z => e (hs.mpr z)), q]
end
section
/-! trueFor, classically -/
theorem cd_tf {post : Int32 → Prop} {J : Int32 → Int32 → Prop} {x1 c kn fo hu : Int32} {a1 a2 a3 a4 a5 : Nat → Int32} {r i : Nat} (b : Bool) (hi : i < 31) (hr : r < 2 ^ i)
    (H : ∀ r', r' < 2 ^ (i + 1) → (∀ j, j < i → r'.testBit j = r.testBit j) → r'.testBit i = b → J (nI r') (nI (i + 1))) :
    wX_trueFor_153 post J x1 (nI r) (nI i) (cd_b b) c kn fo hu a1 a2 a3 a4 a5 := by
  have hp : 2 ^ (i + 1) = 2 * 2 ^ i := by rw [Nat.pow_succ, Nat.mul_comm]
  have hp0 := cd_pp i
  have hor : nI r ||| ((1 : Int32) <<< (nI i &&& 31)) = nI (r ||| 2 ^ i) := by rw [cd_one i hi, cd_or]
  unfold wX_trueFor_153
  cases b
  · exact br_t rfl (nm_r (nI_1 i) (H r (by omega) (fun _ _ => rfl) (cd_high hr (Nat.le_refl i))))
  · refine br_f (by decide) (nm_r hor (nm_r (nI_1 i) (H _ (Nat.or_lt_two_pow (by omega) (by omega)) (fun j hj => ?_) (cd_orP.mpr (Or.inr rfl)))))
    rw [Nat.testBit_or, cd_tp, decide_eq_false (by omega), Bool.or_false]
def cd_gd (E : Nat → Nat) (t ch i g : Nat) : Prop :=
  (∀ j, j < i → j < 4 → (g.testBit j = true ↔ ch.testBit ((j + t) % 4) = true)) ∧ (∀ k, 4 + k < i → (g.testBit (4 + k) = true ↔ (g.testBit (E k % 4) = true → g.testBit (E k / 4) = true)))
theorem cd_gd_keep {E : Nat → Nat} (hE : ∀ k, E k < 16) {t ch i g g' : Nat} (h : cd_gd E t ch i g) (e : ∀ j, j < i → g'.testBit j = g.testBit j) : cd_gd E t ch i g' := by
  refine ⟨fun j hj h4 => ?_, fun k hk => ?_⟩
  · rw [e j hj]; exact h.1 j hj h4
  · have hl := cd_hl E hE k
    rw [e _ hk, e _ (by omega), e _ (by omega)]; exact h.2 k hk
theorem cd_trueFor {post : Int32 → Prop} {t n ch : Nat} {E : Nat → Nat} {kn fo hu : Int32} {a1 a2 a3 a4 a5 : Nat → Int32} (hE : ∀ k, E k < 16) (hn : n ≤ 7) (K : cd_K t n E a1 a2 a3) (hc : ch < 16)
    (H : ∀ g, g < 2 ^ (4 + n) → cd_good E n t ch g → post (nI g)) : wpX_trueFor post (nI (4 + n), kn, fo, hu, a1, a2, a3, a4, a5) (nI ch) := by
  refine pk_loop (fun fu i r => wX_trueFor_4 post (nI ch) (nI (4 + n)) kn fo hu a1 a2 a3 a4 a5 fu (nI r) (nI i))
    (fun i r => r < 2 ^ i ∧ cd_gd E t ch i r) (4 + n) 0 0 (by omega) ⟨by decide, fun j hj => absurd hj (by omega), fun k hk => absurd hk (by omega)⟩
    (fun fu r h => pk_le (4 + n) (4 + n) (fun _ => H r h.1 ⟨fun i hi => h.2.1 i (by omega) hi, fun k hk => h.2.2 k (by omega)⟩) (fun z => absurd z (by omega)))
    (fun fu i r hi h hw => pk_le (4 + n) i (fun z => absurd z (by omega)) (fun _ => ⟨pk_in i 11 (by omega), ?_⟩))
  have hi11 : i < 11 := by omega
  have hp := cd_p31 (show i ≤ 11 by omega)
  have hr := h.1
  rw [nI_clamp (show i < 2 ^ 31 by omega)]
  rcases cd_pl i n hi with q | ⟨k, hk, rfl⟩
  · obtain ⟨e1, e2, e3⟩ := K.1 i q
    rw [e1, e2, e3]
    refine cd_in (by omega) (by omega) ⟨pk_in i 11 hi11, cd_in (by omega) (by omega) ⟨pk_in i 11 hi11, br_t rfl ⟨pk_in i 11 hi11, cd_in (by omega) (by omega) (cd_tf _ (by omega) hr (fun r' g1 g2 g3 => hw r' ⟨g1, ?_⟩))⟩⟩⟩
    have kp := cd_gd_keep hE h.2 g2
    refine ⟨fun j hj h4 => ?_, fun k hk => absurd hk (by omega)⟩
    by_cases ej : j = i
    · rw [ej, g3]
    · exact kp.1 j (by omega) h4
  · obtain ⟨e1, e2, e3⟩ := K.2 k hk
    have hl := cd_hl E hE k
    rw [e1, e2, e3]
    have nx : ∀ b : Bool, (b = true ↔ (r.testBit (E k % 4) = true → r.testBit (E k / 4) = true)) → wX_trueFor_153 post (wX_trueFor_4 post (nI ch) (nI (4 + n)) kn fo hu a1 a2 a3 a4 a5 fu) (nI ch) (nI r) (nI (4 + k)) (cd_b b) (nI (4 + n)) kn fo hu a1 a2 a3 a4 a5 := by
      intro b hb
      refine cd_tf b (by omega) hr (fun r' g1 g2 g3 => hw r' ⟨g1, ?_⟩)
      have kp := cd_gd_keep hE h.2 g2
      refine ⟨fun j hj h4 => kp.1 j (by omega) h4, fun k' hk' => ?_⟩
      by_cases ej : k' = k
      · rw [ej, g3, g2 _ (by omega), g2 _ (by omega)]
        exact hb
      · exact kp.2 k' (by omega)
    refine cd_in (by omega) (by omega) ⟨pk_in _ 11 hi11, cd_in (by omega) (by omega) ⟨pk_in _ 11 hi11, br_f (by decide) ⟨pk_in _ 11 hi11, br_f (by decide) ⟨pk_in _ 11 hi11, br_f (by decide) ⟨pk_in _ 11 hi11, br_t rfl ?_⟩⟩⟩⟩⟩
    refine cd_z (fun e => nx true ?_) (fun e => cd_z (fun e' => nx false ?_) (fun e' => nx true ?_))
    · exact ⟨fun _ z => (by rw [e] at z; cases z), fun _ => rfl⟩
    · exact ⟨fun z => (by cases z), fun z => by have u := z e; rw [e'] at u; cases u⟩
    · exact ⟨fun _ _ => e', fun _ => rfl⟩
theorem cd_classically {post : Int32 → Prop} {t n S G c : Nat} {E : Nat → Nat} {x kn fo hu : Int32} {a1 a2 a3 a4 a5 : Nat → Int32} (hE : ∀ k, E k < 16) (hn : n ≤ 7) (K : cd_K t n E a1 a2 a3) (hx : x &&& nI (2 ^ (4 + n) - 1) = nI S) (hS : S < 2 ^ (4 + n)) (hG : G < 2 ^ (4 + n)) (cl : cd_Cl E n S G) (hc : c < 4 + n)
    (H : post (cd_b (G.testBit c))) : wpX_classically post (nI (4 + n), kn, fo, hu, a1, a2, a3, a4, a5) x (nI c) := by
  have hp := cd_p31 (show 4 + n ≤ 11 by omega)
  unfold wpX_classically
  refine cd_miss hc (by omega) (br_t rfl ?_)
  refine cd_every (by omega) (nm_r hx ?_)
  refine pk_loop (fun fu i g => wX_classically_23 post (nI c) (nI S) (nI (4 + n)) kn fo hu a1 a2 a3 a4 a5 fu (cd_b g) (nI i))
    (fun i g => (g = true → ∀ ch, ch < i → ∃ d, cd_good E n t ch d ∧ (cd_sub S d → d.testBit c = true)) ∧ (g = false → ∃ ch d, cd_good E n t ch d ∧ cd_sub S d ∧ d.testBit c = false)) 16 0 true (by omega) ⟨fun _ j hj => absurd hj (by omega), fun z => (by cases z)⟩
    (fun fu g q => pk_le 16 16 (fun _ => cd_z (fun e => ?_) (fun e => ?_)) (fun z => absurd z (by omega)))
    (fun fu i g hi q hw => pk_le 16 i (fun z => absurd z (by omega)) (fun _ => cd_trueFor hE hn K hi (fun d hd gd => ?_)))
  · obtain ⟨ch, d, g1, g2, g3⟩ := q.2 e
    have u : G.testBit c = false := cd_nt.mpr (fun z => cd_nt.mp g3 (cd_Cl_least hG cl (cd_good_th g1) g2 c z))
    rw [u] at H
    exact H
  · cases u : G.testBit c
    · obtain ⟨ch, h1, h2⟩ := cd_counter (t := t) hE hS cl hc u
      obtain ⟨d, g1, g2⟩ := q.1 e ch h1
      have v := h2 d g1
      exact absurd (g2 v.1) (cd_nt.mp v.2)
    · rw [u] at H
      exact H
  · refine cd_z (fun e => nm_r (nI_1 i) (hw false ⟨fun z => (by cases z), fun _ => q.2 e⟩)) (fun e => ek_if (cd_subI (by omega)) (fun t => cd_in (by omega) (by omega) (cd_z (fun e' => nm_r (nI_1 i) (hw false ⟨fun z => (by cases z), fun _ => ⟨i, d, gd, t, e'⟩⟩)) (fun e' => nm_r (nI_1 i) (hw true ⟨fun _ => lt_s (q.1 e) ⟨d, gd, fun _ => e'⟩, fun z => (by cases z)⟩)))) (fun t => nm_r (nI_1 i) (hw true ⟨fun _ => lt_s (q.1 e) ⟨d, gd, fun z => absurd z t⟩, fun z => (by cases z)⟩)))
end
section
/-! gather, sizeOf, meetsAll, enough -/
theorem cd_gather {post : Int32 → St2 → Prop} {n f S c : Nat} {E w : Nat → Nat} {hu : Int32} {a1 a2 a3 a4 a5 : Nat → Int32} (hn : n ≤ 7) (h : cd_F E n 0 f w a4) (hS : S < 2 ^ (4 + n)) (hc : c < 4 + n)
    (H : ∀ (g : Bool) (m : Nat) (b5 : Nat → Int32), m ≤ 2048 → (∀ j, j < m → ∃ q, q < f ∧ (w q).testBit c = false ∧ b5 j = nI (S &&& (w q ^^^ (2 ^ 32 - 1)))) → (g = true → ∀ q, q < f → (w q).testBit c = false → ¬ cd_sub S (w q)) → post (cd_b g) (nI (4 + n), 1, nI f, nI m, a1, a2, a3, a4, b5)) :
    wpX_gather post (nI (4 + n), 1, nI f, hu, a1, a2, a3, a4, a5) (nI S) (nI c) := by
  have hp := cd_p31 (show 4 + n ≤ 11 by omega)
  have hA := cd_FA hn h
  have hf := cd_Ff hn h
  refine pk_loop (fun fu i (s : Bool × Nat × (Nat → Int32)) => wX_gather_10 post (nI S) (nI c) (nI (4 + n)) 1 (nI f) fu (cd_b s.1) (nI i) (nI s.2.1) a1 a2 a3 a4 s.2.2)
    (fun i s => s.2.1 ≤ i ∧ (∀ j, j < s.2.1 → ∃ q, q < f ∧ (w q).testBit c = false ∧ s.2.2 j = nI (S &&& (w q ^^^ (2 ^ 32 - 1)))) ∧ (s.1 = true → ∀ q, q < i → (w q).testBit c = false → ¬ cd_sub S (w q)))
    f 0 (true, 0, a5) (by omega) ⟨Nat.le_refl 0, fun j hj => absurd hj (Nat.not_lt_zero j), fun _ q hq => absurd hq (by omega)⟩ ?_ ?_
  · intro fu s q
    obtain ⟨g, m, b5⟩ := s
    obtain ⟨q1, q2, q3⟩ := q
    dsimp only at q1 q2 q3
    refine pk_le f f (fun _ => ?_) (fun z => absurd z (by omega))
    refine ⟨(cd_fin (post := fun _ => True) g (fun _ => trivial) (fun _ => trivial)).1, ?_⟩
    exact H g m b5 (by omega) q2 q3
  · intro fu i s hi q hw
    obtain ⟨g, m, b5⟩ := s
    obtain ⟨q1, q2, q3⟩ := q
    dsimp only at q1 q2 q3
    have hwi := hA i hi
    have hwi2 := hwi.2
    refine pk_le f i (fun z => absurd z (by omega)) (fun _ => ⟨pk_in i 2048 (by omega), ?_⟩)
    dsimp only
    rw [nI_clamp (show i < 2 ^ 31 by omega), nI_clamp (show m < 2 ^ 31 by omega), hwi.1]
    have hD : S &&& (w i ^^^ (2 ^ 32 - 1)) < 2048 := by
      have := cd_df_lt (b := w i) hS
      omega
    have hst : (nI S &&& (nI (w i) ^^^ (-1))).toInt16.toInt32 = nI (S &&& (w i ^^^ (2 ^ 32 - 1))) := by
      rw [cd_not, cd_sh hD]
    rw [hst]
    refine cd_in (by omega) (by omega) (cd_z (fun e => ⟨pk_in i 2048 (by omega), pk_in m 2048 (by omega), nm_e ?_⟩) (fun e => nm_r (nI_1 i) (hw (g, m, b5) ⟨by dsimp only; omega, q2, fun y => lt_s (q3 y) (fun z => ?_)⟩)))
    · rw [pk_us]
      have hd : ∀ j, j < m + 1 → ∃ q, q < f ∧ (w q).testBit c = false ∧ upd b5 m (nI (S &&& (w i ^^^ (2 ^ 32 - 1)))) j = nI (S &&& (w q ^^^ (2 ^ 32 - 1))) := by
        intro j hj
        by_cases ej : j = m
        · rw [ej, pk_us]; exact ⟨i, hi, e, rfl⟩
        · rw [pk_un ej]; exact q2 j (by omega)
      have nx : ∀ g' : Bool, (g' = true → ∀ q, q < i + 1 → (w q).testBit c = false → ¬ cd_sub S (w q)) → wX_gather_76 post (wX_gather_10 post (nI S) (nI c) (nI (4 + n)) 1 (nI f) fu) (nI S) (nI c) (nI i) (cd_b g') (nI (4 + n)) 1 (nI f) (nI m) a1 a2 a3 a4 (upd b5 m (nI (S &&& (w i ^^^ (2 ^ 32 - 1))))) :=
        fun g' hg => nm_r (nI_1 m) (nm_r (nI_1 i) (hw (g', m + 1, upd b5 m (nI (S &&& (w i ^^^ (2 ^ 32 - 1))))) ⟨by dsimp only; omega, hd, hg⟩))
      refine cd_z (fun y => nx false (fun z => (by cases z))) (fun y => ⟨pk_in m 2048 (by omega), ?_⟩)
      refine pk_eq (S &&& (w i ^^^ (2 ^ 32 - 1))) 0 (fun z => nx false (fun z => (by cases z))) (fun z => nx true (fun _ => lt_s (q3 y) (fun _ k => z ((cd_df_0 (by omega)).mpr k))))
    · rw [e] at z; cases z
theorem cd_szI {post : Int32 → Prop} {N p : Nat} {kn fo hu : Int32} {a1 a2 a3 a4 a5 : Nat → Int32} (hN : N ≤ 11) (hp : p < 2 ^ 31) (H : post (nI (cd_sz p N))) : wpX_sizeOf post (nI N, kn, fo, hu, a1, a2, a3, a4, a5) (nI p) := by
  refine pk_loop (fun fu i s => wX_sizeOf_4 post (nI p) (nI N) kn fo hu a1 a2 a3 a4 a5 fu (nI s) (nI i))
    (fun i s => s = cd_sz p i) N 0 0 (by omega) rfl
    (fun fu s q => pk_le N N (fun _ => by rw [q]; exact H) (fun z => absurd z (by omega)))
    (fun fu i s hi q hw => pk_le N i (fun z => absurd z (by omega)) (fun _ => nm_r (e' := nI (s + p / 2 ^ i % 2)) ?_ (nm_r (nI_1 i) (hw _ ?_))))
  · rw [cd_bitN hp (by omega), nI_add]
  · show s + p / 2 ^ i % 2 = cd_sz p i + p / 2 ^ i % 2
    rw [q]
theorem cd_meets {post : Int32 → Prop} {m p : Nat} {c kn fo : Int32} {a1 a2 a3 a4 b5 : Nat → Int32} (hm : m ≤ 2048)
    (H : ∀ g : Bool, ((∀ j, j < m → ¬ b5 j &&& nI p = 0) → g = true) → post (cd_b g)) : wpX_meetsAll post (c, kn, fo, nI m, a1, a2, a3, a4, b5) (nI p) := by
  refine pk_loop (fun fu i g => wX_meetsAll_4 post (nI p) c kn fo (nI m) a1 a2 a3 a4 b5 fu (cd_b g) (nI i))
    (fun i g => (∀ j, j < m → ¬ b5 j &&& nI p = 0) → g = true) m 0 true (by omega) (fun _ => rfl)
    (fun fu g q => pk_le m m (fun _ => ⟨(cd_fin (post := fun _ => True) g (fun _ => trivial) (fun _ => trivial)).1, H g q⟩) (fun z => absurd z (by omega)))
    (fun fu i g hi q hw => pk_le m i (fun z => absurd z (by omega)) (fun _ => cd_z (fun e => ⟨(cd_fin (post := fun _ => True) g (fun _ => trivial) (fun _ => trivial)).1, H g q⟩) (fun e => ⟨pk_in i 2048 (by omega), ?_⟩)))
  rw [nI_clamp (show i < 2 ^ 31 by omega)]
  exact br_c (fun z => nm_r (nI_1 i) (hw false (fun y => absurd z (y i hi)))) (fun z => nm_r (nI_1 i) (hw true (fun _ => rfl)))
theorem cd_sz_le (p N : Nat) : cd_sz p N ≤ N := by
  induction N with
  | zero => exact Nat.le_refl _
  | succ N ih =>
    have h1 : p / 2 ^ N % 2 < 2 := Nat.mod_lt _ (by omega)
    show cd_sz p N + p / 2 ^ N % 2 ≤ N + 1
    omega
theorem cd_enoughL {post : Int32 → St2 → Prop} {n f S m : Nat} {a1 a2 a3 a4 b5 : Nat → Int32} (hn : n ≤ 7) (hm : m ≤ 2048) (hS : S < 2 ^ (4 + n))
    (H : ∀ r : Nat, r ≤ 4 + n → (∀ q, cd_sub q S → 0 < q → (∀ j, j < m → ¬ b5 j &&& nI q = 0) → r ≤ cd_sz q (4 + n)) → post (nI r) (nI (4 + n), 1, nI f, nI m, a1, a2, a3, a4, b5)) (H0 : post 0 (nI (4 + n), 1, nI f, nI m, a1, a2, a3, a4, b5)) :
    ∃ fu, wX_enough_47 post (nI S) (nI (4 + n)) 1 (nI f) (nI m) a1 a2 a3 a4 b5 fu (nI (cd_sz S (4 + n))) (nI S) := by
  have hp := cd_p31 (show 4 + n ≤ 11 by omega)
  refine lp2 (fun fu (r p : Nat) => wX_enough_47 post (nI S) (nI (4 + n)) 1 (nI f) (nI m) a1 a2 a3 a4 b5 fu (nI r) (nI p))
    (fun r p => cd_sub p S ∧ r ≤ 4 + n ∧ ∀ q, cd_sub q S → p < q → (∀ j, j < m → ¬ b5 j &&& nI q = 0) → r ≤ cd_sz q (4 + n)) (fun _ p => p) ?_ (cd_sz S (4 + n)) S
    ⟨cd_sub_r S, cd_sz_le _ _, fun q h1 h2 => absurd (cd_sub_le h1) (by omega)⟩
  intro fu r p h hw
  obtain ⟨h1, h2, h3⟩ := h
  have hle := cd_sub_le h1
  refine pk_le p 0 (fun z => ?_) (fun z => ?_)
  · exact pk_eq m 0 (fun _ => H0) (fun _ => H r h2 (fun q g1 g2 g3 => h3 q g1 (by omega) g3))
  · have hst : (nI p - 1) &&& nI S = nI ((p - 1) &&& S) := by
      rw [show nI p - 1 = nI (p - 1) from pk_sub (b := 1) z, cd_and]
    have hlt : (p - 1) &&& S < p := Nat.lt_of_le_of_lt Nat.and_le_left (by omega)
    have nx : ∀ r', r' ≤ r → (((∀ j, j < m → ¬ b5 j &&& nI p = 0)) → r' ≤ cd_sz p (4 + n)) → wX_enough_47 post (nI S) (nI (4 + n)) 1 (nI f) (nI m) a1 a2 a3 a4 b5 fu (nI r') (nI ((p - 1) &&& S)) := by
      intro r' g1 g2
      refine hw r' _ ⟨fun i hi => (cd_andT.mp hi).2, by omega, fun q k1 k2 k3 => ?_⟩ hlt
      rcases Nat.lt_trichotomy p q with y | y | y
      · have := h3 q k1 y k3
        omega
      · rw [← y] at k3 ⊢
        exact g2 k3
      · have := cd_next (4 + n) S p q hS z h1 k1 y
        omega
    have hsz := cd_sz_le p (4 + n)
    refine cd_szI (by omega) (by omega) (pk_le r (cd_sz p (4 + n)) (fun y => nm_r hst (nx r (Nat.le_refl r) (fun _ => y))) (fun y => cd_meets hm (fun g hg => ?_)))
    refine cd_z (fun e => nm_r hst (nx r (Nat.le_refl r) (fun k => ?_))) (fun e => nm_r hst (nx _ (by omega) (fun _ => Nat.le_refl _)))
    have := hg k
    rw [e] at this; cases this
theorem cd_enough {post : Int32 → St2 → Prop} {n f S c : Nat} {E w : Nat → Nat} {x hu : Int32} {a1 a2 a3 a4 a5 : Nat → Int32} (hE : ∀ k, E k < 16) (hn : n ≤ 7) (h : cd_F E n 0 f w a4) (hx : x &&& nI (2 ^ (4 + n) - 1) = nI S) (hS : S < 2 ^ (4 + n)) (hc : c < 4 + n)
    (H : ∀ (r m : Int32) (b5 : Nat → Int32), (c < 4 → r ≤ 4) → post r (nI (4 + n), 1, nI f, m, a1, a2, a3, a4, b5)) : wpX_enough post (nI (4 + n), 1, nI f, hu, a1, a2, a3, a4, a5) x (nI c) := by
  have hp := cd_p31 (show 4 + n ≤ 11 by omega)
  have hls := cd_Fls h
  unfold wpX_enough
  refine cd_miss hc (by omega) (br_t rfl (cd_find1 ?_))
  refine cd_every (by omega) (nm_r hx ?_)
  refine cd_gather hn h hS hc (fun g m b5 hm h1 h2 => cd_z (fun e => H _ _ _ (fun _ => by decide)) (fun e => ?_))
  refine cd_szI (by omega) (by omega) (cd_enoughL hn hm hS (fun r hr hq => H _ _ _ (fun hc4 => ?_)) (H _ _ _ (fun _ => by decide)))
  obtain ⟨G, hG, cl⟩ := cd_Cl_ex E n S
  have hGc : G.testBit c = true := by
    obtain ⟨j, hj, ej⟩ := hls.2 G hG (cd_Cl_th hE cl)
    cases u : G.testBit c
    · refine absurd ?_ (h2 e j hj (by rw [ej]; exact u))
      rw [ej]
      exact cd_Cl_sub hS cl
    · rfl
  obtain ⟨p, p1, p2, p3, p4⟩ := cd_path hE (4 + n) hc4 ((cl.1 c hc4).mp hGc)
  have hle : r ≤ 4 := by
    refine Nat.le_trans (hq p p1 p2 (fun j hj z => ?_)) p3
    obtain ⟨q, hq1, hq2, hq3⟩ := h1 j hj
    rw [hq3, cd_and] at z
    have hlt : S &&& (w q ^^^ (2 ^ 32 - 1)) &&& p < 2 ^ 31 := Nat.lt_of_le_of_lt Nat.and_le_left (Nat.lt_of_lt_of_le (cd_df_lt hS) (by omega))
    have z0 := cd_inj (b := 0) hlt (by omega) z
    have sub : cd_sub p (w q) := by
      intro i hi
      cases u : (w q).testBit i
      · have t : (S &&& (w q ^^^ (2 ^ 32 - 1)) &&& p).testBit i = true := cd_andT.mpr ⟨(cd_dfT (by omega)).mpr ⟨p1 i hi, cd_nt.mp u⟩, hi⟩
        rw [z0, Nat.zero_testBit] at t
        cases t
      · rfl
    have v := p4 (w q) (hls.1 q hq1).2.1 sub
    rw [hq2] at v
    cases v
  exact nI_le (b := 4) hle (by omega)
end
section
/-! the law -/
theorem cd_504 {post : Int32 → St0 → Prop} {mc ms kc ks n f : Nat} {E w : Nat → Nat} {x16 x17 x18 x19 z0 z1 hu : Int32} {a1 a2 a3 a4 a5 : Nat → Int32} (hE : ∀ k, E k < 16) (hn : n ≤ 7) (h : cd_F E n 0 f w a4)
    (hz : z1 = z0) (h18 : x18 = (1 : Int32) <<< (x16 &&& 31)) (h19 : x19 = (1 : Int32) <<< (x17 &&& 31)) (H : post 1 ()) :
    wL_lawOf_504 post mc ms x16 x17 x18 x19 z0 z1 kc ks (nI (4 + n)) 1 (nI f) hu a1 a2 a3 a4 a5 := by
  unfold wL_lawOf_504
  refine br_t hz (br_t h18 (br_t h19 (cd_worlds ?_)))
  exact cd_closed hE hn h (br_t rfl H)
theorem cd_single {l n i v : Nat} (hi : i < 4) (hv : v < 16) (h : ∀ b, b < 4 → (v.testBit b = true ↔ cd_Der (cd_E l) n 0 (fun j => (2 ^ i).testBit j = true) b)) : v = 2 ^ i := by
  refine cd_ext (N := 4) hv (Nat.pow_lt_pow_right (by omega) hi) (fun b hb => (h b hb).trans ⟨fun d => d (2 ^ i) (fun j _ t => t) (fun k _ z => ?_), fun t B hB _ => hB b hb t⟩)
  rw [Nat.zero_testBit] at z
  cases z
theorem cd_apart {E : Nat → Nat} (hE : ∀ k, E k < 16) {n f i j : Nat} {w : Nat → Nat} (hls : cd_ls E n w f) (hi : i < 4) (hj : j < 4) (hij : i ≠ j) : ¬ ∀ q, q < f → (w q).testBit i = (w q).testBit j := by
  intro all
  obtain ⟨G, hG, cl⟩ := cd_Cl_ex E n (2 ^ i)
  have hlt : 2 ^ i < 2 ^ (4 + n) := Nat.pow_lt_pow_right (by omega) (by omega)
  obtain ⟨q, hq, eq⟩ := hls.2 G hG (cd_Cl_th hE cl)
  have t := all q hq
  rw [eq] at t
  have gi : G.testBit i = true := cd_Cl_sub hlt cl i (by rw [cd_tp, decide_eq_true rfl])
  rw [gi] at t
  have d := (cl.1 j hj).mp t.symm (2 ^ i) (fun _ _ u => u) (fun k _ z => by
    rw [cd_tp, decide_eq_true_iff] at z
    omega)
  rw [cd_tp, decide_eq_true_iff] at d
  exact hij d
theorem cd_443 {post : Int32 → St0 → Prop} {mc ms kc ks n f l : Nat} {w : Nat → Nat} {x3 hu : Int32} {a1 a2 a3 a4 a5 : Nat → Int32} (hl : l < 2 ^ 31) (hn : n ≤ 7) (h : cd_F (cd_E l) n 0 f w a4) (H : post 1 ()) :
    wL_lawOf_443 post mc ms x3 (nI l) (nI n) kc ks (nI (4 + n)) 1 (nI f) hu a1 a2 a3 a4 a5 := by
  obtain ⟨i, hi, ei⟩ := pk_andE x3 (m := 3) 2 (by decide)
  obtain ⟨j, hj, ej⟩ := pk_andE (x3 >>> ((2 : Int32) &&& 31)) (m := 3) 2 (by decide)
  have hi4 : i < 4 := hi
  have hj4 : j < 4 := hj
  have hpi : 2 ^ i < 16 := Nat.pow_lt_pow_right (a := 2) (n := 4) (by omega) hi4
  have hpj : 2 ^ j < 16 := Nat.pow_lt_pow_right (a := 2) (n := 4) (by omega) hj4
  unfold wL_lawOf_443
  refine nm_r ei (nm_r ej ?_)
  rw [cd_one i (by omega), cd_one j (by omega)]
  refine cd_closure (S := 0) hl hn (by omega) hpi (fun v hv dv => ?_)
  refine cd_closure (S := 0) hl hn (by omega) hpj (fun u hu' du => ?_)
  have ev := cd_single hi4 hv dv
  have eu := cd_single hj4 hu' du
  have hv' : nI v = (1 : Int32) <<< (nI i &&& 31) := by rw [cd_one i (by omega), ev]
  have hu2 : nI u = (1 : Int32) <<< (nI j &&& 31) := by rw [cd_one j (by omega), eu]
  refine cd_alike hn h (by omega) (by omega) (fun y => pk_eq i j (fun e => cd_504 (cd_E_lt l) hn h rfl hv' hu2 H) (fun e => absurd y (cd_apart (cd_E_lt l) (cd_Fls h) hi4 hj4 e))) (fun y => pk_eq i j (fun e => absurd (fun q _ => by rw [e]) y) (fun e => cd_504 (cd_E_lt l) hn h rfl hv' hu2 H))
theorem cd_420 {post : Int32 → St0 → Prop} {mc ms kc ks n f l S c : Nat} {w : Nat → Nat} {x2 x3 z0 z1 hu : Int32} {a1 a2 a3 a4 a5 : Nat → Int32} (hl : l < 2 ^ 31) (hn : n ≤ 7) (h : cd_F (cd_E l) n 0 f w a4)
    (hx : x2 &&& nI (2 ^ (4 + n) - 1) = nI S) (hS : S < 2 ^ (4 + n)) (hc : c < 4 + n) (hz : z1 = z0) (H : post 1 ()) :
    wL_lawOf_420 post mc ms x2 x3 (nI l) (nI n) (nI c) z0 z1 kc ks (nI (4 + n)) 1 (nI f) hu a1 a2 a3 a4 a5 := by
  unfold wL_lawOf_420
  refine br_t hz (cd_enough (cd_E_lt l) hn h hx hS hc (fun r m b5 hr => br_c (fun _ => cd_443 hl hn h H) (fun y => pk_le 4 c (fun _ => cd_443 hl hn h H) (fun z => absurd (hr z) y))))
theorem cd_328 {post : Int32 → St0 → Prop} {mc ms kc ks t n f l S G : Nat} {w : Nat → Nat} {x2 x3 x4 z0 z1 hu : Int32} {a1 a2 a3 a4 a5 : Nat → Int32} (hl : l < 2 ^ 31) (hn : n ≤ 7) (K : cd_K t n (cd_E l) a1 a2 a3) (h : cd_F (cd_E l) n 0 f w a4)
    (hx : x2 &&& nI (2 ^ (4 + n) - 1) = nI S) (hS : S < 2 ^ (4 + n)) (hG : G < 2 ^ (4 + n)) (cl : cd_Cl (cd_E l) n S G) (hz : z1 = z0) (H : post 1 ()) :
    wL_lawOf_328 post mc ms x2 x3 x4 (nI l) (nI n) (nI (4 + n)) (nI G) z0 z1 kc ks (nI (4 + n)) 1 (nI f) hu a1 a2 a3 a4 a5 := by
  have hp := cd_p31 (show 4 + n ≤ 11 by omega)
  have hE := cd_E_lt l
  obtain ⟨q, hq, eq⟩ := pk_andE x4 (m := 127) 7 (by decide)
  have hq' : q < 128 := hq
  have hc : q % (4 + n) < 4 + n := Nat.mod_lt _ (by omega)
  have hlook : (x4 &&& 127) - (x4 &&& 127) / nI (4 + n) * nI (4 + n) = nI (q % (4 + n)) := by
    rw [eq]
    exact pk_rem (by omega) (by omega) (by omega)
  have hxG := cd_maskN (show 4 + n ≤ 11 by omega) hG
  unfold wL_lawOf_328
  refine br_t hz ⟨nI_ne0 (by omega) (by omega), nm_r hlook (nm_r (cd_bitB (by omega) (by omega)) ?_)⟩
  refine cd_follows hE hn h hx hS hG cl hc (br_t rfl ?_)
  refine cd_classically hE hn K hx hS hG cl hc (br_t rfl ?_)
  refine cd_followsF hn (br_t rfl ?_)
  refine cd_against hn h hx hS hc ?_
  cases e : G.testBit (q % (4 + n))
  · refine br_f (by decide) (cd_against hn h hxG hG hc (cd_420 hl hn h hx hS hc ?_ H))
    refine cd_last_c f (fun j hj => ?_)
    rw [cd_above hS hG cl ((cd_Fls h).1 j hj).2]
  · refine br_t rfl (cd_420 hl hn h hx hS hc ?_ H)
    refine cd_last_0 f (fun j hj z => ?_)
    have u := cd_Cl_least hG cl ((cd_Fls h).1 j hj).2 z.1 _ e
    rw [z.2] at u
    cases u
theorem cd_194 {post : Int32 → St0 → Prop} {mc ms kc ks t n l S G0 : Nat} {x2 x3 x4 fo hu : Int32} {a1 a2 a3 a4 a5 : Nat → Int32} (hl : l < 2 ^ 31) (hn : n ≤ 7) (K : cd_K t n (cd_E l) a1 a2 a3)
    (hx : x2 &&& nI (2 ^ (4 + n) - 1) = nI S) (hS : S < 2 ^ (4 + n)) (hG0 : G0 < 16) (h0 : ∀ b, b < 4 → (G0.testBit b = true ↔ cd_Der (cd_E l) n S (fun i => S.testBit i = true) b)) (H : post 1 ()) :
    ∃ fu, wL_lawOf_194 post mc ms x2 x3 x4 (nI l) (nI n) (nI (4 + n)) (nI S) kc ks (nI (4 + n)) 0 fo hu a1 a2 a3 a4 a5 fu (nI G0) 0 := by
  have hp := cd_p31 (show 4 + n ≤ 11 by omega)
  have hE := cd_E_lt l
  refine pk_loop (fun fu k G => wL_lawOf_194 post mc ms x2 x3 x4 (nI l) (nI n) (nI (4 + n)) (nI S) kc ks (nI (4 + n)) 0 fo hu a1 a2 a3 a4 a5 fu (nI G) (nI k))
    (fun k G => G < 2 ^ (4 + k) ∧ (∀ b, b < 4 → (G.testBit b = true ↔ cd_Der (cd_E l) n S (fun i => S.testBit i = true) b)) ∧ (∀ j, j < k → (G.testBit (4 + j) = true ↔ cd_Der (cd_E l) n S (fun i => S.testBit i = true ∨ i = cd_E l j % 4) (cd_E l j / 4)))) n 0 G0 (by omega)
    ⟨hG0, h0, fun j hj => absurd hj (by omega)⟩
    (fun fu G q => pk_le n n (fun _ => ?_) (fun z => absurd z (by omega)))
    (fun fu k G hk q hw => pk_le n k (fun z => absurd z (by omega)) (fun _ => nm_r (cd_ent hl (by omega)) ?_))
  · obtain ⟨hG, c1, c2⟩ := q
    have cl : cd_Cl (cd_E l) n S G := ⟨c1, c2⟩
    have hxG := cd_maskN (show 4 + n ≤ 11 by omega) hG
    have hth := cd_Cl_th hE cl
    have clG : cd_Cl (cd_E l) n G G := by
      obtain ⟨G', hG', cl'⟩ := cd_Cl_ex (cd_E l) n G
      have e := (cd_Cl_self hE hG hG' cl').mpr hth
      rw [e] at cl'
      exact cl'
    have hs := cd_Cl_self hE hS hG cl
    refine br_t rfl (cd_all0 hE hn K hx hS hG cl (fun f w b4 h => br_t rfl ?_))
    refine cd_all1 hE hn h hxG hG hG clG (br_t rfl ?_)
    refine cd_sat hn h hxG hG (fun _ => br_t rfl ?_) (fun z => absurd hth z)
    refine cd_sat hn h hx hS (fun y => ?_) (fun y => ?_)
    · exact br_t (by rw [hs.mpr y]) (cd_328 hl hn K h hx hS hG cl rfl H)
    · exact br_f (fun z => y (hs.mp (cd_inj (by omega) (by omega) z))) (cd_328 hl hn K h hx hS hG cl rfl H)
  · obtain ⟨hG, c1, c2⟩ := q
    have he := cd_E_lt l k
    have hA : (nI S &&& 15) ||| ((1 : Int32) <<< ((nI (cd_E l k) &&& 3) &&& 31)) = nI (S % 2 ^ 4 ||| 2 ^ (cd_E l k % 4)) := by
      rw [cd_lo he, cd_one _ (by omega), show nI S &&& 15 = nI (S % 2 ^ 4) from pk_andN (by omega) 4 (by decide), cd_or]
    have hA16 : S % 2 ^ 4 ||| 2 ^ (cd_E l k % 4) < 16 := Nat.or_lt_two_pow (n := 4) (Nat.mod_lt _ (by omega)) (Nat.pow_lt_pow_right (by omega) (by omega))
    rw [hA]
    refine cd_closure hl hn (by omega) hA16 (fun v hv dv => ?_)
    have dk : v.testBit (cd_E l k / 4) = true ↔ cd_Der (cd_E l) n S (fun i => S.testBit i = true ∨ i = cd_E l k % 4) (cd_E l k / 4) := by
      rw [dv _ (by omega)]
      refine cd_Der_c (fun i hi => ?_)
      rw [cd_orP, cd_modT]
      exact ⟨fun z => z.elim (fun y => Or.inl y.2) (fun y => Or.inr y.symm), fun z => z.elim (fun y => Or.inl ⟨hi, y⟩) (fun y => Or.inr y.symm)⟩
    have hpk : 2 ^ (4 + (k + 1)) = 2 * 2 ^ (4 + k) := by rw [show 4 + (k + 1) = (4 + k) + 1 by omega, Nat.pow_succ, Nat.mul_comm]
    have hpk0 := cd_pp (4 + k)
    have hor : nI G ||| ((1 : Int32) <<< ((4 + nI k) &&& 31)) = nI (G ||| 2 ^ (4 + k)) := by
      rw [show (4 : Int32) + nI k = nI (4 + k) from nI_add 4 k, cd_one _ (by omega), cd_or]
    refine cd_bt (cd_hi he) (by omega) (by omega) (fun y => nm_r hor (nm_r (nI_1 k) (hw _ ⟨Nat.or_lt_two_pow (by omega) (by omega), fun b hb => ?_, fun j hj => ?_⟩))) (fun y => nm_r (nI_1 k) (hw _ ⟨by omega, c1, fun j hj => ?_⟩))
    · rw [← c1 b hb, cd_orP]
      exact ⟨fun z => z.elim id (fun u => absurd u (by omega)), Or.inl⟩
    · by_cases ej : j = k
      · rw [ej, ← dk, cd_orP]
        exact ⟨fun _ => y, fun _ => Or.inr rfl⟩
      · rw [← c2 j (by omega), cd_orP]
        exact ⟨fun z => z.elim id (fun u => absurd u (by omega)), Or.inl⟩
    · by_cases ej : j = k
      · rw [ej, ← dk, y, cd_high hG (Nat.le_refl _)]
      · exact c2 j (by omega)
theorem cd_E_old {l e n j : Nat} (hl : l < 2 ^ (4 * n)) (hj : j < n) : cd_E (l ||| e * 2 ^ (4 * n)) j = cd_E l j := by
  unfold cd_E
  refine Nat.eq_of_testBit_eq (fun i => ?_)
  rw [show (16 : Nat) = 2 ^ 4 from rfl, Nat.testBit_mod_two_pow, Nat.testBit_mod_two_pow, Nat.testBit_div_two_pow, Nat.testBit_div_two_pow, Nat.testBit_or, Nat.mul_comm e, Nat.testBit_two_pow_mul]
  by_cases h : i < 4
  · rw [decide_eq_false (show ¬ 4 * n ≤ i + 4 * j by omega), Bool.false_and, Bool.or_false]
  · rw [decide_eq_false h, Bool.false_and, Bool.false_and]
theorem cd_E_new {l e n : Nat} (hl : l < 2 ^ (4 * n)) (he : e < 16) : cd_E (l ||| e * 2 ^ (4 * n)) n = e := by
  unfold cd_E
  rw [Nat.or_comm, Nat.mul_comm, ← Nat.two_pow_add_eq_or_of_lt hl, Nat.mul_add_div (cd_pp _), Nat.div_eq_of_lt hl, Nat.add_zero, Nat.mod_eq_of_lt he]
theorem cd_K_add {t n l e : Nat} {a1 a2 a3 : Nat → Int32} (hl : l < 2 ^ (4 * n)) (he : e < 16) (K : cd_K t n (cd_E l) a1 a2 a3) :
    cd_K t (n + 1) (cd_E (l ||| e * 2 ^ (4 * n))) (upd a1 (4 + n) (nI 2)) (upd a2 (4 + n) (nI (e % 4))) (upd a3 (4 + n) (nI (e / 4))) := by
  refine ⟨fun i hi => ?_, fun k hk => ?_⟩
  · rw [pk_un (by omega), pk_un (by omega), pk_un (by omega)]
    exact K.1 i hi
  · by_cases e1 : k = n
    · rw [e1, pk_us, pk_us, pk_us, cd_E_new hl he]
      exact ⟨rfl, rfl, rfl⟩
    · rw [pk_un (by omega), pk_un (by omega), pk_un (by omega), cd_E_old hl (by omega)]
      exact K.2 k (by omega)
theorem cd_67 {post : Int32 → St0 → Prop} {mc ms kc ks t q : Nat} {x2 x3 x4 fo hu : Int32} {a1 a2 a3 a4 a5 : Nat → Int32} (hq : q < 2 ^ 31) (K : cd_K t 0 (cd_E 0) a1 a2 a3) (H : post 1 ()) :
    ∃ fu, wL_lawOf_67 post mc ms x2 x3 x4 (nI q) kc ks fu 0 0 0 (nI 4) 0 fo hu a1 a2 a3 a4 a5 := by
  refine pk_loop (fun fu k (s : Nat × Nat × (Nat → Int32) × (Nat → Int32) × (Nat → Int32)) => wL_lawOf_67 post mc ms x2 x3 x4 (nI q) kc ks fu (nI s.1) (nI s.2.1) (nI k) (nI (4 + s.2.1)) 0 fo hu s.2.2.1 s.2.2.2.1 s.2.2.2.2 a4 a5)
    (fun k s => s.2.1 ≤ k ∧ s.1 < 2 ^ (4 * s.2.1) ∧ cd_K t s.2.1 (cd_E s.1) s.2.2.1 s.2.2.2.1 s.2.2.2.2) 7 0 (0, 0, a1, a2, a3) (by omega) ⟨Nat.le_refl 0, (show (0 : Nat) < 2 ^ (4 * 0) by decide), K⟩ ?_ ?_
  · intro fu s h
    obtain ⟨l, n, b1, b2, b3⟩ := s
    obtain ⟨hn, hl, Kb⟩ := h
    dsimp only at hn hl Kb
    have hp28 : 2 ^ (4 * n) ≤ 2 ^ 28 := Nat.pow_le_pow_right (by omega) (by omega)
    have hl31 : l < 2 ^ 31 := by omega
    have hp := cd_p31 (show 4 + n ≤ 11 by omega)
    have hp0 := cd_pp (4 + n)
    have hx := cd_mask32 x2 (show 4 + n ≤ 11 by omega)
    have hS : x2.toBitVec.toNat % 2 ^ (4 + n) < 2 ^ (4 + n) := Nat.mod_lt _ hp0
    show wL_lawOf_67 post mc ms x2 x3 x4 (nI q) kc ks (fu + 1) (nI l) (nI n) (nI 7) (nI (4 + n)) 0 fo hu b1 b2 b3 a4 a5
    refine pk_le 7 7 (fun _ => ?_) (fun z => absurd z (by omega))
    refine nm_r (nI_add 4 n) (nm_r (e' := nI (x2.toBitVec.toNat % 2 ^ (4 + n))) (by rw [cd_ev (4 + n) (by omega)]; exact hx) ?_)
    rw [show nI (x2.toBitVec.toNat % 2 ^ (4 + n)) &&& 15 = nI (x2.toBitVec.toNat % 2 ^ (4 + n) % 2 ^ 4) from pk_andN (by omega) 4 (by decide)]
    refine cd_closure hl31 (by omega) (by omega) (Nat.mod_lt _ (by omega)) (fun v hv dv => ?_)
    refine cd_194 hl31 (by omega) Kb hx hS hv (fun b hb => (dv b hb).trans (cd_Der_c (fun i hi => ?_))) H
    rw [cd_modT]
    exact ⟨fun z => z.2, fun z => ⟨hi, z⟩⟩
  · intro fu k s hk h hw
    obtain ⟨l, n, b1, b2, b3⟩ := s
    obtain ⟨hn, hl, Kb⟩ := h
    dsimp only at hn hl Kb
    have hp28 : 2 ^ (4 * n) ≤ 2 ^ 24 := Nat.pow_le_pow_right (by omega) (by omega)
    have hl31 : l < 2 ^ 31 := by omega
    have he := cd_E_lt q k
    show wL_lawOf_67 post mc ms x2 x3 x4 (nI q) kc ks (fu + 1) (nI l) (nI n) (nI k) (nI (4 + n)) 0 fo hu b1 b2 b3 a4 a5
    refine pk_le 7 k (fun z => absurd z (by omega)) (fun _ => nm_r (cd_ent hq (by omega)) ?_)
    refine cd_place hl31 (by omega) he (fun j hj j1 j2 => ?_)
    rw [cd_lo he, cd_hi he]
    have hst : nI l ||| (nI (cd_E q k) <<< ((4 * nI n) &&& 31)) = nI (l ||| cd_E q k * 2 ^ (4 * n)) := by
      rw [show (4 : Int32) * nI n = nI (4 * n) from pk_mul 4 n, pk_shlN _ (4 * n) (cd_smod _ (by omega)) (by
        have : cd_E q k * 2 ^ (4 * n) ≤ 16 * 2 ^ 24 := Nat.mul_le_mul (by omega) hp28
        omega), cd_or]
    refine cd_join (cd_E_lt l) (by omega) he Kb hj j1 j2 (fun z => br_t (nI_add 4 j).symm ?_) (fun z => ?_)
    · refine pk_eq j n (fun y => absurd y (by omega)) (fun y => pk_eq j n (fun y => absurd y (by omega)) (fun _ => nm_r (nI_1 k) (hw (l, n, b1, b2, b3) ⟨by dsimp only; omega, hl, Kb⟩)))
    · subst z
      refine br_t (nI_add 4 j).symm (br_t rfl (nm_r hst (br_t rfl (nm_r (nI_1 j) (nm_r (nI_1 k) (hw (l ||| cd_E q k * 2 ^ (4 * j), j + 1, upd b1 (4 + j) (nI 2), upd b2 (4 + j) (nI (cd_E q k % 4)), upd b3 (4 + j) (nI (cd_E q k / 4))) ⟨by dsimp only; omega, ?_, cd_K_add hl he Kb⟩))))))
      have e4 : 2 ^ (4 * (j + 1)) = 16 * 2 ^ (4 * j) := by rw [show 4 * (j + 1) = 4 * j + 4 by omega, Nat.pow_add, Nat.mul_comm]
      have h1 : cd_E q k * 2 ^ (4 * j) < 2 ^ (4 * (j + 1)) := by
        rw [e4]
        exact Nat.mul_lt_mul_of_pos_right he (cd_pp _)
      have h2 : l < 2 ^ (4 * (j + 1)) := by omega
      exact Nat.or_lt_two_pow h2 h1
theorem cd_turnI (c : Nat) (x : Int32) : (nI c + x) &&& 3 = nI ((c + x.toBitVec.toNat) % 4) := by
  rw [pk_and (nI c + x) 2 (by decide)]
  have e : (nI c + x).toBitVec.toNat = (c + x.toBitVec.toNat) % 2 ^ 32 := by
    rw [Int32.toBitVec_add, BitVec.toNat_add]
    show ((BitVec.ofNat 32 c).toNat + x.toBitVec.toNat) % 2 ^ 32 = _
    rw [BitVec.toNat_ofNat]
    omega
  rw [e]
  congr 1
  omega
theorem cd_more (x0 x1 : Int32) : ∃ q, q < 2 ^ 31 ∧ (x0 &&& 4095) ||| ((x1 &&& 65535) <<< ((12 : Int32) &&& 31)) = nI q := by
  obtain ⟨a, ha, ea⟩ := pk_andE x0 (m := 4095) 12 (by decide)
  obtain ⟨b, hb, eb⟩ := pk_andE x1 (m := 65535) 16 (by decide)
  refine ⟨a ||| b * 2 ^ 12, Nat.or_lt_two_pow (n := 31) (by omega) (by omega), ?_⟩
  rw [ea, eb, pk_shlN _ 12 (by decide) (by omega), cd_or]
theorem cd_12 {post : Int32 → St0 → Prop} {mc ms kc ks : Nat} {x0 x1 x2 x3 x4 x5 fo hu : Int32} {a1 a2 a3 a4 a5 : Nat → Int32} (H : post 1 ()) :
    ∃ fu, wL_lawOf_12 post mc ms x0 x1 x2 x3 x4 x5 kc ks fu 0 0 0 fo hu a1 a2 a3 a4 a5 := by
  refine pk_loop (fun fu c (s : (Nat → Int32) × (Nat → Int32) × (Nat → Int32)) => wL_lawOf_12 post mc ms x0 x1 x2 x3 x4 x5 kc ks fu (nI c) (nI c) 0 fo hu s.1 s.2.1 s.2.2 a4 a5)
    (fun c s => ∀ j, j < c → s.1 j = nI 3 ∧ s.2.1 j = nI ((j + x5.toBitVec.toNat) % 4) ∧ s.2.2 j = nI 0) 4 0 (a1, a2, a3) (by omega) (fun j hj => absurd hj (by omega)) ?_ ?_
  · intro fu s h
    obtain ⟨b1, b2, b3⟩ := s
    dsimp only at h
    obtain ⟨q, hq, eq⟩ := cd_more x0 x1
    exact pk_le 4 4 (fun _ => nm_r eq (cd_67 hq (t := x5.toBitVec.toNat) ⟨h, fun k hk => absurd hk (by omega)⟩ H)) (fun z => absurd z (by omega))
  · intro fu c s hc h hw
    obtain ⟨b1, b2, b3⟩ := s
    dsimp only at h
    refine pk_le 4 c (fun z => absurd z (by omega)) (fun _ => ?_)
    rw [cd_turnI]
    refine cd_atom hc h (br_t rfl (nm_r (nI_1 c) (hw (upd b1 c (nI 3), upd b2 c (nI ((c + x5.toBitVec.toNat) % 4)), upd b3 c (nI 0)) (fun j hj => ?_))))
    dsimp only
    by_cases ej : j = c
    · rw [ej, pk_us, pk_us, pk_us]
      exact ⟨rfl, rfl, rfl⟩
    · rw [pk_un ej, pk_un ej, pk_un ej]
      exact h j (by omega)
theorem cd_lawOf {post : Int32 → St0 → Prop} (p0 p1 p2 p3 p4 p5 : Int32) (H : post 1 ()) : wpL_lawOf post 6 4138 () p0 p1 p2 p3 p4 p5 := by
  refine ⟨by omega, by omega, 5, 4129, by omega, by omega, ?_⟩
  exact ⟨by omega, by omega, by omega, by omega, by omega, by omega, by omega, by omega, by omega, by omega, cd_12 H⟩
theorem cd_cell {post : Int32 → Prop} {L : Nat} {xs : Nat → Int32} (k : Nat) (hL : L ≤ 6) (hk : k < 6) (H : ∀ r, post r) : wpL_cellAt post L xs () (nI k) :=
  pk_le L k (fun _ => H _) (fun z => ⟨pk_in k L z, H _⟩)
theorem i_vc (xs : Nat → Int32) (L : Nat) (hL : L ≤ 6) : wpL_law (fun r => r = 1) L xs := by
  unfold wpL_law
  refine cd_cell 0 hL (by omega) (fun r1 => ?_)
  refine cd_cell 1 hL (by omega) (fun r2 => ?_)
  refine cd_cell 2 hL (by omega) (fun r3 => ?_)
  refine cd_cell 3 hL (by omega) (fun r4 => ?_)
  refine cd_cell 4 hL (by omega) (fun r5 => ?_)
  refine cd_cell 5 hL (by omega) (fun r6 => ?_)
  exact ⟨6, 4138, by omega, by omega, cd_lawOf r1 r2 r3 r4 r5 r6 rfl⟩
end
