section
theorem pk_us {f : Nat → Int32} {k : Nat} {x : Int32} : upd f k x k = x := if_pos rfl
theorem pk_un {f : Nat → Int32} {k j : Nat} {x : Int32} (h : j ≠ k) : upd f k x j = f j := if_neg h
theorem pk_sub {a b : Nat} (h : b ≤ a) : nI a - nI b = nI (a - b) := by
  obtain ⟨c, rfl⟩ : ∃ c, a = c + b := ⟨a - b, by omega⟩
  rw [← nI_add, Int32.add_sub_cancel, Nat.add_sub_cancel]
theorem pk_m1 (n : Nat) : nI (n + 1) + (-1) = nI n := by
  rw [← nI_1, Int32.add_assoc, show (1 : Int32) + (-1) = 0 from rfl, Int32.add_zero]
theorem pk_mul (a b : Nat) : nI a * nI b = nI (a * b) := (Int32.ofNat_mul a b).symm
theorem pk_div {a d : Nat} (ha : a < 2 ^ 31) (h0 : 0 < d) (hd : d < 2 ^ 31) : nI a / nI d = nI (a / d) := by
  apply Int32.toInt_inj.mp
  rw [lg_idiv_nonneg (by rw [nI_toInt ha]; omega) (by rw [nI_toInt hd]; omega), nI_toInt ha, nI_toInt hd, nI_toInt (Nat.lt_of_le_of_lt (Nat.div_le_self a d) ha)]
  first | rfl | exact (Int.natCast_ediv _ _).symm
theorem pk_rem {a d : Nat} (ha : a < 2 ^ 31) (h0 : 0 < d) (hd : d < 2 ^ 31) : nI a - nI a / nI d * nI d = nI (a % d) := by
  rw [pk_div ha h0 hd, pk_mul, pk_sub (Nat.div_mul_le_self a d)]
  exact congrArg nI (by have := Nat.div_add_mod' a d; omega)
theorem pk_ix (x : Int32) {n : Nat} (hn : n < 2 ^ 31) : x < 0 ∨ nI n ≤ x ∨ ∃ j : Nat, j < n ∧ x = nI j := by
  by_cases h : x < 0
  · exact Or.inl h
  · obtain ⟨j, hj, rfl⟩ := nI_of h
    by_cases h2 : j < n
    · exact Or.inr (Or.inr ⟨j, h2, rfl⟩)
    · exact Or.inr (Or.inl (nI_le (by omega) hj))
theorem pk_le {x y : Int32} {A B : Prop} (a b : Nat) (f : a ≤ b → A) (g : b < a → B) (hx : x = nI a := by rfl) (hy : y = nI b := by rfl) (ha : a < 2 ^ 31 := by omega) (hb : b < 2 ^ 31 := by omega) : (x ≤ y → A) ∧ (¬ x ≤ y → B) := by
  subst hx hy
  rw [nI_leI ha hb]
  exact ⟨f, fun z => g (by omega)⟩
theorem pk_lt {x y : Int32} {A B : Prop} (a b : Nat) (f : a < b → A) (g : b ≤ a → B) (hx : x = nI a := by rfl) (hy : y = nI b := by rfl) (ha : a < 2 ^ 31 := by omega) (hb : b < 2 ^ 31 := by omega) : (x < y → A) ∧ (¬ x < y → B) := by
  subst hx hy
  rw [nI_ltI ha hb]
  exact ⟨f, fun z => g (by omega)⟩
theorem pk_eq {x y : Int32} {A B : Prop} (a b : Nat) (f : a = b → A) (g : a ≠ b → B) (hx : x = nI a := by rfl) (hy : y = nI b := by rfl) (ha : a < 2 ^ 31 := by omega) (hb : b < 2 ^ 31 := by omega) : (x = y → A) ∧ (¬ x = y → B) := by
  subst hx hy
  rw [nI_eq ha hb]
  exact ⟨f, g⟩
theorem pk_in {x : Int32} (n N : Nat) (h : n < N) (hx : x = nI n := by rfl) (hN : N < 2 ^ 31 := by omega) : vp_in x N := by
  subst hx
  exact vp_in_nI h hN
theorem pk_cl {x : Int32} (n : Nat) (hx : x = nI n := by rfl) (h : n < 2 ^ 31 := by omega) : x.toNatClampNeg = n := by
  subst hx
  exact nI_clamp h
theorem pk_tn {n : Nat} (h : n < 2 ^ 32) : (nI n).toBitVec.toNat = n := Nat.mod_eq_of_lt h
theorem pk_least (P : Nat → Prop) (h : ∃ k, P k) : ∃ k, P k ∧ ∀ j, j < k → ¬ P j := by
  obtain ⟨k, hk⟩ := h
  induction k using Nat.strongRecOn with
  | ind k ih =>
    by_cases e : ∃ j, j < k ∧ P j
    · obtain ⟨j, hj, pj⟩ := e
      exact ih j hj pj
    · exact ⟨k, hk, fun j hj pj => e ⟨j, hj, pj⟩⟩
theorem ek_if {c d A B : Prop} (e : c ↔ d) (f : d → A) (g : ¬ d → B) : (c → A) ∧ (¬ c → B) :=
  ⟨fun z => f (e.mp z), fun z => g (fun y => z (e.mpr y))⟩
theorem sb_shr0 (x : Int32) : x >>> ((0 : Int32) &&& 31) = x := by
  rw [show ((0 : Int32) &&& 31) = 0 by decide]
  simp
def bt (x : Int32) (i : Nat) : Bool := x.toBitVec.getLsbD i
theorem b_ext {x y : Int32} (h : ∀ i, i < 32 → bt x i = bt y i) : x = y := Int32.toBitVec_inj.mp (BitVec.eq_of_getLsbD_eq (fun i hi => h i hi))
theorem b_or (x y : Int32) (i : Nat) : bt (x ||| y) i = (bt x i || bt y i) := by unfold bt; rw [Int32.toBitVec_or, BitVec.getLsbD_or]
theorem b_and (x y : Int32) (i : Nat) : bt (x &&& y) i = (bt x i && bt y i) := by unfold bt; rw [Int32.toBitVec_and, BitVec.getLsbD_and]
theorem b_xor (x y : Int32) (i : Nat) : bt (x ^^^ y) i = (bt x i ^^ bt y i) := by unfold bt; rw [Int32.toBitVec_xor, BitVec.getLsbD_xor]
theorem b_big {x : Int32} {i : Nat} (h : 32 ≤ i) : bt x i = false := BitVec.getLsbD_of_ge _ _ h
theorem b_m1 : ∀ i, i < 32 → bt (-1) i = true := by decide +kernel
theorem b_0 (i : Nat) : bt 0 i = false := BitVec.getLsbD_zero
theorem s_l : ∀ n, n < 32 → ((nI n &&& 31).toBitVec.smod 32).toNat = n := by decide +kernel
theorem b_shl (n : Nat) (hn : n < 32) (x : Int32) {i : Nat} (hi : i < 32) : bt (x <<< (nI n &&& 31)) i = (decide (n ≤ i) && bt x (i - n)) := by
  unfold bt
  rw [Int32.toBitVec_shiftLeft]
  show (x.toBitVec <<< ((nI n &&& 31).toBitVec.smod 32).toNat).getLsbD i = _
  rw [s_l n hn, BitVec.getLsbD_shiftLeft]
  rcases Nat.lt_or_ge i n with h | h
  · simp [h, Nat.not_le.mpr h]
  · simp [hi, h, Nat.not_lt.mpr h]
theorem b_sshr (n : Nat) (hn : n < 32) (x : Int32) {i : Nat} (hi : i < 32) : bt (x >>> (nI n &&& 31)) i = if n + i < 32 then bt x (n + i) else bt x 31 := by
  unfold bt
  rw [Int32.toBitVec_shiftRight]
  show (x.toBitVec.sshiftRight ((nI n &&& 31).toBitVec.smod 32).toNat).getLsbD i = _
  rw [s_l n hn, BitVec.getLsbD_sshiftRight, BitVec.msb_eq_getLsbD_last]
  simp [hi]
noncomputable def b01 (P : Prop) : Nat := @ite Nat P (Classical.propDecidable P) 1 0
theorem b01_t {P : Prop} (h : P) : b01 P = 1 := by unfold b01; rw [if_pos h]
theorem b01_f {P : Prop} (h : ¬ P) : b01 P = 0 := by unfold b01; rw [if_neg h]
theorem b01_le (P : Prop) : b01 P ≤ 1 := by
  rcases Classical.em P with h | h
  · rw [b01_t h]; omega
  · rw [b01_f h]; omega
theorem b01_mono {P Q : Prop} (h : P → Q) : b01 P ≤ b01 Q := by
  rcases Classical.em P with hp | hp
  · rw [b01_t hp, b01_t (h hp)]; omega
  · rw [b01_f hp]; omega
noncomputable def cn (P : Nat → Prop) : Nat → Nat
  | 0 => 0
  | k + 1 => cn P k + b01 (P k)
theorem cn_mono {P Q : Nat → Prop} : ∀ {N : Nat}, (∀ k, k < N → P k → Q k) → cn P N ≤ cn Q N
  | 0, _ => Nat.le_refl _
  | N + 1, h => by
    have a := cn_mono (P := P) (Q := Q) (N := N) (fun k hk => h k (by omega))
    have b := b01_mono (h N (by omega))
    simp only [cn]; omega
theorem cn_lt {P Q : Nat → Prop} {a : Nat} (hp : ¬ P a) (hq : Q a) : ∀ {N : Nat}, (∀ k, k < N → P k → Q k) → a < N → cn P N < cn Q N
  | 0, _, h => by omega
  | N + 1, h, ha => by
    simp only [cn]
    rcases Nat.lt_or_ge a N with z | z
    · have x := cn_lt hp hq (N := N) (fun k hk => h k (by omega)) z
      have b := b01_mono (h N (by omega))
      omega
    · have e : a = N := by omega
      subst e
      have x := cn_mono (P := P) (Q := Q) (N := a) (fun k hk => h k (by omega))
      rw [b01_t hq, b01_f hp]; omega
theorem cn_le (P : Nat → Prop) : ∀ N, cn P N ≤ N
  | 0 => Nat.le_refl _
  | N + 1 => by have := cn_le P N; have := b01_le (P N); simp only [cn]; omega
theorem cn_eq {P Q : Nat → Prop} {N : Nat} (h : ∀ k, k < N → (P k ↔ Q k)) : cn P N = cn Q N :=
  Nat.le_antisymm (cn_mono fun k hk => (h k hk).mp) (cn_mono fun k hk => (h k hk).mpr)
theorem cn_add {P : Nat → Prop} {a : Nat} (hp : ¬ P a) : ∀ {N : Nat}, a < N → cn (fun k => P k ∨ k = a) N = cn P N + 1
  | 0, h => by omega
  | N + 1, h => by
    simp only [cn]
    rcases Nat.lt_or_ge a N with z | z
    · rw [cn_add hp z]
      have : b01 (P N ∨ N = a) = b01 (P N) := Nat.le_antisymm (b01_mono fun q => q.elim id (fun e => by omega)) (b01_mono Or.inl)
      omega
    · have e : a = N := by omega
      subst e
      rw [cn_eq (P := fun k => P k ∨ k = a) (Q := P) (fun k hk => ⟨fun q => q.elim id (fun e => by omega), Or.inl⟩), b01_t (Or.inr rfl), b01_f hp]
theorem cn_F : ∀ N, cn (fun _ => False) N = 0
  | 0 => rfl
  | N + 1 => by simp only [cn]; rw [cn_F N, b01_f id]
end
section
/-! sets of states as ints: sp_B x p: the bits of x are the i below 10 with p i -/
def sp_B (x : Int32) (p : Nat → Prop) : Prop := ∀ i, bt x i = true ↔ (i < 10 ∧ p i)
theorem sp_ft {P : Prop} (h : false = true) : P := absurd h (by decide)
theorem sp_B_cg {x : Int32} {p q : Nat → Prop} (h : sp_B x p) (e : ∀ i, i < 10 → (p i ↔ q i)) : sp_B x q := fun i =>
  (h i).trans ⟨fun z => ⟨z.1, (e i z.1).mp z.2⟩, fun z => ⟨z.1, (e i z.1).mpr z.2⟩⟩
theorem sp_B_in {x y : Int32} {p : Nat → Prop} (h : sp_B x p) (g : sp_B y p) : x = y :=
  b_ext fun i _ => Bool.eq_iff_iff.mpr ((h i).trans (g i).symm)
theorem sp_B_0 : sp_B 0 (fun _ => False) := fun i => ⟨fun z => by rw [b_0] at z; exact sp_ft z, fun z => z.2.elim⟩
theorem sp_B_z {x : Int32} {p : Nat → Prop} (h : sp_B x p) : x = 0 ↔ ¬ ∃ i, i < 10 ∧ p i := by
  constructor
  · intro e z
    obtain ⟨i, z⟩ := z
    subst e
    have w := (h i).mpr z
    rw [b_0] at w
    exact sp_ft w
  · intro z
    exact sp_B_in (sp_B_cg h (fun i hi => ⟨fun w => z ⟨i, hi, w⟩, False.elim⟩)) sp_B_0
theorem sp_1a : ∀ i, i < 10 → ∀ j, j < 32 → (bt ((1 : Int32) <<< (nI i &&& 31)) j = true ↔ j = i) := by decide +kernel
theorem sp_1 {i : Nat} (hi : i < 10) (j : Nat) : bt ((1 : Int32) <<< (nI i &&& 31)) j = true ↔ j = i := by
  rcases Nat.lt_or_ge j 32 with h | h
  · exact sp_1a i hi j h
  · rw [b_big h]
    exact ⟨fun z => sp_ft z, fun z => by omega⟩
theorem sp_B_or {x : Int32} {p : Nat → Prop} {i : Nat} (h : sp_B x p) (hi : i < 10) : sp_B (x ||| ((1 : Int32) <<< (nI i &&& 31))) (fun j => p j ∨ j = i) := fun j => by
  rw [b_or, Bool.or_eq_true, h j, sp_1 hi j]
  constructor
  · intro z
    rcases z with z | z
    · exact ⟨z.1, Or.inl z.2⟩
    · exact ⟨by omega, Or.inr z⟩
  · intro z
    rcases z.2 with w | w
    · exact Or.inl ⟨z.1, w⟩
    · exact Or.inr w
theorem sp_B_clr {x : Int32} {p : Nat → Prop} {i : Nat} (h : sp_B x p) (hi : i < 10) : sp_B (x &&& (((1 : Int32) <<< (nI i &&& 31)) ^^^ (-1))) (fun j => p j ∧ j ≠ i) := fun j => by
  rw [b_and, b_xor, Bool.and_eq_true, h j]
  constructor
  · intro z
    have hj := z.1.1
    refine ⟨hj, z.1.2, fun e => ?_⟩
    have c := z.2
    rw [(sp_1 hi j).mpr e, b_m1 j (by omega)] at c
    exact absurd c (by decide)
  · intro z
    have hj := z.1
    refine ⟨⟨hj, z.2.1⟩, ?_⟩
    have w : bt ((1 : Int32) <<< (nI i &&& 31)) j = false := Bool.eq_false_iff.mpr (fun y => z.2.2 ((sp_1 hi j).mp y))
    rw [b_m1 j (by omega), w]
    rfl
theorem sp_B_and {x y : Int32} {p q : Nat → Prop} (h : sp_B x p) (g : sp_B y q) : sp_B (x &&& y) (fun j => p j ∧ q j) := fun j => by
  rw [b_and, Bool.and_eq_true, h j, g j]
  exact ⟨fun z => ⟨z.1.1, z.1.2, z.2.2⟩, fun z => ⟨⟨z.1, z.2.1⟩, ⟨z.1, z.2.2⟩⟩⟩
theorem sp_B_an {x y : Int32} {p q : Nat → Prop} (h : sp_B x p) (g : sp_B y q) : sp_B (x &&& (y ^^^ (-1))) (fun j => p j ∧ ¬ q j) := fun j => by
  rw [b_and, b_xor, Bool.and_eq_true, h j]
  constructor
  · intro z
    have hj := z.1.1
    refine ⟨hj, z.1.2, fun e => ?_⟩
    have c := z.2
    rw [(g j).mpr ⟨hj, e⟩, b_m1 j (by omega)] at c
    exact absurd c (by decide)
  · intro z
    have hj := z.1
    refine ⟨⟨hj, z.2.1⟩, ?_⟩
    have w : bt y j = false := Bool.eq_false_iff.mpr (fun u => z.2.2 ((g j).mp u).2)
    rw [b_m1 j (by omega), w]
    rfl
theorem sp_B_az {x : Int32} {p : Nat → Prop} (h : sp_B x p) (y : Int32) : x &&& y = 0 ↔ ¬ ∃ a, a < 10 ∧ p a ∧ bt y a = true := by
  have g : sp_B (x &&& y) (fun j => p j ∧ bt y j = true) := fun j => by
    rw [b_and, Bool.and_eq_true, h j]
    exact ⟨fun z => ⟨z.1.1, z.1.2, z.2⟩, fun z => ⟨⟨z.1, z.2.1⟩, z.2.2⟩⟩
  exact sp_B_z g
theorem sp_b1 : ∀ j, j < 32 → bt 1 j = decide (j = 0) := by decide +kernel
theorem sp_B_t {x : Int32} {p : Nat → Prop} {i : Nat} (h : sp_B x p) (hi : i < 10) : (x >>> (nI i &&& 31)) &&& 1 = nI (b01 (p i)) := by
  apply b_ext
  intro j hj
  rw [b_and, b_sshr i (by omega) x hj, sp_b1 j hj]
  by_cases e : j = 0
  · subst e
    rw [if_pos (by omega), Nat.add_zero]
    rcases Classical.em (p i) with z | z
    · rw [(h i).mpr ⟨hi, z⟩, b01_t z]
      exact (sp_b1 0 (by omega)).symm
    · have w : bt x i = false := Bool.eq_false_iff.mpr (fun u => z ((h i).mp u).2)
      rw [w, b01_f z]
      exact (b_0 0).symm
  · rw [decide_eq_false e, Bool.and_false]
    rcases Classical.em (p i) with z | z
    · rw [b01_t z]
      have := sp_b1 j hj
      rw [decide_eq_false e] at this
      exact this.symm
    · rw [b01_f z]
      exact (b_0 j).symm
theorem sp_b0 (P : Prop) : nI (b01 P) = 0 ↔ ¬ P := by
  rcases Classical.em P with h | h
  · rw [b01_t h]
    exact ⟨fun z => absurd z (nI_ne0 (by omega) (by omega)), fun z => absurd h z⟩
  · rw [b01_f h]
    exact ⟨fun _ => h, fun _ => nI_0⟩
theorem sp_bc {P Q : Prop} (h : P ↔ Q) : b01 P = b01 Q := congrArg b01 (propext h)
theorem sp_B_t0 {x : Int32} {p : Nat → Prop} {i : Nat} (h : sp_B x p) (hi : i < 10) : (x >>> (nI i &&& 31)) &&& 1 = 0 ↔ ¬ p i := by
  rw [sp_B_t h hi]
  exact sp_b0 _
theorem sp_B_bg {q : Nat → Prop} : sp_B 0 (fun s => s < 0 ∧ q s) := sp_B_cg sp_B_0 (fun i _ => ⟨False.elim, fun z => absurd z.1 (Nat.not_lt_zero _)⟩)
theorem sp_B_ad {x : Int32} {q : Nat → Prop} {i : Nat} (h : sp_B x (fun s => s < i ∧ q s)) (hi : i < 10) (hq : q i) : sp_B (x ||| ((1 : Int32) <<< (nI i &&& 31))) (fun s => s < i + 1 ∧ q s) :=
  sp_B_cg (sp_B_or h hi) fun j _ => ⟨fun z => z.elim (fun w => ⟨Nat.lt_succ_of_lt w.1, w.2⟩) (fun e => by subst e; exact ⟨Nat.lt_succ_self _, hq⟩),
    fun z => (Nat.lt_or_ge j i).elim (fun w => Or.inl ⟨w, z.2⟩) (fun w => Or.inr (Nat.le_antisymm (Nat.le_of_lt_succ z.1) w))⟩
theorem sp_B_sk {x : Int32} {q : Nat → Prop} {i : Nat} (h : sp_B x (fun s => s < i ∧ q s)) (hq : ¬ q i) : sp_B x (fun s => s < i + 1 ∧ q s) :=
  sp_B_cg h fun j _ => ⟨fun z => ⟨Nat.lt_succ_of_lt z.1, z.2⟩, fun z => ⟨(Nat.lt_or_ge j i).elim id (fun w => absurd (Nat.le_antisymm (Nat.le_of_lt_succ z.1) w ▸ z.2) hq), z.2⟩⟩
theorem sp_B_en {x : Int32} {q : Nat → Prop} (h : sp_B x (fun s => s < 10 ∧ q s)) : sp_B x q := sp_B_cg h fun _ hj => ⟨fun z => z.2, fun z => ⟨hj, z⟩⟩
theorem sp_B_ib {p : Nat → Prop} {g : Nat → Nat} : sp_B 0 (fun m => ∃ s, s < 0 ∧ p s ∧ g s = m) := sp_B_cg sp_B_0 (fun i _ => ⟨False.elim, fun z => z.elim fun _ w => absurd w.1 (Nat.not_lt_zero _)⟩)
theorem sp_B_ia {x : Int32} {p : Nat → Prop} {g : Nat → Nat} {i : Nat} (h : sp_B x (fun m => ∃ s, s < i ∧ p s ∧ g s = m)) (hg : g i < 10) (hp : p i) : sp_B (x ||| ((1 : Int32) <<< (nI (g i) &&& 31))) (fun m => ∃ s, s < i + 1 ∧ p s ∧ g s = m) := by
  refine sp_B_cg (sp_B_or h hg) fun m _ => ⟨fun z => ?_, fun z => ?_⟩
  · rcases z with ⟨s, h1, h2, h3⟩ | e
    · exact ⟨s, Nat.lt_succ_of_lt h1, h2, h3⟩
    · exact ⟨i, Nat.lt_succ_self _, hp, e.symm⟩
  · obtain ⟨s, h1, h2, h3⟩ := z
    rcases Nat.lt_or_ge s i with w | w
    · exact Or.inl ⟨s, w, h2, h3⟩
    · have e : s = i := by omega
      subst e
      exact Or.inr h3.symm
theorem sp_B_is {x : Int32} {p : Nat → Prop} {g : Nat → Nat} {i : Nat} (h : sp_B x (fun m => ∃ s, s < i ∧ p s ∧ g s = m)) (hp : ¬ p i) : sp_B x (fun m => ∃ s, s < i + 1 ∧ p s ∧ g s = m) := by
  refine sp_B_cg h fun m _ => ⟨fun z => ?_, fun z => ?_⟩
  · obtain ⟨s, h1, h2, h3⟩ := z
    exact ⟨s, Nat.lt_succ_of_lt h1, h2, h3⟩
  · obtain ⟨s, h1, h2, h3⟩ := z
    rcases Nat.lt_or_ge s i with w | w
    · exact ⟨s, w, h2, h3⟩
    · have e : s = i := by omega
      subst e
      exact absurd h2 hp
/-! indices and small numbers -/
theorem sp_ix (a b : Nat) : (10 : Int32) * nI a + nI b = nI (10 * a + b) := by
  show nI 10 * nI a + nI b = _
  rw [pk_mul, nI_add]
theorem sp_iy (a b : Nat) : nI a * (10 : Int32) + nI b = nI (10 * a + b) := by
  show nI a * nI 10 + nI b = _
  rw [pk_mul, nI_add, Nat.mul_comm]
theorem sp_iz (a b c : Nat) : ((nI a * (100 : Int32)) + (nI b * 10)) + nI c = nI (10 * (10 * a + b) + c) := by
  show ((nI a * nI 100) + (nI b * nI 10)) + nI c = _
  rw [pk_mul, pk_mul, nI_add, nI_add]
  exact congrArg nI (by omega)
theorem sp_iw (a b : Nat) : ((10 : Int32) * nI a + 10) + nI b = nI (10 * (a + 1) + b) := by
  show (nI 10 * nI a + nI 10) + nI b = _
  rw [pk_mul, nI_add, nI_add]
  exact congrArg nI (by omega)
theorem sp_cl {n : Nat} (h : n < 10000) : (nI n).toNatClampNeg = n := nI_clamp (by omega)
theorem sp_in {n N : Nat} (h : n < N) (hN : N < 10000) : vp_in (nI n) N := vp_in_nI h (by omega)
theorem sp_eq {a b : Nat} (ha : a < 10000) (hb : b < 10000) : nI a = nI b ↔ a = b := nI_eq (by omega) (by omega)
theorem sp_by : ∀ m, m < 10 → vp_nar .byte (nI m).toInt8.toInt32 = nI m := by decide +kernel
theorem sp_nb (P : Prop) : narrow .boolean (.int (nI (b01 P))) = .int (nI (b01 P)) := by
  rcases Classical.em P with h | h
  · rw [b01_t h]; exact narrow_b1
  · rw [b01_f h]; exact narrow_b0
theorem sp_vb (P : Prop) : vp_nar .boolean (nI (b01 P)) = nI (b01 P) := by
  unfold vp_nar
  rw [sp_nb]
theorem sp_l10 {i : Nat} (h : i < 10) : ¬ (10 : Int32) ≤ nI i := nI_ge (b := 10) h (by decide)
theorem sp_e10 : (10 : Int32) ≤ nI 10 := nI_le (a := 10) (Nat.le_refl _) (by decide)
theorem sp_l100 {i : Nat} (h : i < 100) : ¬ (100 : Int32) ≤ nI i := nI_ge (b := 100) h (by decide)
theorem sp_e100 : (100 : Int32) ≤ nI 100 := nI_le (a := 100) (Nat.le_refl _) (by decide)
theorem sp_l20 {i : Nat} (h : i < 20) : ¬ (20 : Int32) ≤ nI i := nI_ge (b := 20) h (by decide)
theorem sp_e20 : (20 : Int32) ≤ nI 20 := nI_le (a := 20) (Nat.le_refl _) (by decide)
end
section
/-! the rounds, from the definition: sp_E ca T k: alike after k rounds -/
def sp_A (T E : Nat → Nat → Prop) (g s t : Nat) : Prop := ∀ a, a < 10 → T (10 * g + s) a → ∃ b, b < 10 ∧ T (10 * g + t) b ∧ E a b
def sp_nx (T E : Nat → Nat → Prop) (s t : Nat) : Prop := E s t ∧ sp_A T E 0 s t ∧ sp_A T E 0 t s ∧ sp_A T E 1 s t ∧ sp_A T E 1 t s
def sp_E (ca : Nat → Int32) (T : Nat → Nat → Prop) : Nat → Nat → Nat → Prop
  | 0 => fun s t => ca s = ca t
  | k + 1 => sp_nx T (sp_E ca T k)
/-- an equivalence on the ten states -/
def sp_Q (E : Nat → Nat → Prop) : Prop := (∀ s, s < 10 → E s s) ∧ (∀ s t, s < 10 → t < 10 → E s t → E t s) ∧ (∀ s t u, s < 10 → t < 10 → u < 10 → E s t → E t u → E s u)
theorem sp_A_rf {T E : Nat → Nat → Prop} (h : sp_Q E) (g s : Nat) : sp_A T E g s s := fun a ha z => ⟨a, ha, z, h.1 a ha⟩
theorem sp_A_tr {T E : Nat → Nat → Prop} (h : sp_Q E) {g s t u : Nat} (h1 : sp_A T E g s t) (h2 : sp_A T E g t u) : sp_A T E g s u := fun a ha z => by
  obtain ⟨b, hb, zb, eb⟩ := h1 a ha z
  obtain ⟨c, hc, zc, ec⟩ := h2 b hb zb
  exact ⟨c, hc, zc, h.2.2 a b c ha hb hc eb ec⟩
theorem sp_Q_nx {T E : Nat → Nat → Prop} (h : sp_Q E) : sp_Q (sp_nx T E) := by
  refine ⟨fun s hs => ⟨h.1 s hs, sp_A_rf h 0 s, sp_A_rf h 0 s, sp_A_rf h 1 s, sp_A_rf h 1 s⟩, fun s t hs ht z => ⟨h.2.1 s t hs ht z.1, z.2.2.1, z.2.1, z.2.2.2.2, z.2.2.2.1⟩, fun s t u hs ht hu z w => ?_⟩
  exact ⟨h.2.2 s t u hs ht hu z.1 w.1, sp_A_tr h z.2.1 w.2.1, sp_A_tr h w.2.2.1 z.2.2.1, sp_A_tr h z.2.2.2.1 w.2.2.2.1, sp_A_tr h w.2.2.2.2 z.2.2.2.2⟩
theorem sp_Q_E (ca : Nat → Int32) (T : Nat → Nat → Prop) : ∀ k, sp_Q (sp_E ca T k)
  | 0 => ⟨fun _ _ => rfl, fun _ _ _ _ z => Eq.symm z, fun _ _ _ _ _ _ z w => Eq.trans z w⟩
  | k + 1 => sp_Q_nx (sp_Q_E ca T k)
/-- a round more tells no more -/
def sp_S (T E : Nat → Nat → Prop) : Prop := ∀ s t, s < 10 → t < 10 → E s t → sp_nx T E s t
/-- the least state of s's class -/
noncomputable def sp_l (E : Nat → Nat → Prop) (s : Nat) : Nat := Classical.epsilon (fun m => m ≤ s ∧ E s m ∧ ∀ j, j < m → ¬ E s j)
theorem sp_l_of {E : Nat → Nat → Prop} {s m : Nat} (h : m ≤ s ∧ E s m ∧ ∀ j, j < m → ¬ E s j) : sp_l E s ≤ s ∧ E s (sp_l E s) ∧ ∀ j, j < sp_l E s → ¬ E s j :=
  Classical.epsilon_spec (p := fun m => m ≤ s ∧ E s m ∧ ∀ j, j < m → ¬ E s j) ⟨m, h⟩
theorem sp_l_sp {E : Nat → Nat → Prop} {s : Nat} (h : E s s) : sp_l E s ≤ s ∧ E s (sp_l E s) ∧ ∀ j, j < sp_l E s → ¬ E s j := by
  obtain ⟨m, hm, hl⟩ := pk_least (fun m => E s m) ⟨s, h⟩
  refine sp_l_of (m := m) ⟨?_, hm, hl⟩
  rcases Nat.lt_or_ge s m with z | z
  · exact absurd h (hl s z)
  · exact z
theorem sp_l_eq {E : Nat → Nat → Prop} {s m : Nat} (h0 : m ≤ s) (h1 : E s m) (h2 : ∀ j, j < m → ¬ E s j) : sp_l E s = m := by
  have h := sp_l_of ⟨h0, h1, h2⟩
  rcases Nat.lt_trichotomy (sp_l E s) m with z | z | z
  · exact absurd h.2.1 (h2 _ z)
  · exact z
  · exact absurd h1 (h.2.2 _ z)
theorem sp_l_le {E : Nat → Nat → Prop} (h : sp_Q E) {s : Nat} (hs : s < 10) : sp_l E s ≤ s := (sp_l_sp (h.1 s hs)).1
theorem sp_l_lt {E : Nat → Nat → Prop} (h : sp_Q E) {s : Nat} (hs : s < 10) : sp_l E s < 10 := Nat.lt_of_le_of_lt (sp_l_le h hs) hs
theorem sp_l_in {E : Nat → Nat → Prop} (h : sp_Q E) {s : Nat} (hs : s < 10) : E s (sp_l E s) := (sp_l_sp (h.1 s hs)).2.1
theorem sp_l_iff {E : Nat → Nat → Prop} (h : sp_Q E) {s t : Nat} (hs : s < 10) (ht : t < 10) : sp_l E s = sp_l E t ↔ E s t := by
  constructor
  · intro e
    have h1 := sp_l_in h hs
    have h2 := sp_l_in h ht
    rw [e] at h1
    exact h.2.2 _ _ _ hs (sp_l_lt h ht) ht h1 (h.2.1 _ _ ht (sp_l_lt h ht) h2)
  · intro e
    have hl := sp_l_lt h ht
    have g := sp_l_sp (h.1 t ht)
    refine sp_l_eq ?_ (h.2.2 _ _ _ hs ht hl e g.2.1) (fun j hj z => g.2.2 j hj (h.2.2 _ _ _ ht hs (by omega) (h.2.1 _ _ hs ht e) z))
    rcases Nat.lt_or_ge s (sp_l E t) with z | z
    · exact absurd (h.2.1 _ _ hs ht e) (g.2.2 s z)
    · exact z
theorem sp_l_id {E : Nat → Nat → Prop} (h : sp_Q E) {s : Nat} (hs : s < 10) : sp_l E (sp_l E s) = sp_l E s :=
  ((sp_l_iff h hs (sp_l_lt h hs)).mpr (sp_l_in h hs)).symm
theorem sp_l_cg {E G : Nat → Nat → Prop} {s : Nat} (hs : s < 10) (h : E s s) (e : ∀ t, t < 10 → (E s t ↔ G s t)) : sp_l G s = sp_l E s := by
  have g := sp_l_sp h
  exact sp_l_eq g.1 ((e _ (by omega)).mp g.2.1) (fun j hj z => g.2.2 j hj ((e j (by omega)).mpr z))
/-- the number of classes -/
noncomputable def sp_c (E : Nat → Nat → Prop) : Nat := cn (fun s => sp_l E s = s) 10
theorem sp_c_lt {T E : Nat → Nat → Prop} (h : sp_Q E) (hn : ¬ sp_S T E) : sp_c E < sp_c (sp_nx T E) := by
  have h' := sp_Q_nx (T := T) h
  have sub : ∀ s, s < 10 → sp_l E s = s → sp_l (sp_nx T E) s = s := fun s hs e => by
    have g := sp_l_sp (h.1 s hs)
    rw [e] at g
    exact sp_l_eq (Nat.le_refl _) (h'.1 s hs) (fun j hj z => g.2.2 j hj z.1)
  by_cases c : ∃ a, a < 10 ∧ sp_l (sp_nx T E) a = a ∧ ¬ sp_l E a = a
  · obtain ⟨a, ha, h1, h2⟩ := c
    exact cn_lt (P := fun s => sp_l E s = s) (Q := fun s => sp_l (sp_nx T E) s = s) (a := a) h2 h1 sub ha
  · refine absurd (fun s t hs ht z => ?_) hn
    have key : ∀ s, s < 10 → sp_l E s = sp_l (sp_nx T E) s := fun s hs => by
      have hl := sp_l_lt h' hs
      have e : sp_l E (sp_l (sp_nx T E) s) = sp_l (sp_nx T E) s := Classical.byContradiction fun q => c ⟨_, hl, sp_l_id h' hs, q⟩
      exact ((sp_l_iff h hs hl).mpr (sp_l_in h' hs).1).trans e
    refine (sp_l_iff h' hs ht).mp ?_
    rw [← key s hs, ← key t ht]
    exact (sp_l_iff h hs ht).mpr z
theorem sp_c_ge (ca : Nat → Int32) (T : Nat → Nat → Prop) : ∀ k, (∀ j, j < k → ¬ sp_S T (sp_E ca T j)) → k + 1 ≤ sp_c (sp_E ca T k)
  | 0, _ => by
    have h := cn_lt (P := fun _ => False) (Q := fun s => sp_l (sp_E ca T 0) s = s) (a := 0) id (Nat.le_zero.mp (sp_l_le (sp_Q_E ca T 0) (by omega))) (N := 10) (fun _ _ q => q.elim) (by omega)
    unfold sp_c
    omega
  | k + 1, h => by
    have a := sp_c_ge ca T k (fun j hj => h j (by omega))
    have b := sp_c_lt (sp_Q_E ca T k) (h k (by omega))
    have e : sp_c (sp_E ca T (k + 1)) = sp_c (sp_nx T (sp_E ca T k)) := rfl
    omega
theorem sp_R_ex (ca : Nat → Int32) (T : Nat → Nat → Prop) : ∃ R, R ≤ 9 ∧ sp_S T (sp_E ca T R) ∧ ∀ j, j < R → ¬ sp_S T (sp_E ca T j) := by
  have ex : ∃ k, sp_S T (sp_E ca T k) := Classical.byContradiction fun q => by
    have a := sp_c_ge ca T 10 (fun j _ z => q ⟨j, z⟩)
    have b : sp_c (sp_E ca T 10) ≤ 10 := cn_le _ 10
    omega
  obtain ⟨R, h1, h2⟩ := pk_least _ ex
  have a := sp_c_ge ca T R h2
  have b : sp_c (sp_E ca T R) ≤ 10 := cn_le _ 10
  exact ⟨R, by omega, h1, h2⟩
/-- how many rounds tell more -/
noncomputable def sp_R (ca : Nat → Int32) (T : Nat → Nat → Prop) : Nat := Classical.epsilon (fun R => R ≤ 9 ∧ sp_S T (sp_E ca T R) ∧ ∀ j, j < R → ¬ sp_S T (sp_E ca T j))
theorem sp_R_sp (ca : Nat → Int32) (T : Nat → Nat → Prop) : sp_R ca T ≤ 9 ∧ sp_S T (sp_E ca T (sp_R ca T)) ∧ ∀ j, j < sp_R ca T → ¬ sp_S T (sp_E ca T j) :=
  Classical.epsilon_spec (p := fun R => R ≤ 9 ∧ sp_S T (sp_E ca T R) ∧ ∀ j, j < R → ¬ sp_S T (sp_E ca T j)) (sp_R_ex ca T)
/-- alike -/
def sp_F (ca : Nat → Int32) (T : Nat → Nat → Prop) : Nat → Nat → Prop := sp_E ca T (sp_R ca T)
theorem sp_Q_F (ca : Nat → Int32) (T : Nat → Nat → Prop) : sp_Q (sp_F ca T) := sp_Q_E ca T _
theorem sp_S_F (ca : Nat → Int32) (T : Nat → Nat → Prop) : sp_S T (sp_F ca T) := (sp_R_sp ca T).2.1
theorem sp_E_0 {ca : Nat → Int32} {T : Nat → Nat → Prop} : ∀ {k s t : Nat}, sp_E ca T k s t → ca s = ca t
  | 0, _, _, h => h
  | _ + 1, _, _, h => sp_E_0 h.1
theorem sp_F_A {ca : Nat → Int32} {T : Nat → Nat → Prop} {g s t : Nat} (hg : g < 2) (hs : s < 10) (ht : t < 10) (h : sp_F ca T s t) : sp_A T (sp_F ca T) g s t := by
  have z := sp_S_F ca T s t hs ht h
  rcases (by omega : g = 0 ∨ g = 1) with e | e
  · subst e; exact z.2.1
  · subst e; exact z.2.2.2.1
/-- a partition (f: the number of a state's block) that colours and steps keep is within every round -/
theorem sp_part {ca : Nat → Int32} {T : Nat → Nat → Prop} {f : Nat → Nat} (hc : ∀ s t, s < 10 → t < 10 → f s = f t → ca s = ca t)
    (ha : ∀ g s t, g < 2 → s < 10 → t < 10 → f s = f t → sp_A T (fun a b => f a = f b) g s t) : ∀ k s t, s < 10 → t < 10 → f s = f t → sp_E ca T k s t
  | 0, s, t, hs, ht, e => hc s t hs ht e
  | k + 1, s, t, hs, ht, e => by
    have ih := sp_part hc ha k
    have st : ∀ g s t, g < 2 → s < 10 → t < 10 → f s = f t → sp_A T (sp_E ca T k) g s t := fun g s t hg hs ht e a h1 h2 => by
      obtain ⟨b, h3, h4, h5⟩ := ha g s t hg hs ht e a h1 h2
      exact ⟨b, h3, h4, ih a b h1 h3 h5⟩
    exact ⟨ih s t hs ht e, st 0 s t (by omega) hs ht e, st 0 t s (by omega) ht hs e.symm, st 1 s t (by omega) hs ht e, st 1 t s (by omega) ht hs e.symm⟩
/-- n blocks, none empty: n first states -/
theorem sp_cg {f : Nat → Nat} : ∀ n, (∀ b, b < n → ∃ s, s < 10 ∧ f s = b) → cn (fun s => f s < n ∧ ∀ j, j < s → ¬ f j = f s) 10 = n
  | 0, _ => (cn_eq (Q := fun _ => False) (fun k _ => ⟨fun z => absurd z.1 (Nat.not_lt_zero _), False.elim⟩)).trans (cn_F 10)
  | n + 1, h => by
    have ih := sp_cg n (fun b hb => h b (by omega))
    obtain ⟨s0, hs0, e0⟩ := h n (by omega)
    obtain ⟨m, hm, hl⟩ := pk_least (fun s => f s = n) ⟨s0, e0⟩
    have hm10 : m < 10 := by
      rcases Nat.lt_or_ge s0 m with z | z
      · exact absurd e0 (hl s0 z)
      · omega
    have a := cn_add (P := fun s => f s < n ∧ ∀ j, j < s → ¬ f j = f s) (a := m) (fun z => by have := z.1; have hm : f m = n := hm; omega) (N := 10) hm10
    rw [ih] at a
    refine (cn_eq fun s _ => ⟨fun z => ?_, fun z => ?_⟩).trans a
    · rcases Nat.lt_or_ge (f s) n with w | w
      · exact Or.inl ⟨w, z.2⟩
      · have e : f s = n := by have := z.1; omega
        refine Or.inr ?_
        rcases Nat.lt_trichotomy s m with q | q | q
        · exact absurd e (hl s q)
        · exact q
        · exact absurd (Eq.trans hm e.symm) (z.2 m q)
    · rcases z with z | z
      · exact ⟨Nat.lt_succ_of_lt z.1, z.2⟩
      · subst z
        have hm : f s = n := hm
        exact ⟨by omega, fun j hj e => hl j hj (e.trans hm)⟩
theorem sp_n10 {f : Nat → Nat} {n : Nat} (h : ∀ b, b < n → ∃ s, s < 10 ∧ f s = b) : n ≤ 10 := by
  have a := sp_cg n h
  have b := cn_le (fun s => f s < n ∧ ∀ j, j < s → ¬ f j = f s) 10
  omega
theorem sp_c_n {f : Nat → Nat} {n : Nat} (h : ∀ b, b < n → ∃ s, s < 10 ∧ f s = b) (hf : ∀ s, s < 10 → f s < n) {E : Nat → Nat → Prop} (hE : sp_Q E) (e : ∀ s t, s < 10 → t < 10 → (f s = f t ↔ E s t)) : sp_c E = n := by
  have q : ∀ s, s < 10 → (sp_l E s = s ↔ (f s < n ∧ ∀ j, j < s → ¬ f j = f s)) := fun s hs => by
    constructor
    · intro z
      refine ⟨hf s hs, fun j hj w => ?_⟩
      have g := sp_l_sp (hE.1 s hs)
      rw [z] at g
      exact g.2.2 j hj ((e s j hs (by omega)).mp w.symm)
    · intro z
      exact sp_l_eq (Nat.le_refl _) (hE.1 s hs) (fun j hj w => z.2 j hj ((e s j hs (by omega)).mpr w).symm)
  exact (cn_eq q).trans (sp_cg n h)
end
section
/-! the reference's walks -/
theorem sp_bif {P A B : Prop} {x : Int32} (hx : x = nI (b01 P)) (f : ¬ P → A) (g : P → B) : (x = 0 → A) ∧ (¬ x = 0 → B) := by
  subst hx
  exact ek_if (sp_b0 P) f (fun z => g (Classical.not_not.mp z))
theorem sp_is0 {P : Prop} (h : ¬ P) : (0 : Int32) = nI (b01 P) := ((sp_b0 P).mpr h).symm
theorem sp_is1 {P : Prop} (h : P) : (1 : Int32) = nI (b01 P) := by rw [b01_t h]; rfl
theorem sp_v1 : vp_nar .boolean 1 = 1 := by decide +kernel
theorem sp_v0 : vp_nar .boolean 0 = 0 := by decide +kernel
theorem sp_be {P Q : Prop} (h : P → Q) : nI (b01 P) = nI (b01 Q) ↔ ¬ (Q ∧ ¬ P) := by
  rcases Classical.em P with p | p
  · rw [b01_t p, b01_t (h p)]
    exact ⟨fun _ z => z.2 p, fun _ => rfl⟩
  · rcases Classical.em Q with q | q
    · rw [b01_f p, b01_t q]
      exact ⟨fun z => absurd ((sp_eq (by omega) (by omega)).mp z) (by omega), fun z => absurd ⟨q, p⟩ z⟩
    · rw [b01_f p, b01_f q]
      exact ⟨fun _ z => q z.1, fun _ => rfl⟩
theorem sp_ex {b : Nat} {q : Nat → Prop} : (∃ c, c < b + 1 ∧ q c) ↔ ((∃ c, c < b ∧ q c) ∨ q b) := by
  constructor
  · intro z
    obtain ⟨c, h, w⟩ := z
    rcases Nat.lt_or_ge c b with y | y
    · exact Or.inl ⟨c, y, w⟩
    · have e : c = b := by omega
      subst e
      exact Or.inr w
  · intro z
    rcases z with ⟨c, h, w⟩ | w
    · exact ⟨c, Nat.lt_succ_of_lt h, w⟩
    · exact ⟨b, Nat.lt_succ_self _, w⟩
theorem sp_up {a g : Nat → Int32} {p : Nat} {x : Int32} (hp : p < 10000) (h : ∀ q, q < p → a q = g q) (hx : x = g p) : ∀ q, q < p + 1 → upd a (nI p).toNatClampNeg x q = g q := fun q hq => by
  rw [sp_cl hp]
  rcases Nat.lt_or_ge q p with z | z
  · rw [pk_un (by omega)]
    exact h q z
  · have e : q = p := by omega
    subst e
    rw [pk_us]
    exact hx
def sp_Y (ys : Nat → Int32) (T : Nat → Nat → Prop) : Prop := ∀ p, p < 200 → ys p = nI (b01 (T (p / 10) (p % 10)))
def sp_N (now : Nat → Int32) (E : Nat → Nat → Prop) : Prop := ∀ p, p < 100 → now p = nI (b01 (E (p / 10) (p % 10)))
theorem sp_Y_at {ys : Nat → Int32} {T : Nat → Nat → Prop} (h : sp_Y ys T) {i t : Nat} (hi : i < 20) (ht : t < 10) : ys (10 * i + t) = nI (b01 (T i t)) := by
  rw [h _ (by omega), show (10 * i + t) / 10 = i by omega, show (10 * i + t) % 10 = t by omega]
theorem sp_N_at {now : Nat → Int32} {E : Nat → Nat → Prop} (h : sp_N now E) {i t : Nat} (hi : i < 10) (ht : t < 10) : now (10 * i + t) = nI (b01 (E i t)) := by
  rw [h _ (by omega), show (10 * i + t) / 10 = i by omega, show (10 * i + t) % 10 = t by omega]
theorem sp_N_cg {now : Nat → Int32} {E G : Nat → Nat → Prop} (h : sp_N now E) (e : ∀ s t, s < 10 → t < 10 → (E s t ↔ G s t)) : sp_N now G := fun p hp => by
  rw [h p hp, sp_bc (e (p / 10) (p % 10) (by omega) (by omega))]
section
variable {ca ys now aft : Nat → Int32} {T : Nat → Nat → Prop}
theorem sp_begin {post : SY → Prop} (K : ∀ now', sp_N now' (sp_E ca T 0) → post (ca, ys, now', aft)) : wpY_begin post (ca, ys, now, aft) := by
  refine loop_0 (σ := Nat → Int32) (fun n p a => wY_begin_2 post n (nI p) ca ys a aft) (fun p a => ∀ q, q < p → a q = nI (b01 (ca (q / 10) = ca (q % 10)))) 100 now lt_0 (fun n a h => br_t sp_e100 (K a h)) ?_
  intro n p a hp h k
  have d : nI p / 10 = nI (p / 10) := pk_div (d := 10) (by omega) (by omega) (by omega)
  have m : nI p - nI p / 10 * 10 = nI (p % 10) := pk_rem (d := 10) (by omega) (by omega) (by omega)
  have i1 : vp_in (nI p / 10) 10 := by rw [d]; exact sp_in (by omega) (by omega)
  have i2 : vp_in (nI p - nI p / 10 * 10) 10 := by rw [m]; exact sp_in (by omega) (by omega)
  have cc : ca (nI p / 10).toNatClampNeg = ca (nI p - nI p / 10 * 10).toNatClampNeg ↔ ca (p / 10) = ca (p % 10) := by
    rw [m, d, sp_cl (by omega), sp_cl (by omega)]
  have hi : vp_in (nI p) 100 := sp_in hp (by omega)
  refine br_f (sp_l100 hp) ⟨by decide, i1, by decide, i2, ek_if cc (fun z => ⟨hi, nm_e (nm_r (nI_1 p) (k _ ?_))⟩) (fun z => ⟨hi, nm_e (nm_r (nI_1 p) (k _ ?_))⟩)⟩
  · exact sp_up (g := fun q => nI (b01 (ca (q / 10) = ca (q % 10)))) (by omega) h (sp_v1.trans (sp_is1 z))
  · exact sp_up (g := fun q => nI (b01 (ca (q / 10) = ca (q % 10)))) (by omega) h (sp_v0.trans (sp_is0 z))
theorem sp_ans40 {post J : Int32 → Prop} {x2 : Int32} {E : Nat → Nat → Prop} {g t a : Nat} {G : Prop} (hg : g < 2) (ht : t < 10) (ha : a < 10) (hY : sp_Y ys T) (hN : sp_N now E)
    (kt : (G ∨ ∃ b, b < 10 ∧ T (10 * g + t) b ∧ E a b) → J (nI (a + 1))) (kf : ¬ (G ∨ ∃ b, b < 10 ∧ T (10 * g + t) b ∧ E a b) → post 0) :
    ∀ (d b : Nat) (x : Int32), b + d = 10 → x = nI (b01 (G ∨ ∃ c, c < b ∧ T (10 * g + t) c ∧ E a c)) → wY_answered_40 post J (nI g) x2 (nI t) (nI a) ca ys now aft (d + 1) x (nI b) := by
  intro d
  induction d with
  | zero =>
    intro b x hb hx
    have e : b = 10 := by omega
    subst e
    exact br_t sp_e10 (sp_bif hx kf (fun z => nm_r (nI_1 a) (kt z)))
  | succ d ih =>
    intro b x hb hx
    have i2 : vp_in (((nI g * 100) + (nI t * 10)) + nI b) 200 := by rw [sp_iz]; exact sp_in (by omega) (by omega)
    have i1 : vp_in ((nI a * 10) + nI b) 100 := by rw [sp_iy]; exact sp_in (by omega) (by omega)
    have e2 : ys (((nI g * 100) + (nI t * 10)) + nI b).toNatClampNeg = nI (b01 (T (10 * g + t) b)) := by
      rw [sp_iz, sp_cl (by omega)]; exact sp_Y_at hY (by omega) (by omega)
    have e1 : now ((nI a * 10) + nI b).toNatClampNeg = nI (b01 (E a b)) := by
      rw [sp_iy, sp_cl (by omega)]; exact sp_N_at hN (by omega) (by omega)
    refine br_f (sp_l10 (by omega)) (sp_bif hx (fun z => ⟨i2, sp_bif e2 (fun w => nm_r (nI_1 b) (ih (b + 1) 0 (by omega) (sp_is0 ?_))) (fun w => ⟨i1, sp_bif e1 (fun v => nm_r (nI_1 b) (ih (b + 1) 0 (by omega) (sp_is0 ?_))) (fun v => nm_r (nI_1 b) (ih (b + 1) 1 (by omega) (sp_is1 ?_)))⟩)⟩) (fun z => nm_r (nI_1 b) (ih (b + 1) 1 (by omega) (sp_is1 ?_))))
    · intro q
      rcases q with q | q
      · exact z (Or.inl q)
      · rcases sp_ex.mp q with q | q
        · exact z (Or.inr q)
        · exact w q.1
    · intro q
      rcases q with q | q
      · exact z (Or.inl q)
      · rcases sp_ex.mp q with q | q
        · exact z (Or.inr q)
        · exact v q.2
    · exact Or.inr (sp_ex.mpr (Or.inr ⟨w, v⟩))
    · rcases z with q | q
      · exact Or.inl q
      · exact Or.inr (sp_ex.mpr (Or.inl q))
theorem sp_ans3 {post : Int32 → Prop} {E : Nat → Nat → Prop} {g s t : Nat} (hg : g < 2) (hs : s < 10) (ht : t < 10) (hY : sp_Y ys T) (hN : sp_N now E)
    (kt : sp_A T E g s t → post 1) (kf : ¬ sp_A T E g s t → post 0) :
    ∀ (d a : Nat), a + d = 10 → (∀ c, c < a → T (10 * g + s) c → ∃ b, b < 10 ∧ T (10 * g + t) b ∧ E c b) → wY_answered_3 post (nI g) (nI s) (nI t) ca ys now aft (d + 1) (nI a) := by
  intro d
  induction d with
  | zero =>
    intro a ha h
    have e : a = 10 := by omega
    subst e
    exact br_t sp_e10 (kt h)
  | succ d ih =>
    intro a ha h
    have i2 : vp_in (((nI g * 100) + (nI s * 10)) + nI a) 200 := by rw [sp_iz]; exact sp_in (by omega) (by omega)
    have e2 : ys (((nI g * 100) + (nI s * 10)) + nI a).toNatClampNeg = nI (b01 (T (10 * g + s) a)) := by
      rw [sp_iz, sp_cl (by omega)]; exact sp_Y_at hY (by omega) (by omega)
    have k := sp_ans40 (ca := ca) (aft := aft) (post := post) (J := wY_answered_3 post (nI g) (nI s) (nI t) ca ys now aft (d + 1)) (x2 := nI s) (E := E) (g := g) (t := t) (a := a) (G := ¬ T (10 * g + s) a) hg ht (by omega) hY hN
      (fun q => ih (a + 1) (by omega) (lt_s h (fun hT => q.resolve_left (fun n => n hT))))
      (fun q => kf (fun A => q (Classical.byCases (fun hT => Or.inr (A a (by omega) hT)) (fun hT => Or.inl hT))))
    refine br_f (sp_l10 (by omega)) ⟨i2, sp_bif e2 (fun z => ⟨11, k 10 0 1 (by omega) (sp_is1 (Or.inl z))⟩) (fun z => ⟨11, k 10 0 0 (by omega) (sp_is0 ?_)⟩)⟩
    intro q
    rcases q with q | ⟨c, hc, _⟩
    · exact q z
    · omega
theorem sp_ans {post : Int32 → Prop} {E : Nat → Nat → Prop} {g s t : Nat} (hg : g < 2) (hs : s < 10) (ht : t < 10) (hY : sp_Y ys T) (hN : sp_N now E)
    (h : post (nI (b01 (sp_A T E g s t)))) : wpY_answered post (ca, ys, now, aft) (nI g) (nI s) (nI t) :=
  Exists.intro 11 (sp_ans3 hg hs ht hY hN (fun z => by rw [b01_t z] at h; exact h) (fun z => by rw [b01_f z] at h; exact h) 10 0 rfl lt_0)
def sp_D (T E : Nat → Nat → Prop) (q : Nat) : Prop := E (q / 10) (q % 10) ∧ ¬ sp_nx T E (q / 10) (q % 10)
noncomputable def sp_g (T E : Nat → Nat → Prop) (q : Nat) : Int32 := nI (b01 (sp_nx T E (q / 10) (q % 10)))
theorem sp_r84 {post : Int32 → SY → Prop} {J : Int32 → Int32 → (Nat → Int32) → (Nat → Int32) → (Nat → Int32) → (Nat → Int32) → Prop} {E : Nat → Nat → Prop} {p : Nat} {x z0 : Int32} (hp : p < 100) (hN : sp_N now E)
    (hx : x = nI (b01 (∃ q, q < p ∧ sp_D T E q))) (ha : ∀ q, q < p → aft q = sp_g T E q)
    (k : ∀ x' aft', x' = nI (b01 (∃ q, q < p + 1 ∧ sp_D T E q)) → (∀ q, q < p + 1 → aft' q = sp_g T E q) → J x' (nI (p + 1)) ca ys now aft')
    (hz : z0 = sp_g T E p) : wY_round_84 post J x (nI p) z0 (nI p) ca ys now aft := by
  have hi : vp_in (nI p) 100 := sp_in hp (by omega)
  have hv : vp_nar .boolean z0 = sp_g T E p := by rw [hz]; exact sp_vb _
  have cc : (upd aft (nI p).toNatClampNeg (vp_nar .boolean z0)) (nI p).toNatClampNeg = now (nI p).toNatClampNeg ↔ ¬ sp_D T E p := by
    rw [sp_cl (by omega), pk_us, hv, hN p hp]
    exact sp_be (fun z => z.1)
  have hu := sp_up (a := aft) (g := sp_g T E) (p := p) (by omega) ha hv
  refine And.intro hi (nm_e ⟨hi, hi, ek_if cc (fun z => nm_r (nI_1 p) (k _ _ ?_ hu)) (fun z => nm_r (nI_1 p) (k _ _ (sp_is1 ?_) hu))⟩)
  · rw [hx]
    refine congrArg nI (sp_bc ⟨fun q => sp_ex.mpr (Or.inl q), fun q => ?_⟩)
    exact (sp_ex.mp q).elim id (fun w => absurd w z)
  · exact sp_ex.mpr (Or.inr (Classical.not_not.mp z))
theorem sp_r110 {post : Int32 → SY → Prop} {x : Int32} {E : Nat → Nat → Prop} (hx : x = nI (b01 (∃ q, q < 100 ∧ sp_D T E q))) (ha : ∀ q, q < 100 → aft q = sp_g T E q)
    (K : ∀ now' aft', sp_N now' (sp_nx T E) → post (nI (b01 (¬ sp_S T E))) (ca, ys, now', aft')) : ∃ n, wY_round_110 post x n 0 ca ys now aft := by
  have hS : (∃ q, q < 100 ∧ sp_D T E q) ↔ ¬ sp_S T E := by
    constructor
    · intro z w
      obtain ⟨q, hq, h1, h2⟩ := z
      exact h2 (w _ _ (by omega) (by omega) h1)
    · intro z
      refine Classical.byContradiction fun w => z (fun s t hs ht e => Classical.byContradiction fun v => w ⟨10 * s + t, by omega, ?_⟩)
      unfold sp_D
      rw [show (10 * s + t) / 10 = s by omega, show (10 * s + t) % 10 = t by omega]
      exact ⟨e, v⟩
  rw [sp_bc hS] at hx
  subst hx
  refine loop_0 (σ := Nat → Int32) (fun n p a => wY_round_110 post (nI (b01 (¬ sp_S T E))) n (nI p) ca ys a aft) (fun p a => ∀ q, q < p → a q = sp_g T E q) 100 now lt_0 (fun n a h => br_t sp_e100 ⟨sp_nb _, K a aft h⟩) ?_
  intro n p a hp h k
  have hi : vp_in (nI p) 100 := sp_in hp (by omega)
  refine br_f (sp_l100 hp) ⟨hi, hi, nm_e (nm_r (nI_1 p) (k _ ?_))⟩
  refine sp_up (g := sp_g T E) (by omega) h ?_
  rw [sp_cl (by omega), ha p hp]
  exact sp_vb _
theorem sp_round {post : Int32 → SY → Prop} {E : Nat → Nat → Prop} (hY : sp_Y ys T) (hN : sp_N now E)
    (K : ∀ now' aft', sp_N now' (sp_nx T E) → post (nI (b01 (¬ sp_S T E))) (ca, ys, now', aft')) : wpY_round post (ca, ys, now, aft) := by
  have main : ∀ (d p : Nat) (x : Int32) (aft : Nat → Int32), p + d = 100 → x = nI (b01 (∃ q, q < p ∧ sp_D T E q)) → (∀ q, q < p → aft q = sp_g T E q) → wY_round_4 post (d + 1) x (nI p) ca ys now aft := by
    intro d
    induction d with
    | zero =>
      intro p x aft hp hx ha
      have e : p = 100 := by omega
      subst e
      exact br_t sp_e100 (sp_r110 hx ha K)
    | succ d ih =>
      intro p x aft hp hx ha
      have hd : nI p / 10 = nI (p / 10) := pk_div (d := 10) (by omega) (by omega) (by omega)
      have hm : nI p - nI p / 10 * 10 = nI (p % 10) := pk_rem (d := 10) (by omega) (by omega) (by omega)
      have hn : now (nI p).toNatClampNeg = nI (b01 (E (p / 10) (p % 10))) := by rw [sp_cl (by omega)]; exact hN p (by omega)
      have L : ∀ z0, z0 = sp_g T E p → wY_round_84 post (wY_round_4 post (d + 1)) x (nI p) z0 (nI p) ca ys now aft := fun z0 => sp_r84 (by omega) hN hx ha (fun x' aft' h1 h2 => ih (p + 1) x' aft' (by omega) h1 h2)
      have hs : p / 10 < 10 := by omega
      have ht : p % 10 < 10 := by omega
      have L0 : ¬ sp_nx T E (p / 10) (p % 10) → wY_round_83 post (wY_round_4 post (d + 1)) x (nI p) (nI p) ca ys now aft := fun z => L 0 (sp_is0 z)
      refine br_f (sp_l100 (by omega)) ⟨by decide, nm_r hd ⟨by decide, nm_r hm ⟨sp_in (by omega) (by omega), sp_bif hn (fun z => L0 (fun w => z w.1)) (fun z => ?_)⟩⟩⟩
      refine sp_ans (g := 0) (by omega) hs ht hY hN (sp_bif rfl (fun z1 => L0 (fun w => z1 w.2.1)) (fun z1 => ?_))
      refine sp_ans (g := 0) (by omega) ht hs hY hN (sp_bif rfl (fun z2 => L0 (fun w => z2 w.2.2.1)) (fun z2 => ?_))
      refine sp_ans (g := 1) (by omega) hs ht hY hN (sp_bif rfl (fun z3 => L0 (fun w => z3 w.2.2.2.1)) (fun z3 => ?_))
      refine sp_ans (g := 1) (by omega) ht hs hY hN (sp_bif rfl (fun z4 => L0 (fun w => z4 w.2.2.2.2)) (fun z4 => ?_))
      exact L 1 (sp_is1 ⟨z, z1, z2, z3, z4⟩)
  exact Exists.intro 101 (main 100 0 0 aft rfl (sp_is0 (fun z => z.elim fun q w => absurd w.1 (Nat.not_lt_zero _))) lt_0)
theorem sp_yset {post : Int32 → SY → Prop} (hY : sp_Y ys T) (K : ∀ now' aft', sp_N now' (sp_F ca T) → post (nI (sp_R ca T)) (ca, ys, now', aft')) : wpY_settle post (ca, ys, now, aft) := by
  have hR := sp_R_sp ca T
  have main : ∀ (d k : Nat) (now aft : Nat → Int32), k + d = sp_R ca T → sp_N now (sp_E ca T k) → wY_settle_6 post (d + 1) (nI k) ca ys now aft := by
    intro d
    induction d with
    | zero =>
      intro k now aft hk hN
      have e : k = sp_R ca T := by omega
      subst e
      refine br_f (sp_l100 (by omega)) (sp_round hY hN (fun now' aft' h => ?_))
      exact sp_bif rfl (fun z => K now' aft' (sp_N_cg h (fun s t hs ht => ⟨fun w => w.1, fun w => hR.2.1 s t hs ht w⟩))) (fun z => absurd hR.2.1 z)
    | succ d ih =>
      intro k now aft hk hN
      refine br_f (sp_l100 (by omega)) (sp_round hY hN (fun now' aft' h => ?_))
      exact sp_bif rfl (fun z => absurd (hR.2.2 k (by omega)) z) (fun z => nm_r (nI_1 k) (ih (k + 1) now' aft' (by omega) h))
  unfold wpY_settle
  exact sp_begin (fun now' h => Exists.intro (sp_R ca T + 1) (main (sp_R ca T) 0 now' aft (by omega) h))
theorem sp_ylead {post : Int32 → Prop} {E : Nat → Nat → Prop} {s : Nat} (hs : s < 10) (hE : E s s) (hN : sp_N now E) (h : post (nI (sp_l E s))) : wpY_leaderNow post (ca, ys, now, aft) (nI s) := by
  have g := sp_l_sp hE
  have main : ∀ (d t : Nat), t + d = sp_l E s → wY_leaderNow_2 post (nI s) ca ys now aft (d + 1) (nI t) := by
    intro d
    induction d with
    | zero =>
      intro t ht
      have e : t = sp_l E s := by omega
      have i1 : vp_in ((nI s * 10) + nI t) 100 := by rw [sp_iy]; exact sp_in (by omega) (by omega)
      have e1 : now ((nI s * 10) + nI t).toNatClampNeg = nI (b01 (E s t)) := by
        rw [sp_iy, sp_cl (by omega)]; exact sp_N_at hN (by omega) (by omega)
      rw [← e] at h g
      exact br_c (fun _ => h) (fun _ => ⟨i1, sp_bif e1 (fun z => absurd g.2.1 z) (fun _ => h)⟩)
    | succ d ih =>
      intro t ht
      have i1 : vp_in ((nI s * 10) + nI t) 100 := by rw [sp_iy]; exact sp_in (by omega) (by omega)
      have e1 : now ((nI s * 10) + nI t).toNatClampNeg = nI (b01 (E s t)) := by
        rw [sp_iy, sp_cl (by omega)]; exact sp_N_at hN (by omega) (by omega)
      exact br_f (nI_ge (by omega) (by omega)) ⟨i1, sp_bif e1 (fun _ => nm_r (nI_1 t) (ih (t + 1) (by omega))) (fun z => absurd z (g.2.2 t (by omega)))⟩
  exact Exists.intro (sp_l E s + 1) (main (sp_l E s) 0 (by omega))
theorem sp_yis1 {post : Int32 → Prop} {s : Nat} (hs : s < 10) (h : post 1) : wpY_isState post (ca, ys, now, aft) (nI s) := br_f (nI_pos (by omega)) (br_f (sp_l10 hs) h)
theorem sp_yis0 {post : Int32 → Prop} {x : Int32} (hx : x < 0 ∨ 10 ≤ x) (h : post 0) : wpY_isState post (ca, ys, now, aft) x :=
  br_c (fun _ => h) (fun z => br_t (hx.resolve_left z) h)
end
end
section
/-! the reference's methods: what each answers -/
section
variable {ca ys now aft : Nat → Int32} {T : Nat → Nat → Prop}
theorem sp_yleader {post : Int32 → SY → Prop} {s : Nat} (hY : sp_Y ys T) (hs : s < 10) (K : ∀ now' aft', post (nI (sp_l (sp_F ca T) s)) (ca, ys, now', aft')) : wpY_leader post (ca, ys, now, aft) (nI s) := by
  unfold wpY_leader
  refine sp_yis1 hs (br_f (by decide) ?_)
  refine sp_yset hY (fun now' aft' h => ?_)
  exact sp_ylead hs ((sp_Q_F ca T).1 s hs) h (K now' aft')
theorem sp_yclasses {post : Int32 → SY → Prop} (hY : sp_Y ys T) (K : ∀ now' aft', post (nI (sp_c (sp_F ca T))) (ca, ys, now', aft')) : wpY_classes post (ca, ys, now, aft) := by
  have main : ∀ (d s : Nat) (now aft : Nat → Int32), s + d = 10 → wY_classes_4 post (d + 1) (nI (cn (fun s => sp_l (sp_F ca T) s = s) s)) (nI s) ca ys now aft := by
    intro d
    induction d with
    | zero =>
      intro s now aft h
      have e : s = 10 := by omega
      subst e
      exact br_t sp_e10 (K now aft)
    | succ d ih =>
      intro s now aft h
      have hs : s < 10 := by omega
      refine br_f (sp_l10 hs) (sp_yleader hY hs (fun now' aft' => ?_))
      have hl := sp_l_lt (sp_Q_F ca T) hs
      refine ek_if (sp_eq (by omega) (by omega)) (fun z => nm_e (nm_r (nI_1 s) ?_)) (fun z => nm_r (nI_1 s) ?_)
      · have k := ih (s + 1) now' aft' (by omega)
        simp only [cn] at k
        rw [b01_t z, ← nI_1] at k
        exact k
      · have k := ih (s + 1) now' aft' (by omega)
        simp only [cn] at k
        rw [b01_f z] at k
        exact k
  exact Exists.intro 11 (main 10 0 now aft rfl)
theorem sp_yalike {post : Int32 → SY → Prop} {s t : Nat} (hY : sp_Y ys T) (hs : s < 10) (ht : t < 10) (K : ∀ now' aft', post (nI (b01 (sp_F ca T s t))) (ca, ys, now', aft')) : wpY_alike post (ca, ys, now, aft) (nI s) (nI t) := by
  unfold wpY_alike
  refine sp_yis1 hs (br_f (by decide) (sp_yis1 ht (br_f (by decide) ?_)))
  refine sp_yset hY (fun now' aft' h => ?_)
  have i1 : vp_in ((nI s * 10) + nI t) 100 := by rw [sp_iy]; exact sp_in (by omega) (by omega)
  have e1 : now' ((nI s * 10) + nI t).toNatClampNeg = nI (b01 (sp_F ca T s t)) := by
    rw [sp_iy, sp_cl (by omega)]; exact sp_N_at h (by omega) (by omega)
  dsimp only
  rw [e1]
  exact ⟨i1, sp_nb _, K now' aft'⟩
theorem sp_ymembers {post : Int32 → SY → Prop} {s : Nat} (hY : sp_Y ys T) (hs : s < 10) (K : ∀ x now' aft', sp_B x (sp_F ca T s) → post x (ca, ys, now', aft')) : wpY_members post (ca, ys, now, aft) (nI s) := by
  unfold wpY_members
  refine sp_yis1 hs (br_f (by decide) ?_)
  refine sp_yset hY (fun now' aft' h => ?_)
  refine loop_0 (σ := Int32) (fun n i x => wY_members_19 post (nI s) ca ys now' aft' n x (nI i)) (fun i x => sp_B x (fun t => t < i ∧ sp_F ca T s t)) 10 0 sp_B_bg (fun n x hx => br_t sp_e10 (K x now' aft' (sp_B_en hx))) ?_
  intro n i x hi hx k
  have i1 : vp_in ((nI s * 10) + nI i) 100 := by rw [sp_iy]; exact sp_in (by omega) (by omega)
  have e1 : now' ((nI s * 10) + nI i).toNatClampNeg = nI (b01 (sp_F ca T s i)) := by
    rw [sp_iy, sp_cl (by omega)]; exact sp_N_at h (by omega) (by omega)
  exact br_f (sp_l10 hi) ⟨i1, sp_bif e1 (fun z => nm_r (nI_1 i) (k _ (sp_B_sk hx z))) (fun z => nm_e (nm_r (nI_1 i) (k _ (sp_B_ad hx hi z))))⟩
/-- r: the first round that tells s from t, or -2 -/
def sp_tl (ca : Nat → Int32) (T : Nat → Nat → Prop) (s t : Nat) (r : Int32) : Prop :=
  (r = -2 ∧ ∀ k, k ≤ sp_R ca T → sp_E ca T k s t) ∨ (∃ k, k ≤ sp_R ca T ∧ r = nI k ∧ ¬ sp_E ca T k s t ∧ ∀ j, j < k → sp_E ca T j s t)
theorem sp_tl_ex (ca : Nat → Int32) (T : Nat → Nat → Prop) (s t : Nat) : ∃ r, sp_tl ca T s t r := by
  by_cases h : ∃ k, k ≤ sp_R ca T ∧ ¬ sp_E ca T k s t
  · obtain ⟨k, hk, hl⟩ := pk_least _ h
    refine ⟨nI k, Or.inr ⟨k, hk.1, rfl, hk.2, fun j hj => Classical.byContradiction fun q => hl j hj ⟨?_, q⟩⟩⟩
    have := hk.1
    omega
  · exact ⟨-2, Or.inl ⟨rfl, fun k hk => Classical.byContradiction fun q => h ⟨k, hk, q⟩⟩⟩
theorem sp_tl_n {s t : Nat} {r : Int32} (h : sp_tl ca T s t r) (g : ∀ k, k ≤ sp_R ca T → sp_E ca T k s t) : r = -2 := by
  rcases h with h | ⟨k, h1, _, h2, _⟩
  · exact h.1
  · exact absurd (g k h1) h2
theorem sp_tl_k {s t k : Nat} {r : Int32} (h : sp_tl ca T s t r) (hk : k ≤ sp_R ca T) (g : ¬ sp_E ca T k s t) (gl : ∀ j, j < k → sp_E ca T j s t) : r = nI k := by
  rcases h with h | ⟨m, h1, h2, h3, h4⟩
  · exact absurd (h.2 k hk) g
  · rcases Nat.lt_trichotomy k m with z | z | z
    · exact absurd (h4 k z) g
    · rw [h2, z]
    · exact absurd (gl m z) h3
theorem sp_ytold {post : Int32 → SY → Prop} {s t : Nat} {r : Int32} (hY : sp_Y ys T) (hs : s < 10) (ht : t < 10) (hr : sp_tl ca T s t r) (K : ∀ now' aft', post r (ca, ys, now', aft')) : wpY_told post (ca, ys, now, aft) (nI s) (nI t) := by
  have hR := sp_R_sp ca T
  have i1 : vp_in ((nI s * 10) + nI t) 100 := by rw [sp_iy]; exact sp_in (by omega) (by omega)
  have e1 : ∀ now k, sp_N now (sp_E ca T k) → now ((nI s * 10) + nI t).toNatClampNeg = nI (b01 (sp_E ca T k s t)) := fun now k h => by
    rw [sp_iy, sp_cl (by omega)]; exact sp_N_at h (by omega) (by omega)
  have main : ∀ (d k : Nat) (now aft : Nat → Int32), k + d = sp_R ca T → sp_N now (sp_E ca T k) → (∀ j, j < k → sp_E ca T j s t) → wY_told_24 post (nI s) (nI t) (d + 1) (nI k) ca ys now aft := by
    intro d
    induction d with
    | zero =>
      intro k now aft hk hN hj
      have e : k = sp_R ca T := by omega
      refine And.intro i1 (sp_bif (e1 now k hN) (fun z => ?_) (fun z => ?_))
      · have g := sp_tl_k hr (by omega) z hj
        rw [← g]
        exact K now aft
      · refine sp_round hY hN (fun now' aft' h => ?_)
        subst e
        refine sp_bif rfl (fun w => ?_) (fun w => absurd hR.2.1 w)
        have g := sp_tl_n hr (fun j hj' => by
          rcases Nat.lt_or_ge j (sp_R ca T) with y | y
          · exact hj j y
          · have e : j = sp_R ca T := by omega
            rw [e]; exact z)
        rw [← g]
        exact K now' aft'
    | succ d ih =>
      intro k now aft hk hN hj
      refine And.intro i1 (sp_bif (e1 now k hN) (fun z => ?_) (fun z => ?_))
      · have g := sp_tl_k hr (by omega) z hj
        rw [← g]
        exact K now aft
      · refine sp_round hY hN (fun now' aft' h => ?_)
        exact sp_bif rfl (fun w => absurd (hR.2.2 k (by omega)) w) (fun w => nm_r (nI_1 k) (ih (k + 1) now' aft' (by omega) h (lt_s hj z)))
  unfold wpY_told
  refine sp_yis1 hs (br_f (by decide) (sp_yis1 ht (br_f (by decide) ?_)))
  exact sp_begin (fun now' h => Exists.intro (sp_R ca T + 1) (main (sp_R ca T) 0 now' aft (by omega) h lt_0))
/-- the leaders of what row i leads to -/
def sp_J (E T : Nat → Nat → Prop) (i m : Nat) : Prop := ∃ t, t < 10 ∧ T i t ∧ sp_l E t = m
theorem sp_yleads {post : Int32 → SY → Prop} {g s : Nat} (hY : sp_Y ys T) (hg : g < 2) (hs : s < 10) (K : ∀ x now' aft', sp_B x (sp_J (sp_F ca T) T (10 * g + s)) → post x (ca, ys, now', aft')) : wpY_leads post (ca, ys, now, aft) (nI g) (nI s) := by
  unfold wpY_leads
  refine br_f (nI_pos (by omega)) (br_f (nI_nlt (a := 1) (b := g) (by omega) (by omega)) ?_)
  refine sp_yis1 hs (br_f (by decide) ?_)
  refine sp_yset hY (fun now' aft' h => ?_)
  refine loop_0 (σ := Int32) (fun n i x => wY_leads_29 post (nI g) (nI s) ca ys now' aft' n x (nI i)) (fun i x => sp_B x (fun m => ∃ t, t < i ∧ T (10 * g + s) t ∧ sp_l (sp_F ca T) t = m)) 10 0 sp_B_ib (fun n x hx => br_t sp_e10 (K x now' aft' hx)) ?_
  intro n i x hi hx k
  have i2 : vp_in (((nI g * 100) + (nI s * 10)) + nI i) 200 := by rw [sp_iz]; exact sp_in (by omega) (by omega)
  have e2 : ys (((nI g * 100) + (nI s * 10)) + nI i).toNatClampNeg = nI (b01 (T (10 * g + s) i)) := by
    rw [sp_iz, sp_cl (by omega)]; exact sp_Y_at hY (by omega) (by omega)
  refine br_f (sp_l10 hi) ⟨i2, sp_bif e2 (fun z => nm_r (nI_1 i) (k _ (sp_B_is hx z))) (fun z => ?_)⟩
  exact sp_ylead hi ((sp_Q_F ca T).1 i hi) h (nm_e (nm_r (nI_1 i) (k _ (sp_B_ia hx (sp_l_lt (sp_Q_F ca T) hi) z))))
theorem sp_yrounds {post : Int32 → SY → Prop} (hY : sp_Y ys T) (K : ∀ now' aft', post (nI (sp_R ca T)) (ca, ys, now', aft')) : wpY_rounds post (ca, ys, now, aft) := by
  unfold wpY_rounds
  exact sp_yset hY (fun now' aft' _ => K now' aft')
/-! colours -/
def sp_C (ca : Nat → Int32) : Prop := ∀ s, s < 10 → ∃ c, c < 4 ∧ ca s = nI c
def sp_co (ca : Nat → Int32) (s : Nat) : Nat := (ca s).toNatClampNeg
theorem sp_C_at (h : sp_C ca) {s : Nat} (hs : s < 10) : sp_co ca s < 4 ∧ ca s = nI (sp_co ca s) := by
  obtain ⟨c, hc, e⟩ := h s hs
  have g : sp_co ca s = c := by unfold sp_co; rw [e]; exact sp_cl (by omega)
  rw [g]
  exact ⟨hc, e⟩
def sp_cs (ca : Nat → Int32) (m : Nat) : Prop := ∃ s, s < 10 ∧ True ∧ sp_co ca s = m
theorem sp_c4 {p : Nat → Prop} (h : ∀ m, p m → m < 4) : cn p 10 = b01 (p 0) + b01 (p 1) + b01 (p 2) + b01 (p 3) := by
  have e : cn p 10 = 0 + b01 (p 0) + b01 (p 1) + b01 (p 2) + b01 (p 3) + b01 (p 4) + b01 (p 5) + b01 (p 6) + b01 (p 7) + b01 (p 8) + b01 (p 9) := rfl
  have f : ∀ m, 4 ≤ m → b01 (p m) = 0 := fun m hm => b01_f (fun z => absurd (h m z) (by omega))
  rw [e, f 4 (by omega), f 5 (by omega), f 6 (by omega), f 7 (by omega), f 8 (by omega), f 9 (by omega)]
  omega
theorem sp_ycolours {post : Int32 → Prop} (hC : sp_C ca) (K : post (nI (cn (sp_cs ca) 10))) : wpY_colours post (ca, ys, now, aft) := by
  refine loop_0 (σ := Int32) (fun n i x => wY_colours_4 post ca ys now aft n x (nI i)) (fun i x => sp_B x (fun m => ∃ s, s < i ∧ True ∧ sp_co ca s = m)) 10 0 sp_B_ib (fun n x hx => br_t sp_e10 ?_) ?_
  · have hB : sp_B x (sp_cs ca) := hx
    have e0 : x &&& 1 = nI (b01 (sp_cs ca 0)) := by
      have := sp_B_t hB (i := 0) (by omega)
      rw [show nI 0 = (0 : Int32) from rfl, sb_shr0] at this
      exact this
    have e1 : (x >>> ((1 : Int32) &&& 31)) &&& 1 = nI (b01 (sp_cs ca 1)) := sp_B_t (i := 1) hB (by decide)
    have e2 : (x >>> ((2 : Int32) &&& 31)) &&& 1 = nI (b01 (sp_cs ca 2)) := sp_B_t (i := 2) hB (by decide)
    have e3 : (x >>> ((3 : Int32) &&& 31)) &&& 1 = nI (b01 (sp_cs ca 3)) := sp_B_t (i := 3) hB (by decide)
    rw [e0, e1, e2, e3, nI_add, nI_add, nI_add, ← sp_c4 (p := sp_cs ca)]
    · exact K
    · intro m z
      obtain ⟨s, hs, _, e⟩ := z
      have := (sp_C_at hC hs).1
      omega
  · intro n i x hi hx k
    have hc := sp_C_at hC hi
    have e : ca (nI i).toNatClampNeg = nI (sp_co ca i) := by rw [sp_cl (by omega)]; exact hc.2
    refine br_f (sp_l10 hi) ⟨sp_in hi (by omega), nm_r (by rw [e]) (nm_r (nI_1 i) (k _ (sp_B_ia hx (by omega) trivial)))⟩
end
end
section
/-! reduce, the reference's walk -/
noncomputable def sp_tot (U : Nat → Nat → Prop) : Nat → Nat
  | 0 => 0
  | i + 1 => sp_tot U i + cn (U i) 10
def sp_M (T U : Nat → Nat → Prop) (q0 : Nat) (ys : Nat → Int32) : Prop := ∀ q, q < 200 → (q < q0 → ys q = nI (b01 (U (q / 10) (q % 10)))) ∧ (¬ q < q0 → ys q = nI (b01 (T (q / 10) (q % 10))))
theorem sp_M_up {T U : Nat → Nat → Prop} {ys : Nat → Int32} {q0 : Nat} {x : Int32} (h0 : q0 < 200) (h : sp_M T U q0 ys) (hx : x = nI (b01 (U (q0 / 10) (q0 % 10)))) : sp_M T U (q0 + 1) (upd ys q0 x) := fun q hq => by
  by_cases e : q = q0
  · subst e
    rw [pk_us]
    exact ⟨fun _ => hx, fun z => absurd (Nat.lt_succ_self q) z⟩
  · rw [pk_un e]
    exact ⟨fun z => (h q hq).1 (by omega), fun z => (h q hq).2 (by omega)⟩
theorem sp_M_at {T U : Nat → Nat → Prop} {ys : Nat → Int32} {i t : Nat} (hi : i < 20) (ht : t < 10) (h : sp_M T U (10 * i) ys) : ys (10 * i + t) = nI (b01 (T i t)) := by
  have g := (h (10 * i + t) (by omega)).2 (by omega)
  rw [show (10 * i + t) / 10 = i by omega, show (10 * i + t) % 10 = t by omega] at g
  exact g
section
variable {ca ys now aft : Nat → Int32} {T U : Nat → Nat → Prop}
theorem sp_yr62 {post : Int32 → SY → Prop} {J : Int32 → Int32 → (Nat → Int32) → (Nat → Int32) → (Nat → Int32) → (Nat → Int32) → Prop} {i N : Nat} {x : Int32} (hi : i < 20) (hB : sp_B x (U i))
    (K : ∀ ys', sp_M T U (10 * (i + 1)) ys' → J (nI (N + cn (U i) 10)) (nI (i + 1)) ca ys' now aft) :
    ∀ (d t : Nat) (ys : Nat → Int32), t + d = 10 → sp_M T U (10 * i + t) ys → wY_reduce_62 post J (nI i) x (d + 1) (nI (N + cn (U i) t)) (nI t) ca ys now aft := by
  intro d
  induction d with
  | zero =>
    intro t ys ht h
    have e : t = 10 := by omega
    subst e
    exact br_t sp_e10 (nm_r (nI_1 i) (K ys h))
  | succ d ih =>
    intro t ys ht h
    have h10 : t < 10 := by omega
    have i2 : vp_in ((nI i * 10) + nI t) 200 := by rw [sp_iy]; exact sp_in (by omega) (by omega)
    have e : nI (N + cn (U i) t) + ((x >>> (nI t &&& 31)) &&& 1) = nI (N + cn (U i) (t + 1)) := by
      rw [sp_B_t hB h10, nI_add, Nat.add_assoc]
      rfl
    have L : ∀ z0, z0 = nI (b01 (U i t)) → wY_reduce_94 post J (wY_reduce_62 post J (nI i) x (d + 1)) (nI (N + cn (U i) t)) (nI i) x (nI t) z0 ((nI i * 10) + nI t) ca ys now aft := fun z0 hz => by
      refine And.intro i2 (nm_e (nm_r e (nm_r (nI_1 t) (ih (t + 1) _ (by omega) ?_))))
      rw [sp_iy, sp_cl (by omega), ← Nat.add_assoc]
      refine sp_M_up (by omega) h ?_
      rw [hz, sp_vb, show (10 * i + t) / 10 = i by omega, show (10 * i + t) % 10 = t by omega]
    exact br_f (sp_l10 h10) (ek_if (sp_B_t0 hB h10) (fun z => L 0 (sp_is0 z)) (fun z => L 1 (sp_is1 (Classical.not_not.mp z))))
theorem sp_yr20 {post : Int32 → SY → Prop} {J : Int32 → Int32 → (Nat → Int32) → (Nat → Int32) → (Nat → Int32) → (Nat → Int32) → Prop} {E : Nat → Nat → Prop} {i N : Nat} (hE : sp_Q E) (hi : i < 20) (hN : sp_N now E) (hM : sp_M T (sp_J E T) (10 * i) ys)
    (K : ∀ ys', sp_M T (sp_J E T) (10 * (i + 1)) ys' → J (nI (N + cn (sp_J E T i) 10)) (nI (i + 1)) ca ys' now aft) :
    ∃ n, wY_reduce_20 post J (nI N) (nI i) ca ys now aft n 0 0 := by
  refine loop_0 (σ := Int32) (fun n j x => wY_reduce_20 post J (nI N) (nI i) ca ys now aft n x (nI j)) (fun j x => sp_B x (fun m => ∃ t, t < j ∧ T i t ∧ sp_l E t = m)) 10 0 sp_B_ib (fun n x hx => br_t sp_e10 (Exists.intro 11 (sp_yr62 (N := N) hi hx K 10 0 ys rfl hM))) ?_
  intro n j x hj hx k
  have i2 : vp_in ((nI i * 10) + nI j) 200 := by rw [sp_iy]; exact sp_in (by omega) (by omega)
  have e2 : ys ((nI i * 10) + nI j).toNatClampNeg = nI (b01 (T i j)) := by
    rw [sp_iy, sp_cl (by omega)]; exact sp_M_at hi hj hM
  refine br_f (sp_l10 hj) ⟨i2, sp_bif e2 (fun z => nm_r (nI_1 j) (k _ (sp_B_is hx z))) (fun z => ?_)⟩
  exact sp_ylead hj (hE.1 j hj) hN (nm_e (nm_r (nI_1 j) (k _ (sp_B_ia hx (sp_l_lt hE hj) z))))
theorem sp_yreduce {post : Int32 → SY → Prop} (hY : sp_Y ys T) (K : ∀ ys' now' aft', sp_Y ys' (sp_J (sp_F ca T) T) → post (nI (sp_tot (sp_J (sp_F ca T) T) 20)) (ca, ys', now', aft')) : wpY_reduce post (ca, ys, now, aft) := by
  unfold wpY_reduce
  refine sp_yset hY (fun now' aft' hN => ?_)
  have main : ∀ (d i : Nat) (ys : Nat → Int32), i + d = 20 → sp_M T (sp_J (sp_F ca T) T) (10 * i) ys → wY_reduce_9 post (d + 1) (nI (sp_tot (sp_J (sp_F ca T) T) i)) (nI i) ca ys now' aft' := by
    intro d
    induction d with
    | zero =>
      intro i ys hi h
      have e : i = 20 := by omega
      subst e
      exact br_t sp_e20 (K ys now' aft' (fun q hq => (h q hq).1 (by omega)))
    | succ d ih =>
      intro i ys hi h
      exact br_f (sp_l20 (by omega)) (sp_yr20 (sp_Q_F ca T) (by omega) hN h (fun ys' h' => ih (i + 1) ys' (by omega) h'))
  exact Exists.intro 21 (main 20 0 ys rfl (fun q hq => ⟨fun z => absurd z (Nat.not_lt_zero _), fun _ => hY q hq⟩))
end
end
section
/-! the component's small walks -/
def sp_X (sa : Nat → Int32) (T : Nat → Nat → Prop) : Prop := ∀ i, i < 20 → sp_B (sa i) (T i)
/-- who has a step of sort g into y -/
def sp_sr (T : Nat → Nat → Prop) (g : Nat) (y : Int32) (s : Nat) : Prop := ∃ a, a < 10 ∧ T (10 * g + s) a ∧ bt y a = true
section
variable {fs fb fw ft fr : Int32} {ca sa bl wa la cl : Nat → Int32} {T : Nat → Nat → Prop}
theorem sp_xis1 {post : Int32 → Prop} {s : Nat} (hs : s < 10) (h : post 1) : wpX_isState post (fs, fb, fw, ft, fr, ca, sa, bl, wa, la, cl) (nI s) := br_f (nI_pos (by omega)) (br_f (sp_l10 hs) h)
theorem sp_xis0 {post : Int32 → Prop} {x : Int32} (hx : x < 0 ∨ 10 ≤ x) (h : post 0) : wpX_isState post (fs, fb, fw, ft, fr, ca, sa, bl, wa, la, cl) x :=
  br_c (fun _ => h) (fun z => br_t (hx.resolve_left z) h)
theorem sp_xsrc {post : Int32 → Prop} {y : Int32} {g : Nat} (hX : sp_X sa T) (hg : g < 2) (K : ∀ x, sp_B x (sp_sr T g y) → post x) : wpX_sourcesOf post (fs, fb, fw, ft, fr, ca, sa, bl, wa, la, cl) y (nI g) := by
  refine loop_0 (σ := Int32) (fun n i x => wX_sourcesOf_5 post y (nI g) fs fb fw ft fr ca sa bl wa la cl n x (nI i)) (fun i x => sp_B x (fun s => s < i ∧ sp_sr T g y s)) 10 0 sp_B_bg (fun n x hx => br_t sp_e10 (K x (sp_B_en hx))) ?_
  intro n i x hi hx k
  have i2 : vp_in ((10 * nI g) + nI i) 20 := by rw [sp_ix]; exact sp_in (by omega) (by omega)
  have e2 : (sa ((10 * nI g) + nI i).toNatClampNeg) &&& y = 0 ↔ ¬ sp_sr T g y i := by
    rw [sp_ix, sp_cl (by omega)]; exact sp_B_az (hX _ (by omega)) y
  exact br_f (sp_l10 hi) ⟨i2, ek_if e2 (fun z => nm_r (nI_1 i) (k _ (sp_B_sk hx z))) (fun z => nm_e (nm_r (nI_1 i) (k _ (sp_B_ad hx hi (Classical.not_not.mp z)))))⟩
theorem sp_xlo {post : Int32 → Prop} {y : Int32} {p : Nat → Prop} {l : Nat → Nat} (hB : sp_B y p) (hl : ∀ s, s < 10 → la s = nI (l s)) (hl2 : ∀ s, s < 10 → l s < 10) (K : ∀ x, sp_B x (fun m => ∃ s, s < 10 ∧ p s ∧ l s = m) → post x) : wpX_leadersOf post (fs, fb, fw, ft, fr, ca, sa, bl, wa, la, cl) y := by
  refine loop_0 (σ := Int32) (fun n i x => wX_leadersOf_4 post y fs fb fw ft fr ca sa bl wa la cl n x (nI i)) (fun i x => sp_B x (fun m => ∃ s, s < i ∧ p s ∧ l s = m)) 10 0 sp_B_ib (fun n x hx => br_t sp_e10 (K x hx)) ?_
  intro n i x hi hx k
  have e : la (nI i).toNatClampNeg = nI (l i) := by rw [sp_cl (by omega)]; exact hl i hi
  exact br_f (sp_l10 hi) (ek_if (sp_B_t0 hB hi) (fun z => nm_r (nI_1 i) (k _ (sp_B_is hx z))) (fun z => ⟨sp_in hi (by omega), nm_r (by rw [e]) (nm_r (nI_1 i) (k _ (sp_B_ia hx (hl2 i hi) (Classical.not_not.mp z))))⟩))
theorem sp_xbi {post : Int32 → Prop} {y : Int32} {p : Nat → Prop} (hB : sp_B y p) (K : post (nI (cn p 10))) : wpX_bitsIn post (fs, fb, fw, ft, fr, ca, sa, bl, wa, la, cl) y := by
  refine loop_0 (σ := Int32) (fun n i x => wX_bitsIn_4 post y fs fb fw ft fr ca sa bl wa la cl n x (nI i)) (fun i x => x = nI (cn p i)) 10 0 rfl (fun n x hx => br_t sp_e10 (by rw [hx]; exact K)) ?_
  intro n i x hi hx k
  refine br_f (sp_l10 hi) (nm_e (nm_r (nI_1 i) (k _ ?_)))
  rw [sp_B_t hB hi, hx, nI_add]
  rfl
theorem sp_xcolours {post : Int32 → Prop} (hC : sp_C ca) (K : post (nI (cn (sp_cs ca) 10))) : wpX_colours post (fs, fb, fw, ft, fr, ca, sa, bl, wa, la, cl) := by
  refine loop_0 (σ := Int32) (fun n i x => wX_colours_4 post fs fb fw ft fr ca sa bl wa la cl n x (nI i)) (fun i x => sp_B x (fun m => ∃ s, s < i ∧ True ∧ sp_co ca s = m)) 10 0 sp_B_ib (fun n x hx => br_t sp_e10 (sp_xbi (p := sp_cs ca) hx K)) ?_
  intro n i x hi hx k
  have hc := sp_C_at hC hi
  have e : ca (nI i).toNatClampNeg = nI (sp_co ca i) := by rw [sp_cl (by omega)]; exact hc.2
  exact br_f (sp_l10 hi) ⟨sp_in hi (by omega), nm_r (by rw [e]) (nm_r (nI_1 i) (k _ (sp_B_ia hx (by omega) trivial)))⟩
theorem sp_xmem {post : Int32 → SX → Prop} {E : Nat → Nat → Prop} {s : Nat} (hE : sp_Q E) (hs : s < 10) (hl : ∀ s, s < 10 → la s = nI (sp_l E s)) (K : ∀ x, sp_B x (E s) → post x (fs, fb, fw, ft, fr, ca, sa, bl, wa, la, cl)) : ∃ n, wX_members_18 post (nI s) fs fb fw ft fr ca sa bl wa la cl n 0 0 := by
  refine loop_0 (σ := Int32) (fun n i x => wX_members_18 post (nI s) fs fb fw ft fr ca sa bl wa la cl n x (nI i)) (fun i x => sp_B x (fun t => t < i ∧ E s t)) 10 0 sp_B_bg (fun n x hx => br_t sp_e10 (K x (sp_B_en hx))) ?_
  intro n i x hi hx k
  have e : la (nI i).toNatClampNeg = la (nI s).toNatClampNeg ↔ E s i := by
    have h1 := sp_l_lt hE hi
    have h2 := sp_l_lt hE hs
    rw [sp_cl (by omega), sp_cl (by omega), hl i hi, hl s hs, sp_eq (by omega) (by omega), ← sp_l_iff hE hs hi]
    exact ⟨Eq.symm, Eq.symm⟩
  exact br_f (sp_l10 hi) ⟨sp_in hi (by omega), sp_in hs (by omega), ek_if e (fun z => nm_e (nm_r (nI_1 i) (k _ (sp_B_ad hx hi z)))) (fun z => nm_r (nI_1 i) (k _ (sp_B_sk hx z)))⟩
theorem sp_xco {post : Int32 → Prop} {y : Int32} {k : Nat} {p : Nat → Prop} {l : Nat → Nat} (hk : k ≤ 10) (hB : sp_B y p) (hl : ∀ s, s < 10 → cl (10 * k + s) = nI (l s)) (hl2 : ∀ s, s < 10 → l s < 10) (K : ∀ x, sp_B x (fun m => ∃ s, s < 10 ∧ p s ∧ l s = m) → post x) : wpX_classesOf post (fs, fb, fw, ft, fr, ca, sa, bl, wa, la, cl) (nI k) y := by
  refine loop_0 (σ := Int32) (fun n i x => wX_classesOf_5 post (nI k) y fs fb fw ft fr ca sa bl wa la cl n x (nI i)) (fun i x => sp_B x (fun m => ∃ s, s < i ∧ p s ∧ l s = m)) 10 0 sp_B_ib (fun n x hx => br_t sp_e10 (K x hx)) ?_
  intro n i x hi hx kk
  have i1 : vp_in ((10 * nI k) + nI i) 120 := by rw [sp_ix]; exact sp_in (by omega) (by omega)
  have e : cl ((10 * nI k) + nI i).toNatClampNeg = nI (l i) := by rw [sp_ix, sp_cl (by omega)]; exact hl i hi
  exact br_f (sp_l10 hi) (ek_if (sp_B_t0 hB hi) (fun z => nm_r (nI_1 i) (kk _ (sp_B_is hx z))) (fun z => ⟨i1, nm_r (by rw [e]) (nm_r (nI_1 i) (kk _ (sp_B_ia hx (hl2 i hi) (Classical.not_not.mp z))))⟩))
end
end
section
/-! the component's rounds -/
theorem sp_nx_iff {T E : Nat → Nat → Prop} {s t : Nat} : sp_nx T E s t ↔ E s t ∧ ∀ g, g < 2 → (sp_A T E g s t ∧ sp_A T E g t s) := by
  constructor
  · intro h
    refine ⟨h.1, fun g hg => ?_⟩
    rcases (by omega : g = 0 ∨ g = 1) with e | e
    · subst e; exact ⟨h.2.1, h.2.2.1⟩
    · subst e; exact ⟨h.2.2.2.1, h.2.2.2.2⟩
  · intro h
    have h0 := h.2 0 (by omega)
    have h1 := h.2 1 (by omega)
    exact ⟨h.1, h0.1, h0.2, h1.1, h1.2⟩
theorem sp_B_eq {x y : Int32} {p q : Nat → Prop} (h : sp_B x p) (g : sp_B y q) : x = y ↔ ∀ m, m < 10 → (p m ↔ q m) := by
  constructor
  · intro e m hm
    subst e
    have a := (h m).symm.trans (g m)
    exact ⟨fun z => (a.mp ⟨hm, z⟩).2, fun z => (a.mpr ⟨hm, z⟩).2⟩
  · intro e
    exact sp_B_in (sp_B_cg h e) g
theorem sp_im {E : Nat → Nat → Prop} (h : sp_Q E) {p q : Nat → Prop} : (∀ m, m < 10 → ((∃ s, s < 10 ∧ p s ∧ sp_l E s = m) ↔ (∃ s, s < 10 ∧ q s ∧ sp_l E s = m))) ↔ ((∀ a, a < 10 → p a → ∃ b, b < 10 ∧ q b ∧ E a b) ∧ (∀ a, a < 10 → q a → ∃ b, b < 10 ∧ p b ∧ E a b)) := by
  constructor
  · intro e
    refine ⟨fun a ha z => ?_, fun a ha z => ?_⟩
    · obtain ⟨b, hb, w, f⟩ := (e (sp_l E a) (sp_l_lt h ha)).mp ⟨a, ha, z, rfl⟩
      exact ⟨b, hb, w, (sp_l_iff h ha hb).mp f.symm⟩
    · obtain ⟨b, hb, w, f⟩ := (e (sp_l E a) (sp_l_lt h ha)).mpr ⟨a, ha, z, rfl⟩
      exact ⟨b, hb, w, (sp_l_iff h ha hb).mp f.symm⟩
  · intro e m _
    constructor
    · intro z
      obtain ⟨a, ha, w, f⟩ := z
      obtain ⟨b, hb, v, u⟩ := e.1 a ha w
      exact ⟨b, hb, v, ((sp_l_iff h ha hb).mpr u).symm.trans f⟩
    · intro z
      obtain ⟨a, ha, w, f⟩ := z
      obtain ⟨b, hb, v, u⟩ := e.2 a ha w
      exact ⟨b, hb, v, ((sp_l_iff h ha hb).mpr u).symm.trans f⟩
theorem sp_S_l {T E : Nat → Nat → Prop} (h : sp_Q E) : (∃ j, j < 10 ∧ ¬ sp_l E j = sp_l (sp_nx T E) j) ↔ ¬ sp_S T E := by
  have h' := sp_Q_nx (T := T) h
  constructor
  · intro z w
    obtain ⟨j, hj, e⟩ := z
    exact e (sp_l_cg hj (h'.1 j hj) (fun t ht => ⟨fun q => q.1, fun q => w j t hj ht q⟩))
  · intro z
    refine Classical.byContradiction fun w => z (fun s t hs ht e => ?_)
    have k : ∀ j, j < 10 → sp_l E j = sp_l (sp_nx T E) j := fun j hj => Classical.byContradiction fun q => w ⟨j, hj, q⟩
    refine (sp_l_iff h' hs ht).mp ?_
    rw [← k s hs, ← k t ht]
    exact (sp_l_iff h hs ht).mpr e
section
variable {fs fb fw ft fr : Int32} {ca sa bl wa la cl : Nat → Int32} {T : Nat → Nat → Prop}
theorem sp_xaa {post : Int32 → Prop} {E : Nat → Nat → Prop} {k s t : Nat} (hX : sp_X sa T) (hE : sp_Q E) (hk : k ≤ 10) (hs : s < 10) (ht : t < 10) (hl : ∀ s, s < 10 → cl (10 * k + s) = nI (sp_l E s))
    (K : post (nI (b01 (sp_nx T E s t)))) : wpX_alikeAfter post (fs, fb, fw, ft, fr, ca, sa, bl, wa, la, cl) (nI k) (nI s) (nI t) := by
  have hl2 : ∀ s, s < 10 → sp_l E s < 10 := fun s hs => sp_l_lt hE hs
  have main : E s t → ∀ (d g : Nat), g + d = 2 → (∀ h, h < g → (sp_A T E h s t ∧ sp_A T E h t s)) → wX_alikeAfter_30 post (nI k) (nI s) (nI t) fs fb fw ft fr ca sa bl wa la cl (d + 1) (nI g) := by
    intro he d
    induction d with
    | zero =>
      intro g hg h
      have e : g = 2 := by omega
      subst e
      rw [b01_t (sp_nx_iff.mpr ⟨he, h⟩)] at K
      exact br_t (nI_le (a := 2) (Nat.le_refl _) (by decide)) K
    | succ d ih =>
      intro g hg h
      have i1 : vp_in ((10 * nI g) + nI s) 20 := by rw [sp_ix]; exact sp_in (by omega) (by omega)
      have i2 : vp_in ((10 * nI g) + nI t) 20 := by rw [sp_ix]; exact sp_in (by omega) (by omega)
      have b1 : sp_B (sa ((10 * nI g) + nI s).toNatClampNeg) (T (10 * g + s)) := by rw [sp_ix, sp_cl (by omega)]; exact hX _ (by omega)
      have b2 : sp_B (sa ((10 * nI g) + nI t).toNatClampNeg) (T (10 * g + t)) := by rw [sp_ix, sp_cl (by omega)]; exact hX _ (by omega)
      refine br_f (nI_ge (b := 2) (by omega) (by decide)) ⟨i1, sp_xco hk b1 hl hl2 (fun x hx => ⟨i2, sp_xco hk b2 hl hl2 (fun y hy => ?_)⟩)⟩
      refine ek_if ((sp_B_eq hx hy).trans (sp_im hE)) (fun z => nm_r (nI_1 g) (ih (g + 1) (by omega) (lt_s h z))) (fun z => ?_)
      rw [b01_f (fun w => z ((sp_nx_iff.mp w).2 g (by omega)))] at K
      exact K
  have i1 : vp_in ((10 * nI k) + nI s) 120 := by rw [sp_ix]; exact sp_in (by omega) (by omega)
  have i2 : vp_in ((10 * nI k) + nI t) 120 := by rw [sp_ix]; exact sp_in (by omega) (by omega)
  have e : cl ((10 * nI k) + nI s).toNatClampNeg = cl ((10 * nI k) + nI t).toNatClampNeg ↔ E s t := by
    have h1 := hl2 s hs
    have h2 := hl2 t ht
    rw [sp_ix, sp_ix, sp_cl (by omega), sp_cl (by omega), hl s hs, hl t ht, sp_eq (by omega) (by omega)]
    exact sp_l_iff hE hs ht
  refine And.intro i1 ⟨i2, ek_if e (fun z => Exists.intro 3 (main z 2 0 rfl lt_0)) (fun z => ?_)⟩
  rw [b01_f (fun w => z w.1)] at K
  exact K
/-- the rows up to k stand, and of the next the first s -/
def sp_IR (c0 : Nat → Int32) (G : Nat → Nat → Prop) (k s : Nat) (cl : Nat → Int32) : Prop := (∀ q, q < 10 * (k + 1) → cl q = c0 q) ∧ (∀ j, j < s → cl (10 * (k + 1) + j) = nI (sp_l G j))
theorem sp_n36 {post : Int32 → SX → Prop} {J : Int32 → Int32 → (Nat → Int32) → (Nat → Int32) → (Nat → Int32) → (Nat → Int32) → (Nat → Int32) → (Nat → Int32) → Prop} {E G : Nat → Nat → Prop} {c0 : Nat → Int32} {k s : Nat} {x : Int32}
    (hE : sp_Q E) (hG : sp_Q G) (hk : k ≤ 10) (hs : s < 10) (hl : ∀ s, s < 10 → c0 (10 * k + s) = nI (sp_l E s)) (hI : sp_IR c0 G k s cl) (hx : x = nI (b01 (∃ j, j < s ∧ ¬ sp_l E j = sp_l G j)))
    (K : ∀ x' cl', x' = nI (b01 (∃ j, j < s + 1 ∧ ¬ sp_l E j = sp_l G j)) → sp_IR c0 G k (s + 1) cl' → J x' (nI (s + 1)) ca sa bl wa la cl') : wX_nextRound_36 post J (nI k) x (nI s) (nI (sp_l G s)) fs fb fw ft fr ca sa bl wa la cl := by
  have h1 := sp_l_lt hE hs
  have h2 := sp_l_lt hG hs
  have i1 : vp_in (((10 * nI k) + 10) + nI s) 120 := by rw [sp_iw]; exact sp_in (by omega) (by omega)
  have i2 : vp_in ((10 * nI k) + nI s) 120 := by rw [sp_ix]; exact sp_in (by omega) (by omega)
  have eu : upd cl (((10 * nI k) + 10) + nI s).toNatClampNeg (vp_nar .byte (nI (sp_l G s)).toInt8.toInt32) = upd cl (10 * (k + 1) + s) (nI (sp_l G s)) := by
    rw [sp_iw, sp_cl (by omega), sp_by _ h2]
  have hI' : sp_IR c0 G k (s + 1) (upd cl (10 * (k + 1) + s) (nI (sp_l G s))) := by
    refine ⟨fun q hq => ?_, fun j hj => ?_⟩
    · rw [pk_un (by omega)]
      exact hI.1 q hq
    · rcases Nat.lt_or_ge j s with z | z
      · rw [pk_un (by omega)]
        exact hI.2 j z
      · have e : j = s := by omega
        subst e
        exact pk_us
  have cc : upd cl (10 * (k + 1) + s) (nI (sp_l G s)) ((10 * nI k) + nI s).toNatClampNeg = nI (sp_l G s) ↔ sp_l E s = sp_l G s := by
    rw [sp_ix, sp_cl (by omega), pk_un (by omega), hI.1 _ (by omega), hl s hs, sp_eq (by omega) (by omega)]
  refine And.intro i1 (nm_r eu ⟨i2, ek_if cc (fun z => nm_r (nI_1 s) (K _ _ ?_ hI')) (fun z => nm_r (nI_1 s) (K _ _ (sp_is1 (sp_ex.mpr (Or.inr z))) hI'))⟩)
  rw [hx]
  exact congrArg nI (sp_bc ⟨fun q => sp_ex.mpr (Or.inl q), fun q => (sp_ex.mp q).elim id (fun w => absurd z w)⟩)
theorem sp_xnr {post : Int32 → SX → Prop} {E : Nat → Nat → Prop} {k : Nat} (hX : sp_X sa T) (hE : sp_Q E) (hk : k ≤ 10) (hl : ∀ s, s < 10 → cl (10 * k + s) = nI (sp_l E s))
    (K : ∀ cl', (∀ q, q < 10 * (k + 1) → cl' q = cl q) → (∀ s, s < 10 → cl' (10 * (k + 1) + s) = nI (sp_l (sp_nx T E) s)) → post (nI (b01 (¬ sp_S T E))) (fs, fb, fw, ft, fr, ca, sa, bl, wa, la, cl')) : wpX_nextRound post (fs, fb, fw, ft, fr, ca, sa, bl, wa, la, cl) (nI k) := by
  have hG := sp_Q_nx (T := T) hE
  have main : ∀ (d s : Nat) (x : Int32) (c : Nat → Int32), s + d = 10 → x = nI (b01 (∃ j, j < s ∧ ¬ sp_l E j = sp_l (sp_nx T E) j)) → sp_IR cl (sp_nx T E) k s c → wX_nextRound_4 post (nI k) fs fb fw ft fr (d + 1) x (nI s) ca sa bl wa la c := by
    intro d
    induction d with
    | zero =>
      intro s x c hs hx hI
      have e : s = 10 := by omega
      subst e
      rw [sp_bc (sp_S_l hE)] at hx
      subst hx
      exact br_t sp_e10 ⟨sp_nb _, K c hI.1 hI.2⟩
    | succ d ih =>
      intro s x c hs hx hI
      have h10 : s < 10 := by omega
      have hlc : ∀ s, s < 10 → c (10 * k + s) = nI (sp_l E s) := fun j hj => (hI.1 _ (by omega)).trans (hl j hj)
      have g := sp_l_sp (hG.1 s h10)
      have L : wX_nextRound_36 post (wX_nextRound_4 post (nI k) fs fb fw ft fr (d + 1)) (nI k) x (nI s) (nI (sp_l (sp_nx T E) s)) fs fb fw ft fr ca sa bl wa la c :=
        sp_n36 hE hG hk h10 hl hI hx (fun x' c' h1 h2 => ih (s + 1) x' c' (by omega) h1 h2)
      have inner : ∀ (e t : Nat), t + e = sp_l (sp_nx T E) s → wX_nextRound_13 post (wX_nextRound_4 post (nI k) fs fb fw ft fr (d + 1)) (nI k) x (nI s) fs fb fw ft fr ca sa bl wa la c (e + 1) (nI t) := by
        intro e
        induction e with
        | zero =>
          intro t ht
          have et : t = sp_l (sp_nx T E) s := by omega
          rw [← et] at L g
          exact br_c (fun _ => L) (fun _ => sp_xaa hX hE hk h10 (by omega) hlc (sp_bif rfl (fun z => absurd g.2.1 z) (fun _ => L)))
        | succ e ihe =>
          intro t ht
          exact br_f (nI_ge (by omega) (by omega)) (sp_xaa hX hE hk h10 (by omega) hlc (sp_bif rfl (fun _ => nm_r (nI_1 t) (ihe (t + 1) (by omega))) (fun z => absurd z (g.2.2 t (by omega)))))
      exact br_f (sp_l10 h10) (Exists.intro (sp_l (sp_nx T E) s + 1) (inner (sp_l (sp_nx T E) s) 0 (by omega)))
  exact Exists.intro 11 (main 10 0 0 cl rfl (sp_is0 (fun z => z.elim fun q w => absurd w.1 (Nat.not_lt_zero _))) ⟨fun _ _ => rfl, lt_0⟩)
def sp_RK (ca : Nat → Int32) (T : Nat → Nat → Prop) (fr : Int32) (cl : Nat → Int32) : Prop := fr = nI (sp_R ca T) ∧ ∀ k, k ≤ sp_R ca T → ∀ s, s < 10 → cl (10 * k + s) = nI (sp_l (sp_E ca T k) s)
theorem sp_xf63 {post : SX → Prop} (hX : sp_X sa T) (K : ∀ fr' cl', sp_RK ca T fr' cl' → post (fs, fb, fw, ft, fr', ca, sa, bl, wa, la, cl')) :
    ∀ (d k : Nat) (cl : Nat → Int32), k + d = sp_R ca T → (∀ j, j ≤ k → ∀ s, s < 10 → cl (10 * j + s) = nI (sp_l (sp_E ca T j) s)) → wX_findRounds_63 post (d + 1) fs fb fw ft (nI k) ca sa bl wa la cl := by
  have hR := sp_R_sp ca T
  intro d
  induction d with
  | zero =>
    intro k cl hk h
    have e : k = sp_R ca T := by omega
    subst e
    refine sp_xnr hX (sp_Q_E ca T _) (by omega) (h _ (Nat.le_refl _)) (fun cl' h1 h2 => ?_)
    exact sp_bif rfl (fun z => K _ cl' ⟨rfl, fun j hj s hs => (h1 _ (by omega)).trans (h j hj s hs)⟩) (fun z => absurd hR.2.1 z)
  | succ d ih =>
    intro k cl hk h
    refine sp_xnr hX (sp_Q_E ca T _) (by omega) (h _ (Nat.le_refl _)) (fun cl' h1 h2 => ?_)
    refine sp_bif rfl (fun z => absurd (hR.2.2 k (by omega)) z) (fun z => nm_r (nI_1 k) (ih (k + 1) cl' (by omega) (fun j hj s hs => ?_)))
    rcases Nat.lt_or_ge k j with w | w
    · have e : j = k + 1 := by omega
      subst e
      exact h2 s hs
    · exact (h1 _ (by omega)).trans (h j w s hs)
theorem sp_xfr {post : SX → Prop} (hX : sp_X sa T) (h : ft = 0 ∨ sp_RK ca T fr cl) (K : ∀ ft' fr' cl', sp_RK ca T fr' cl' → post (fs, fb, fw, ft', fr', ca, sa, bl, wa, la, cl')) : wpX_findRounds post (fs, fb, fw, ft, fr, ca, sa, bl, wa, la, cl) := by
  have hR := sp_R_sp ca T
  refine br_c (fun _ => ?_) (fun z => K ft fr cl (h.resolve_left z))
  refine loop_0 (σ := Nat → Int32) (fun n s c => wX_findRounds_15 post fs fb fw 1 fr n (nI s) ca sa bl wa la c) (fun s c => ∀ j, j < s → c j = nI (sp_l (sp_E ca T 0) j)) 10 cl lt_0 (fun n c hc => br_t sp_e10 ?_) ?_
  · refine Exists.intro (sp_R ca T + 1) (sp_xf63 hX (fun fr' cl' h' => K 1 fr' cl' h') (sp_R ca T) 0 c (by omega) (fun j hj s hs => ?_))
    have e : j = 0 := by omega
    subst e
    rw [show 10 * 0 + s = s by omega]
    exact hc s hs
  · intro n s c hs hc k
    have g := sp_l_sp ((sp_Q_E ca T 0).1 s hs)
    have main : ∀ (d t : Nat), t + d = sp_l (sp_E ca T 0) s → wX_findRounds_23 post (wX_findRounds_15 post fs fb fw 1 fr n) (nI s) fs fb fw 1 fr ca sa bl wa la c (d + 1) (nI t) := by
      intro d
      induction d with
      | zero =>
        intro t ht
        have e : t = sp_l (sp_E ca T 0) s := by omega
        rw [← e] at g
        have cc : ca (nI t).toNatClampNeg = ca (nI s).toNatClampNeg := by
          rw [sp_cl (by omega), sp_cl (by omega)]; exact Eq.symm g.2.1
        refine And.intro (sp_in (by omega) (by omega)) ⟨sp_in hs (by omega), br_t cc ⟨sp_in (by omega) (by omega), nm_e (nm_r (nI_1 s) (k _ ?_))⟩⟩
        exact sp_up (g := fun j => nI (sp_l (sp_E ca T 0) j)) (by omega) hc (by rw [← e]; exact sp_by t (by omega))
      | succ d ih =>
        intro t ht
        have cc : ¬ ca (nI t).toNatClampNeg = ca (nI s).toNatClampNeg := by
          rw [sp_cl (by omega), sp_cl (by omega)]; exact fun z => g.2.2 t (by omega) (Eq.symm z)
        exact And.intro (sp_in (by omega) (by omega)) ⟨sp_in hs (by omega), br_f cc (nm_r (nI_1 t) (ih (t + 1) (by omega)))⟩
    exact br_f (sp_l10 hs) (Exists.intro (sp_l (sp_E ca T 0) s + 1) (main (sp_l (sp_E ca T 0) s) 0 (by omega)))
theorem sp_xtold {post : Int32 → SX → Prop} {s t : Nat} {r : Int32} (hX : sp_X sa T) (hs : s < 10) (ht : t < 10) (h : ft = 0 ∨ sp_RK ca T fr cl) (hr : sp_tl ca T s t r) (K : ∀ ft' fr' cl', sp_RK ca T fr' cl' → post r (fs, fb, fw, ft', fr', ca, sa, bl, wa, la, cl')) : wpX_told post (fs, fb, fw, ft, fr, ca, sa, bl, wa, la, cl) (nI s) (nI t) := by
  have hR := sp_R_sp ca T
  unfold wpX_told
  refine sp_xis1 hs (br_f (by decide) (sp_xis1 ht (br_f (by decide) ?_)))
  refine sp_xfr hX h (fun ft' fr' cl' h' => ?_)
  have hK := K ft' fr' cl' h'
  obtain ⟨e0, hc⟩ := h'
  subst e0
  have main : ∀ (d k : Nat), k + d = sp_R ca T + 1 → (∀ j, j < k → sp_E ca T j s t) → wX_told_24 post (nI s) (nI t) fs fb fw ft' (nI (sp_R ca T)) ca sa bl wa la cl' (d + 1) (nI k) := by
    intro d
    induction d with
    | zero =>
      intro k hk hj
      have g := sp_tl_n hr (fun j hj' => hj j (by omega))
      rw [g] at hK
      exact br_t (nI_lt (by omega) (by omega)) hK
    | succ d ih =>
      intro k hk hj
      have i1 : vp_in ((10 * nI k) + nI s) 120 := by rw [sp_ix]; exact sp_in (by omega) (by omega)
      have i2 : vp_in ((10 * nI k) + nI t) 120 := by rw [sp_ix]; exact sp_in (by omega) (by omega)
      have e : cl' ((10 * nI k) + nI s).toNatClampNeg = cl' ((10 * nI k) + nI t).toNatClampNeg ↔ sp_E ca T k s t := by
        have h1 := sp_l_lt (sp_Q_E ca T k) hs
        have h2 := sp_l_lt (sp_Q_E ca T k) ht
        rw [sp_ix, sp_ix, sp_cl (by omega), sp_cl (by omega), hc k (by omega) s hs, hc k (by omega) t ht, sp_eq (by omega) (by omega)]
        exact sp_l_iff (sp_Q_E ca T k) hs ht
      refine br_f (nI_nlt (by omega) (by omega)) ⟨i1, i2, ek_if e (fun z => nm_r (nI_1 k) (ih (k + 1) (by omega) (lt_s hj z))) (fun z => ?_)⟩
      have g := sp_tl_k hr (by omega) z hj
      rw [g] at hK
      exact hK
  exact Exists.intro (sp_R ca T + 2) (main (sp_R ca T + 1) 0 (by omega) lt_0)
theorem sp_xrounds {post : Int32 → SX → Prop} (hX : sp_X sa T) (h : ft = 0 ∨ sp_RK ca T fr cl) (K : ∀ ft' fr' cl', sp_RK ca T fr' cl' → post (nI (sp_R ca T)) (fs, fb, fw, ft', fr', ca, sa, bl, wa, la, cl')) : wpX_rounds post (fs, fb, fw, ft, fr, ca, sa, bl, wa, la, cl) := by
  unfold wpX_rounds
  refine sp_xfr hX h (fun ft' fr' cl' h' => ?_)
  have hK := K ft' fr' cl' h'
  rw [← h'.1] at hK
  exact hK
end
end
section
/-! blocks: the splitting, in plain terms -/
/-- x is closed under F -/
def sp_cF (F : Nat → Nat → Prop) (x : Int32) : Prop := ∀ s t, s < 10 → t < 10 → F s t → bt x s = true → bt x t = true
/-- no block of f is split by who has a step of sort g into x -/
def sp_st (f : Nat → Nat) (T : Nat → Nat → Prop) (g : Nat) (x : Int32) : Prop := ∀ s t, s < 10 → t < 10 → f s = f t → sp_sr T g x s → sp_sr T g x t
/-- n blocks bl (f: a state's block), w waiting in wa; Z: blocks in use -/
def sp_PI (ca : Nat → Int32) (T F : Nat → Nat → Prop) (Z : Int32 → Prop) (n : Nat) (f : Nat → Nat) (w : Nat) (bl wa : Nat → Int32) : Prop :=
  (∀ s, s < 10 → f s < n) ∧ (∀ b, b < n → ∃ s, s < 10 ∧ f s = b) ∧ (∀ b, b < n → sp_B (bl b) (fun s => f s = b)) ∧ w ≤ 2 * n ∧ (∀ s t, s < 10 → t < 10 → F s t → f s = f t) ∧ (∀ j, j < w → sp_cF F (wa j)) ∧
  (∀ b, b < n → (∃ j, j < w ∧ wa j = bl b) ∨ Z (bl b) ∨ ∀ g, g < 2 → sp_st f T g (bl b)) ∧ (∀ s t, s < 10 → t < 10 → f s = f t → ca s = ca t)
noncomputable def sp_sf (f : Nat → Nat) (b n : Nat) (p : Nat → Prop) (s : Nat) : Nat := @ite Nat (f s = b ∧ ¬ p s) (Classical.propDecidable _) n (f s)
theorem sp_sf_t {f : Nat → Nat} {b n s : Nat} {p : Nat → Prop} (h : f s = b ∧ ¬ p s) : sp_sf f b n p s = n := by unfold sp_sf; rw [if_pos h]
theorem sp_sf_f {f : Nat → Nat} {b n s : Nat} {p : Nat → Prop} (h : ¬ (f s = b ∧ ¬ p s)) : sp_sf f b n p s = f s := by unfold sp_sf; rw [if_neg h]
theorem sp_sf_n {f : Nat → Nat} {b n s : Nat} {p : Nat → Prop} (hf : f s < n) : sp_sf f b n p s = n ↔ (f s = b ∧ ¬ p s) := by
  rcases Classical.em (f s = b ∧ ¬ p s) with z | z
  · exact ⟨fun _ => z, fun _ => sp_sf_t z⟩
  · rw [sp_sf_f z]
    exact ⟨fun e => absurd e (by omega), fun e => absurd e z⟩
theorem sp_sf_b {f : Nat → Nat} {b n s : Nat} {p : Nat → Prop} (hb : b < n) : sp_sf f b n p s = b ↔ (f s = b ∧ p s) := by
  rcases Classical.em (f s = b ∧ ¬ p s) with z | z
  · rw [sp_sf_t z]
    exact ⟨fun e => absurd e (by omega), fun e => absurd e.2 z.2⟩
  · rw [sp_sf_f z]
    exact ⟨fun e => ⟨e, Classical.byContradiction fun q => z ⟨e, q⟩⟩, fun e => e.1⟩
theorem sp_sf_c {f : Nat → Nat} {b n s c : Nat} {p : Nat → Prop} (hb : c ≠ b) (hn : c ≠ n) : sp_sf f b n p s = c ↔ f s = c := by
  rcases Classical.em (f s = b ∧ ¬ p s) with z | z
  · rw [sp_sf_t z]
    exact ⟨fun e => absurd e.symm hn, fun e => absurd (e.symm.trans z.1) hb⟩
  · rw [sp_sf_f z]
theorem sp_sf_r {f : Nat → Nat} {b n s t : Nat} {p : Nat → Prop} (hs : f s < n) (ht : f t < n) (e : sp_sf f b n p s = sp_sf f b n p t) : f s = f t := by
  rcases Classical.em (f s = b ∧ ¬ p s) with z | z
  · rw [sp_sf_t z] at e
    have y := (sp_sf_n ht).mp e.symm
    rw [z.1, y.1]
  · rw [sp_sf_f z] at e
    rcases Classical.em (f t = b ∧ ¬ p t) with y | y
    · rw [sp_sf_t y] at e
      omega
    · rw [sp_sf_f y] at e
      exact e
theorem sp_split {ca : Nat → Int32} {T F : Nat → Nat → Prop} {Z : Int32 → Prop} {n w b : Nat} {f : Nat → Nat} {bl wa : Nat → Int32} {p : Nat → Prop} {x6 x7 : Int32} (h : sp_PI ca T F Z n f w bl wa) (hb : b < n)
    (hp : ∀ s t, s < 10 → t < 10 → F s t → (p s ↔ p t)) (h6 : sp_B x6 (fun s => f s = b ∧ p s)) (h7 : sp_B x7 (fun s => f s = b ∧ ¬ p s)) (e6 : ∃ s, s < 10 ∧ (f s = b ∧ p s)) (e7 : ∃ s, s < 10 ∧ (f s = b ∧ ¬ p s)) :
    sp_PI ca T F Z (n + 1) (sp_sf f b n p) (w + 2) (upd (upd bl b x6) n x7) (upd (upd wa w x6) (w + 1) x7) := by
  obtain ⟨a1, a2, a3, a4, a5, a6, a7, a8⟩ := h
  have rf : ∀ s t, s < 10 → t < 10 → sp_sf f b n p s = sp_sf f b n p t → f s = f t := fun s t hs ht e => sp_sf_r (a1 s hs) (a1 t ht) e
  have bn : upd (upd bl b x6) n x7 n = x7 := pk_us
  have bb : upd (upd bl b x6) n x7 b = x6 := by rw [pk_un (by omega), pk_us]
  have bc : ∀ c, c ≠ b → c ≠ n → upd (upd bl b x6) n x7 c = bl c := fun c hc hn => by rw [pk_un hn, pk_un hc]
  have w7 : upd (upd wa w x6) (w + 1) x7 (w + 1) = x7 := pk_us
  have w6 : upd (upd wa w x6) (w + 1) x7 w = x6 := by rw [pk_un (by omega), pk_us]
  have wj : ∀ j, j < w → upd (upd wa w x6) (w + 1) x7 j = wa j := fun j hj => by rw [pk_un (by omega), pk_un (by omega)]
  refine ⟨fun s hs => ?_, fun c hc => ?_, fun c hc => ?_, by omega, fun s t hs ht hF => ?_, fun j hj => ?_, fun c hc => ?_, fun s t hs ht e => a8 s t hs ht (rf s t hs ht e)⟩
  · have := a1 s hs
    rcases Classical.em (f s = b ∧ ¬ p s) with z | z
    · rw [sp_sf_t z]; omega
    · rw [sp_sf_f z]; omega
  · by_cases c1 : c = n
    · subst c1
      obtain ⟨s, hs, z⟩ := e7
      exact ⟨s, hs, sp_sf_t z⟩
    · by_cases c2 : c = b
      · subst c2
        obtain ⟨s, hs, z⟩ := e6
        exact ⟨s, hs, (sp_sf_b hb).mpr z⟩
      · obtain ⟨s, hs, z⟩ := a2 c (by omega)
        exact ⟨s, hs, (sp_sf_c c2 c1).mpr z⟩
  · by_cases c1 : c = n
    · subst c1
      rw [bn]
      exact sp_B_cg h7 (fun s hs => (sp_sf_n (a1 s hs)).symm)
    · by_cases c2 : c = b
      · subst c2
        rw [bb]
        exact sp_B_cg h6 (fun s hs => (sp_sf_b hb).symm)
      · rw [bc c c2 c1]
        exact sp_B_cg (a3 c (by omega)) (fun s hs => (sp_sf_c c2 c1).symm)
  · have e := a5 s t hs ht hF
    have q := hp s t hs ht hF
    rcases Classical.em (f s = b ∧ ¬ p s) with z | z
    · rw [sp_sf_t z, sp_sf_t ⟨e.symm.trans z.1, fun y => z.2 (q.mpr y)⟩]
    · rw [sp_sf_f z, sp_sf_f (fun y => z ⟨e.trans y.1, fun v => y.2 (q.mp v)⟩)]
      exact e
  · by_cases j1 : j = w + 1
    · subst j1
      rw [w7]
      intro s t hs ht hF y
      have v := ((h7 s).mp y).2
      exact (h7 t).mpr ⟨ht, (a5 s t hs ht hF).symm.trans v.1, fun u => v.2 ((hp s t hs ht hF).mpr u)⟩
    · by_cases j2 : j = w
      · subst j2
        rw [w6]
        intro s t hs ht hF y
        have v := ((h6 s).mp y).2
        exact (h6 t).mpr ⟨ht, (a5 s t hs ht hF).symm.trans v.1, (hp s t hs ht hF).mp v.2⟩
      · rw [wj j (by omega)]
        exact a6 j (by omega)
  · by_cases c1 : c = n
    · subst c1
      exact Or.inl ⟨w + 1, by omega, by rw [w7, bn]⟩
    · by_cases c2 : c = b
      · subst c2
        exact Or.inl ⟨w, by omega, by rw [w6, bb]⟩
      · rw [bc c c2 c1]
        rcases a7 c (by omega) with ⟨j, hj, e⟩ | e | e
        · exact Or.inl ⟨j, by omega, by rw [wj j hj]; exact e⟩
        · exact Or.inr (Or.inl e)
        · exact Or.inr (Or.inr (fun g hg s t hs ht y => e g hg s t hs ht (rf s t hs ht y)))
theorem sp_PI_10 {ca : Nat → Int32} {T F : Nat → Nat → Prop} {Z : Int32 → Prop} {n w : Nat} {f : Nat → Nat} {bl wa : Nat → Int32} (h : sp_PI ca T F Z n f w bl wa) : n ≤ 10 := sp_n10 h.2.1
/-- the waiting stack's top is taken -/
theorem sp_PI_pop {ca : Nat → Int32} {T F : Nat → Nat → Prop} {n w : Nat} {f : Nat → Nat} {bl wa : Nat → Int32} (h : sp_PI ca T F (fun _ => False) n f (w + 1) bl wa) : sp_PI ca T F (fun x => x = wa w) n f w bl wa := by
  obtain ⟨a1, a2, a3, a4, a5, a6, a7, a8⟩ := h
  refine ⟨a1, a2, a3, by omega, a5, fun j hj => a6 j (by omega), fun b hb => ?_, a8⟩
  rcases a7 b hb with ⟨j, hj, e⟩ | e | e
  · by_cases c : j = w
    · subst c
      exact Or.inr (Or.inl e.symm)
    · exact Or.inl ⟨j, by omega, e⟩
  · exact e.elim
  · exact Or.inr (Or.inr e)
/-- the block in use has done its work -/
theorem sp_PI_done {ca : Nat → Int32} {T F : Nat → Nat → Prop} {n w : Nat} {f : Nat → Nat} {bl wa : Nat → Int32} {x : Int32} (h : sp_PI ca T F (fun y => y = x) n f w bl wa) (h0 : sp_st f T 0 x) (h1 : sp_st f T 1 x) : sp_PI ca T F (fun _ => False) n f w bl wa := by
  obtain ⟨a1, a2, a3, a4, a5, a6, a7, a8⟩ := h
  refine ⟨a1, a2, a3, a4, a5, a6, fun b hb => ?_, a8⟩
  rcases a7 b hb with e | e | e
  · exact Or.inl e
  · refine Or.inr (Or.inr (fun g hg => ?_))
    have e : bl b = x := e
    rw [e]
    rcases (by omega : g = 0 ∨ g = 1) with y | y
    · subst y; exact h0
    · subst y; exact h1
  · exact Or.inr (Or.inr e)
theorem sp_st_r {f f' : Nat → Nat} {T : Nat → Nat → Prop} {g : Nat} {x : Int32} (h : sp_st f T g x) (r : ∀ s t, s < 10 → t < 10 → f' s = f' t → f s = f t) : sp_st f' T g x := fun s t hs ht e => h s t hs ht (r s t hs ht e)
/-- nothing waits: the blocks are the classes -/
theorem sp_PI_F {ca : Nat → Int32} {T : Nat → Nat → Prop} {n : Nat} {f : Nat → Nat} {bl wa : Nat → Int32} (h : sp_PI ca T (sp_F ca T) (fun _ => False) n f 0 bl wa) : ∀ s t, s < 10 → t < 10 → (f s = f t ↔ sp_F ca T s t) := by
  obtain ⟨a1, a2, a3, a4, a5, a6, a7, a8⟩ := h
  refine fun s t hs ht => ⟨fun e => sp_part a8 (fun g s t hg hs ht e a ha z => ?_) _ s t hs ht e, a5 s t hs ht⟩
  rcases a7 (f a) (a1 a ha) with ⟨j, hj, _⟩ | q | q
  · exact absurd hj (Nat.not_lt_zero _)
  · exact q.elim
  · obtain ⟨b, hb, hT, hbit⟩ := q g hg s t hs ht e ⟨a, ha, z, (a3 (f a) (a1 a ha) a).mpr ⟨ha, rfl⟩⟩
    exact ⟨b, hb, hT, ((a3 (f a) (a1 a ha) b).mp hbit).2.symm⟩
/-- who has a step into a set closed under F -/
theorem sp_sr_F {ca : Nat → Int32} {T : Nat → Nat → Prop} {g : Nat} {x : Int32} (hg : g < 2) (h : sp_cF (sp_F ca T) x) : ∀ s t, s < 10 → t < 10 → sp_F ca T s t → (sp_sr T g x s ↔ sp_sr T g x t) := by
  have one : ∀ s t, s < 10 → t < 10 → sp_F ca T s t → sp_sr T g x s → sp_sr T g x t := fun s t hs ht e z => by
    obtain ⟨a, ha, h1, h2⟩ := z
    obtain ⟨b, hb, h3, h4⟩ := sp_F_A hg hs ht e a ha h1
    exact ⟨b, hb, h3, h a b ha hb h4 h2⟩
  exact fun s t hs ht e => ⟨one s t hs ht e, one t s ht hs ((sp_Q_F ca T).2.1 s t hs ht e)⟩
end
section
/-! the component's settle -/
section
variable {fs fb fw ft fr : Int32} {ca sa bl wa la cl : Nat → Int32} {T F : Nat → Nat → Prop} {Z : Int32 → Prop}
theorem sp_enq {post : SX → Prop} {w : Nat} {x : Int32} (hw : w < 40) (h : post (fs, fb, nI (w + 1), ft, fr, ca, sa, bl, upd wa w x, la, cl)) : wpX_enqueue post (fs, fb, nI w, ft, fr, ca, sa, bl, wa, la, cl) x :=
  And.intro (sp_in hw (by omega)) (nm_r (by rw [sp_cl (by omega)]) (nm_r (nI_1 w) h))
theorem sp_sa16 {post : SX → Prop} {x3 : Int32} {p : Nat → Prop} {n0 w0 : Nat} {f0 : Nat → Nat} (hp : ∀ s t, s < 10 → t < 10 → F s t → (p s ↔ p t)) (h3 : sp_B x3 p)
    (K : ∀ n f w bl wa, sp_PI ca T F Z n f w bl wa → w + 2 * n0 = w0 + 2 * n → (∀ s t, s < 10 → t < 10 → f s = f t → f0 s = f0 t) → (∀ s t, s < 10 → t < 10 → f s = f t → p s → p t) → post (fs, nI n, nI w, ft, fr, ca, sa, bl, wa, la, cl)) :
    ∀ (d b n : Nat) (f : Nat → Nat) (w : Nat) (bl wa : Nat → Int32), b + d = n0 → n0 ≤ n → sp_PI ca T F Z n f w bl wa → w + 2 * n0 = w0 + 2 * n → (∀ s t, s < 10 → t < 10 → f s = f t → f0 s = f0 t) →
      (∀ c, c < n → (c < b ∨ n0 ≤ c) → ∀ s t, s < 10 → t < 10 → f s = c → f t = c → p s → p t) → wX_splitAll_16 post x3 (nI n0) (d + 1) (nI b) fs (nI n) (nI w) ft fr ca sa bl wa la cl := by
  intro d
  induction d with
  | zero =>
    intro b n f w bl wa hb hn h he hr hu
    have e : b = n0 := by omega
    subst e
    have n10 := sp_PI_10 h
    refine br_t (nI_le (Nat.le_refl _) (by omega)) (K n f w bl wa h he hr (fun s t hs ht e z => ?_))
    have hf := h.1 s hs
    exact hu (f s) hf (by omega) s t hs ht rfl e.symm z
  | succ d ih =>
    intro b n f w bl wa hb hn h he hr hu
    have n10 := sp_PI_10 h
    have hbn : b < n := by omega
    have hi : vp_in (nI b) 10 := sp_in (by omega) (by omega)
    refine br_f (nI_ge (by omega) (by omega)) ⟨hi, fun x6 e6 => ⟨hi, fun x7 e7 => ?_⟩⟩
    rw [sp_cl (by omega)] at e6 e7
    have h6 : sp_B x6 (fun s => f s = b ∧ p s) := by rw [e6]; exact sp_B_and (h.2.2.1 b hbn) h3
    have h7 : sp_B x7 (fun s => f s = b ∧ ¬ p s) := by rw [e7]; exact sp_B_an (h.2.2.1 b hbn) h3
    refine ek_if (sp_B_z h6) (fun z => nm_r (nI_1 b) (ih (b + 1) n f w bl wa (by omega) hn h he hr (fun c hc hc2 s t hs ht es et ps => ?_))) (fun z6 => ek_if (sp_B_z h7) (fun z => nm_r (nI_1 b) (ih (b + 1) n f w bl wa (by omega) hn h he hr (fun c hc hc2 s t hs ht es et ps => ?_))) (fun z7 => ?_))
    · by_cases c1 : c = b
      · exact absurd ⟨s, hs, es.trans c1, ps⟩ z
      · exact hu c hc (by omega) s t hs ht es et ps
    · by_cases c1 : c = b
      · exact Classical.byContradiction fun q => z ⟨t, ht, et.trans c1, q⟩
      · exact hu c hc (by omega) s t hs ht es et ps
    · have e6' := Classical.not_not.mp z6
      have e7' := Classical.not_not.mp z7
      have h' := sp_split h hbn hp h6 h7 e6' e7'
      have n10' := sp_PI_10 h'
      have hw := h.2.2.2.1
      refine ⟨hi, nm_r (by rw [sp_cl (by omega)]) ⟨sp_in (by omega) (by omega), nm_r (by rw [sp_cl (by omega)]) (nm_r (nI_1 n) ?_)⟩⟩
      refine sp_enq (by omega) (sp_enq (by omega) (nm_r (nI_1 b) ?_))
      refine ih (b + 1) (n + 1) (sp_sf f b n p) (w + 2) _ _ (by omega) (by omega) h' (by omega) (fun s t hs ht e => hr s t hs ht (sp_sf_r (h.1 s hs) (h.1 t ht) e)) (fun c hc hc2 s t hs ht es et ps => ?_)
      by_cases c1 : c = n
      · subst c1
        exact absurd ps ((sp_sf_n (h.1 s hs)).mp es).2
      · by_cases c2 : c = b
        · subst c2
          exact ((sp_sf_b hbn).mp et).2
        · exact hu c (by omega) (by omega) s t hs ht ((sp_sf_c c2 c1).mp es) ((sp_sf_c c2 c1).mp et) ps
theorem sp_xsplit {post : SX → Prop} {x : Int32} {g n w : Nat} {f : Nat → Nat} (hX : sp_X sa T) (hg : g < 2) (hp : ∀ s t, s < 10 → t < 10 → F s t → (sp_sr T g x s ↔ sp_sr T g x t)) (h : sp_PI ca T F Z n f w bl wa)
    (K : ∀ n' f' w' bl' wa', sp_PI ca T F Z n' f' w' bl' wa' → w' + 2 * n = w + 2 * n' → (∀ s t, s < 10 → t < 10 → f' s = f' t → f s = f t) → sp_st f' T g x → post (fs, nI n', nI w', ft, fr, ca, sa, bl', wa', la, cl)) : wpX_splitAll post (fs, nI n, nI w, ft, fr, ca, sa, bl, wa, la, cl) x (nI g) := by
  unfold wpX_splitAll
  refine sp_xsrc hX hg (fun x3 h3 => ?_)
  exact Exists.intro (n + 1) (sp_sa16 (f0 := f) (n0 := n) (w0 := w) hp h3 K n 0 n f w bl wa (by omega) (Nat.le_refl _) h rfl (fun _ _ _ _ e => e) (fun c hc hc2 => by omega))
theorem sp_s100 {post : SX → Prop} (hX : sp_X sa T) (K : ∀ n f bl wa, sp_PI ca T (sp_F ca T) (fun _ => False) n f 0 bl wa → ∃ m, wX_settle_144 post m 0 fs (nI n) 0 ft fr ca sa bl wa la cl) :
    ∀ (d n : Nat) (f : Nat → Nat) (w : Nat) (bl wa : Nat → Int32), w + 20 = d + 2 * n → sp_PI ca T (sp_F ca T) (fun _ => False) n f w bl wa → wX_settle_100 post (d + 1) fs (nI n) (nI w) ft fr ca sa bl wa la cl := by
  intro d
  induction d with
  | zero =>
    intro n f w bl wa hd h
    have n10 := sp_PI_10 h
    have e : w = 0 := by omega
    subst e
    exact br_t (Int32.le_refl _) (K n f bl wa h)
  | succ d ih =>
    intro n f w bl wa hd h
    have n10 := sp_PI_10 h
    have hw := h.2.2.2.1
    cases w with
    | zero => exact br_t (Int32.le_refl _) (K n f bl wa h)
    | succ w =>
      have hF := h.2.2.2.2.2.1 w (by omega)
      refine br_f (nI_nle (by omega) (by omega)) (nm_r (nI_pred w) ⟨sp_in (by omega) (by omega), nm_r (e' := wa w) (by rw [sp_cl (by omega)]) ?_⟩)
      refine sp_xsplit (g := 0) hX (by omega) (sp_sr_F (by omega) hF) (sp_PI_pop h) (fun n1 f1 w1 bl1 wa1 h1 q1 r1 s1 => ?_)
      refine sp_xsplit (g := 1) hX (by omega) (sp_sr_F (by omega) hF) h1 (fun n2 f2 w2 bl2 wa2 h2 q2 r2 s2 => ?_)
      exact ih n2 f2 w2 bl2 wa2 (by omega) (sp_PI_done h2 (sp_st_r s1 r2) s2)
/-! leaders -/
theorem sp_xfl {post : SX → Prop} {n s : Nat} {f : Nat → Nat} (hn : n ≤ 10) (hs : s < 10) (hf : f s < n) (hb : ∀ b, b < n → sp_B (bl b) (fun s => f s = b))
    (K : ∀ la', (∀ j, j ≠ s → la' j = la j) → la' s = nI (sp_l (fun a b => f a = f b) s) → post (fs, nI n, fw, ft, fr, ca, sa, bl, wa, la', cl)) : wpX_findLeader post (fs, nI n, fw, ft, fr, ca, sa, bl, wa, la, cl) (nI s) := by
  have g := sp_l_sp (E := fun a b => f a = f b) (s := s) rfl
  have main : ∀ (d b : Nat) (l : Nat → Int32), b + d = n → (∀ j, j ≠ s → l j = la j) → (f s < b → l s = nI (sp_l (fun a b => f a = f b) s)) → wX_findLeader_2 post (nI s) fs (nI n) fw ft fr (d + 1) (nI b) ca sa bl wa l cl := by
    intro d
    induction d with
    | zero =>
      intro b l hbd h1 h2
      have e : b = n := by omega
      subst e
      exact br_t (nI_le (Nat.le_refl _) (by omega)) (K l h1 (h2 hf))
    | succ d ih =>
      intro b l hbd h1 h2
      have hi : vp_in (nI b) 10 := sp_in (by omega) (by omega)
      have B : sp_B (bl (nI b).toNatClampNeg) (fun s => f s = b) := by rw [sp_cl (by omega)]; exact hb b (by omega)
      refine br_f (nI_ge (by omega) (by omega)) ⟨hi, ek_if (sp_B_t0 B hs) (fun z => nm_r (nI_1 b) (ih (b + 1) l (by omega) h1 (fun q => h2 ?_))) (fun z => ?_)⟩
      · have z : ¬ f s = b := z
        omega
      · have eb : f s = b := Classical.not_not.mp z
        have inner : ∀ (e t : Nat), t + e = sp_l (fun a b => f a = f b) s → wX_findLeader_28 post (wX_findLeader_2 post (nI s) fs (nI n) fw ft fr (d + 1)) (nI s) (nI b) fs (nI n) fw ft fr ca sa bl wa l cl (e + 1) (nI t) := by
          intro e
          induction e with
          | zero =>
            intro t ht
            have et : t = sp_l (fun a b => f a = f b) s := by omega
            have ht10 : t < 10 := by omega
            have nz : ¬ ((bl (nI b).toNatClampNeg) >>> (nI t &&& 31)) &&& 1 = 0 := fun q => (sp_B_t0 B ht10).mp q (by
              have y : f s = f (sp_l (fun a b => f a = f b) s) := g.2.1
              show f t = b
              rw [et, ← y, eb])
            refine And.intro hi (br_f nz ⟨sp_in hs (by omega), nm_r (e' := upd l s (nI t)) (by rw [sp_cl (by omega), sp_by t ht10]) (nm_r (nI_1 b) (ih (b + 1) _ (by omega) (fun j hj => ?_) (fun _ => ?_)))⟩)
            · rw [pk_un hj]
              exact h1 j hj
            · rw [pk_us, et]
          | succ e ihe =>
            intro t ht
            have ht10 : t < 10 := by omega
            have z0 : ((bl (nI b).toNatClampNeg) >>> (nI t &&& 31)) &&& 1 = 0 := (sp_B_t0 B ht10).mpr (fun q => g.2.2 t (by omega) (by
              have q : f t = b := q
              show f s = f t
              rw [eb, q]))
            exact And.intro hi (br_t z0 (nm_r (nI_1 t) (ihe (t + 1) (by omega))))
        exact Exists.intro (sp_l (fun a b => f a = f b) s + 1) (inner (sp_l (fun a b => f a = f b) s) 0 (by omega))
  exact Exists.intro (n + 1) (main n 0 la (by omega) (fun _ _ => rfl) (fun q => absurd q (Nat.not_lt_zero _)))
def sp_LD (ca : Nat → Int32) (T : Nat → Nat → Prop) (fb : Int32) (la : Nat → Int32) : Prop := fb = nI (sp_c (sp_F ca T)) ∧ ∀ s, s < 10 → la s = nI (sp_l (sp_F ca T) s)
theorem sp_s144 {post : SX → Prop} {n : Nat} {f : Nat → Nat} (h : sp_PI ca T (sp_F ca T) (fun _ => False) n f 0 bl wa) (K : ∀ fb' la', sp_LD ca T fb' la' → post (fs, fb', fw, ft, fr, ca, sa, bl, wa, la', cl)) : ∃ m, wX_settle_144 post m 0 fs (nI n) fw ft fr ca sa bl wa la cl := by
  have n10 := sp_PI_10 h
  have e := sp_PI_F h
  have hQ := sp_Q_F ca T
  refine loop_0 (σ := Nat → Int32) (fun m i l => wX_settle_144 post m (nI i) fs (nI n) fw ft fr ca sa bl wa l cl) (fun i l => ∀ j, j < i → l j = nI (sp_l (fun a b => f a = f b) j)) 10 la lt_0 (fun m l hl => br_t sp_e10 (K _ l ⟨?_, fun s hs => ?_⟩)) ?_
  · exact congrArg nI (sp_c_n h.2.1 h.1 hQ e).symm
  · rw [hl s hs]
    exact congrArg nI (sp_l_cg (E := sp_F ca T) (G := fun a b => f a = f b) hs (hQ.1 s hs) (fun t ht => (e s t hs ht).symm))
  · intro m i l hi hl k
    refine br_f (sp_l10 hi) (sp_xfl n10 hi (h.1 i hi) h.2.2.1 (fun l' h1 h2 => nm_r (nI_1 i) (k l' ?_)))
    intro j hj
    by_cases c : j = i
    · subst c; exact h2
    · rw [h1 j c]
      exact hl j (by omega)
/-! blocks of one colour -/
def sp_IC (ca : Nat → Int32) (c n : Nat) (f : Nat → Nat) (bl wa : Nat → Int32) : Prop :=
  n ≤ c ∧ (∀ s, s < 10 → sp_co ca s < c → f s < n) ∧ (∀ b, b < n → ∃ s, s < 10 ∧ sp_co ca s < c ∧ f s = b) ∧ (∀ b, b < n → sp_B (bl b) (fun s => sp_co ca s < c ∧ f s = b)) ∧ (∀ j, j < n → wa j = bl j) ∧
  (∀ s t, s < 10 → t < 10 → sp_co ca s < c → sp_co ca t < c → (f s = f t ↔ sp_co ca s = sp_co ca t))
theorem sp_IC_0 {c n : Nat} {f : Nat → Nat} (h : sp_IC ca c n f bl wa) (z : ¬ ∃ s, s < 10 ∧ sp_co ca s = c) : sp_IC ca (c + 1) n f bl wa := by
  obtain ⟨a1, a2, a3, a4, a5, a6⟩ := h
  have k : ∀ s, s < 10 → sp_co ca s < c + 1 → sp_co ca s < c := fun s hs h => by
    rcases Nat.lt_or_ge (sp_co ca s) c with y | y
    · exact y
    · exact absurd ⟨s, hs, by omega⟩ z
  refine ⟨by omega, fun s hs h => a2 s hs (k s hs h), fun b hb => ?_, fun b hb => ?_, a5, fun s t hs ht h1 h2 => a6 s t hs ht (k s hs h1) (k t ht h2)⟩
  · obtain ⟨s, h1, h2, h3⟩ := a3 b hb
    exact ⟨s, h1, by omega, h3⟩
  · exact sp_B_cg (a4 b hb) (fun s hs => ⟨fun y => ⟨Nat.lt_succ_of_lt y.1, y.2⟩, fun y => ⟨k s hs y.1, y.2⟩⟩)
theorem sp_IC_1 {c n : Nat} {f : Nat → Nat} {x : Int32} (h : sp_IC ca c n f bl wa) (hx : sp_B x (fun s => sp_co ca s = c)) (z : ∃ s, s < 10 ∧ sp_co ca s = c) :
    sp_IC ca (c + 1) (n + 1) (fun s => if sp_co ca s = c then n else f s) (upd bl n x) (upd wa n x) := by
  obtain ⟨a1, a2, a3, a4, a5, a6⟩ := h
  refine ⟨by omega, fun s hs h => ?_, fun b hb => ?_, fun b hb => ?_, fun j hj => ?_, fun s t hs ht h1 h2 => ?_⟩
  · dsimp only
    by_cases e : sp_co ca s = c
    · rw [if_pos e]; omega
    · rw [if_neg e]
      have := a2 s hs (by omega)
      omega
  · by_cases c1 : b = n
    · obtain ⟨s, hs, e⟩ := z
      exact ⟨s, hs, by omega, by dsimp only; rw [if_pos e, c1]⟩
    · obtain ⟨s, hs, h1, h2⟩ := a3 b (by omega)
      exact ⟨s, hs, by omega, by dsimp only; rw [if_neg (by omega), h2]⟩
  · by_cases c1 : b = n
    · subst c1
      rw [pk_us]
      refine sp_B_cg hx (fun s hs => ⟨fun y => ⟨by omega, if_pos y⟩, fun y => ?_⟩)
      have y2 : (if sp_co ca s = c then b else f s) = b := y.2
      by_cases e : sp_co ca s = c
      · exact e
      · rw [if_neg e] at y2
        have := a2 s hs (by omega)
        omega
    · rw [pk_un c1]
      refine sp_B_cg (a4 b (by omega)) (fun s hs => ⟨fun y => ⟨by omega, by dsimp only; rw [if_neg (by omega)]; exact y.2⟩, fun y => ?_⟩)
      have y2 : (if sp_co ca s = c then n else f s) = b := y.2
      by_cases e : sp_co ca s = c
      · rw [if_pos e] at y2
        omega
      · rw [if_neg e] at y2
        exact ⟨by omega, y2⟩
  · by_cases c1 : j = n
    · subst c1
      rw [pk_us, pk_us]
    · rw [pk_un c1, pk_un c1]
      exact a5 j (by omega)
  · dsimp only
    by_cases e1 : sp_co ca s = c
    · by_cases e2 : sp_co ca t = c
      · rw [if_pos e1, if_pos e2, e1, e2]
        exact ⟨fun _ => rfl, fun _ => rfl⟩
      · rw [if_pos e1, if_neg e2]
        have := a2 t ht (by omega)
        constructor
        · intro y; omega
        · intro y; omega
    · by_cases e2 : sp_co ca t = c
      · rw [if_neg e1, if_pos e2]
        have := a2 s hs (by omega)
        constructor
        · intro y; omega
        · intro y; omega
      · rw [if_neg e1, if_neg e2]
        exact a6 s t hs ht (by omega) (by omega)
theorem sp_IC_4 {n : Nat} {f : Nat → Nat} (hC : sp_C ca) (h : sp_IC ca 4 n f bl wa) : sp_PI ca T (sp_F ca T) (fun _ => False) n f n bl wa := by
  obtain ⟨a1, a2, a3, a4, a5, a6⟩ := h
  have k : ∀ s, s < 10 → sp_co ca s < 4 := fun s hs => (sp_C_at hC hs).1
  have a7 : ∀ s t, s < 10 → t < 10 → (f s = f t ↔ ca s = ca t) := fun s t hs ht => by
    have h1 := sp_C_at hC hs
    have h2 := sp_C_at hC ht
    rw [a6 s t hs ht h1.1 h2.1, h1.2, h2.2, sp_eq (by omega) (by omega)]
  have b3 : ∀ b, b < n → sp_B (bl b) (fun s => f s = b) := fun b hb => sp_B_cg (a4 b hb) (fun s hs => ⟨fun y => y.2, fun y => ⟨k s hs, y⟩⟩)
  have b5 : ∀ s t, s < 10 → t < 10 → sp_F ca T s t → f s = f t := fun s t hs ht e => (a7 s t hs ht).mpr (sp_E_0 e)
  refine ⟨fun s hs => a2 s hs (k s hs), fun b hb => ?_, b3, by omega, b5, fun j hj s t hs ht hF y => ?_, fun b hb => Or.inl ⟨b, hb, a5 b hb⟩, fun s t hs ht e => (a7 s t hs ht).mp e⟩
  · obtain ⟨s, h1, _, h3⟩ := a3 b hb
    exact ⟨s, h1, h3⟩
  · rw [a5 j hj] at y ⊢
    exact (b3 j hj t).mpr ⟨ht, (b5 s t hs ht hF).symm.trans ((b3 j hj s).mp y).2⟩
theorem sp_s34 {post : SX → Prop} {J : Int32 → Int32 → Int32 → Int32 → Int32 → Int32 → (Nat → Int32) → (Nat → Int32) → (Nat → Int32) → (Nat → Int32) → (Nat → Int32) → (Nat → Int32) → Prop} {c n : Nat} (hC : sp_C ca) (hc : c < 4) (hn : n < 10)
    (h0 : (¬ ∃ s, s < 10 ∧ sp_co ca s = c) → J (nI (c + 1)) fs (nI n) (nI n) ft fr ca sa bl wa la cl)
    (h1 : ∀ x, sp_B x (fun s => sp_co ca s = c) → (∃ s, s < 10 ∧ sp_co ca s = c) → J (nI (c + 1)) fs (nI (n + 1)) (nI (n + 1)) ft fr ca sa (upd bl n x) (upd wa n x) la cl) :
    ∃ m, wX_settle_34 post J (nI c) fs (nI n) (nI n) ft fr ca sa bl wa la cl m 0 0 := by
  refine loop_0 (σ := Int32) (fun m i x => wX_settle_34 post J (nI c) fs (nI n) (nI n) ft fr ca sa bl wa la cl m x (nI i)) (fun i x => sp_B x (fun s => s < i ∧ sp_co ca s = c)) 10 0 sp_B_bg (fun m x hx => br_t sp_e10 ?_) ?_
  · have hx := sp_B_en hx
    refine ek_if (sp_B_z hx) (fun z => nm_r (nI_1 c) (h0 z)) (fun z => ⟨sp_in (by omega) (by omega), nm_r (e' := upd bl n x) (by rw [sp_cl (by omega)]) (nm_r (nI_1 n) ?_)⟩)
    exact sp_enq (by omega) (nm_r (nI_1 c) (h1 x hx (Classical.not_not.mp z)))
  · intro m i x hi hx k
    have hc := sp_C_at hC hi
    have e : ca (nI i).toNatClampNeg = nI c ↔ sp_co ca i = c := by
      rw [sp_cl (by omega), hc.2, sp_eq (by omega) (by omega)]
    exact br_f (sp_l10 hi) ⟨sp_in hi (by omega), ek_if e (fun z => nm_e (nm_r (nI_1 i) (k _ (sp_B_ad hx hi z)))) (fun z => nm_r (nI_1 i) (k _ (sp_B_sk hx z)))⟩
theorem sp_xsettle {post : SX → Prop} (hC : sp_C ca) (hX : sp_X sa T) (h : fs = 0 ∨ sp_LD ca T fb la)
    (K : ∀ fs' fb' fw' bl' wa' la', sp_LD ca T fb' la' → post (fs', fb', fw', ft, fr, ca, sa, bl', wa', la', cl)) : wpX_settle post (fs, fb, fw, ft, fr, ca, sa, bl, wa, la, cl) := by
  have main : ∀ (d c n : Nat) (f : Nat → Nat) (bl wa : Nat → Int32), c + d = 4 → sp_IC ca c n f bl wa → wX_settle_25 post (d + 1) (nI c) 1 (nI n) (nI n) ft fr ca sa bl wa la cl := by
    intro d
    induction d with
    | zero =>
      intro c n f bl wa hc hI
      have e : c = 4 := by omega
      subst e
      have h' := sp_IC_4 (T := T) hC hI
      have n10 := sp_PI_10 h'
      refine br_t (nI_le (a := 4) (Nat.le_refl _) (by decide)) (Exists.intro (20 - n + 1) ?_)
      refine sp_s100 hX (fun n2 f2 bl2 wa2 h2 => ?_) (20 - n) n f n bl wa (by omega) h'
      exact sp_s144 h2 (fun fb' la' hL => K 1 fb' 0 bl2 wa2 la' hL)
    | succ d ih =>
      intro c n f bl wa hc hI
      have hn := hI.1
      refine br_f (nI_ge (b := 4) (by omega) (by decide)) ?_
      exact sp_s34 hC (by omega) (by omega) (fun z => ih (c + 1) n f bl wa (by omega) (sp_IC_0 hI z)) (fun x hx z => ih (c + 1) (n + 1) _ _ _ (by omega) (sp_IC_1 hI hx z))
  refine br_c (fun _ => ?_) (fun z => K fs fb fw bl wa la (h.resolve_left z))
  exact Exists.intro 5 (main 4 0 0 (fun _ => 0) bl wa rfl ⟨Nat.le_refl _, fun _ _ q => absurd q (Nat.not_lt_zero _), lt_0, lt_0, lt_0, fun _ _ _ _ q => absurd q (Nat.not_lt_zero _)⟩)
end
end
section
/-! the component's methods: what each answers -/
section
variable {fs fb fw ft fr : Int32} {ca sa bl wa la cl : Nat → Int32} {T : Nat → Nat → Prop}
theorem sp_xalike {post : Int32 → SX → Prop} {s t : Nat} (hC : sp_C ca) (hX : sp_X sa T) (h : fs = 0 ∨ sp_LD ca T fb la) (hs : s < 10) (ht : t < 10)
    (K : ∀ fs' fb' fw' bl' wa' la', sp_LD ca T fb' la' → post (nI (b01 (sp_F ca T s t))) (fs', fb', fw', ft, fr, ca, sa, bl', wa', la', cl)) : wpX_alike post (fs, fb, fw, ft, fr, ca, sa, bl, wa, la, cl) (nI s) (nI t) := by
  unfold wpX_alike
  refine sp_xis1 hs (br_f (by decide) (sp_xis1 ht (br_f (by decide) ?_)))
  refine sp_xsettle hC hX h (fun fs' fb' fw' bl' wa' la' hL => ?_)
  have k := K fs' fb' fw' bl' wa' la' hL
  have e : la' (nI s).toNatClampNeg = la' (nI t).toNatClampNeg ↔ sp_F ca T s t := by
    have h1 := sp_l_lt (sp_Q_F ca T) hs
    have h2 := sp_l_lt (sp_Q_F ca T) ht
    rw [sp_cl (by omega), sp_cl (by omega), hL.2 s hs, hL.2 t ht, sp_eq (by omega) (by omega)]
    exact sp_l_iff (sp_Q_F ca T) hs ht
  refine ⟨sp_in hs (by omega), sp_in ht (by omega), ek_if e (fun z => ?_) (fun z => ?_)⟩
  · rw [b01_t z] at k
    exact k
  · rw [b01_f z] at k
    exact k
theorem sp_xclasses {post : Int32 → SX → Prop} (hC : sp_C ca) (hX : sp_X sa T) (h : fs = 0 ∨ sp_LD ca T fb la)
    (K : ∀ fs' fb' fw' bl' wa' la', sp_LD ca T fb' la' → post (nI (sp_c (sp_F ca T))) (fs', fb', fw', ft, fr, ca, sa, bl', wa', la', cl)) : wpX_classes post (fs, fb, fw, ft, fr, ca, sa, bl, wa, la, cl) := by
  unfold wpX_classes
  refine sp_xsettle hC hX h (fun fs' fb' fw' bl' wa' la' hL => ?_)
  have k := K fs' fb' fw' bl' wa' la' hL
  rw [← hL.1] at k
  exact k
theorem sp_xleader {post : Int32 → SX → Prop} {s : Nat} (hC : sp_C ca) (hX : sp_X sa T) (h : fs = 0 ∨ sp_LD ca T fb la) (hs : s < 10)
    (K : ∀ fs' fb' fw' bl' wa' la', sp_LD ca T fb' la' → post (nI (sp_l (sp_F ca T) s)) (fs', fb', fw', ft, fr, ca, sa, bl', wa', la', cl)) : wpX_leader post (fs, fb, fw, ft, fr, ca, sa, bl, wa, la, cl) (nI s) := by
  unfold wpX_leader
  refine sp_xis1 hs (br_f (by decide) ?_)
  refine sp_xsettle hC hX h (fun fs' fb' fw' bl' wa' la' hL => ?_)
  have k := K fs' fb' fw' bl' wa' la' hL
  have e : la' (nI s).toNatClampNeg = nI (sp_l (sp_F ca T) s) := by rw [sp_cl (by omega)]; exact hL.2 s hs
  rw [← e] at k
  exact ⟨sp_in hs (by omega), k⟩
theorem sp_xmembers {post : Int32 → SX → Prop} {s : Nat} (hC : sp_C ca) (hX : sp_X sa T) (h : fs = 0 ∨ sp_LD ca T fb la) (hs : s < 10)
    (K : ∀ x fs' fb' fw' bl' wa' la', sp_B x (sp_F ca T s) → sp_LD ca T fb' la' → post x (fs', fb', fw', ft, fr, ca, sa, bl', wa', la', cl)) : wpX_members post (fs, fb, fw, ft, fr, ca, sa, bl, wa, la, cl) (nI s) := by
  unfold wpX_members
  refine sp_xis1 hs (br_f (by decide) ?_)
  refine sp_xsettle hC hX h (fun fs' fb' fw' bl' wa' la' hL => ?_)
  exact sp_xmem (sp_Q_F ca T) hs hL.2 (fun x hx => K x fs' fb' fw' bl' wa' la' hx hL)
theorem sp_xleads {post : Int32 → SX → Prop} {g s : Nat} (hC : sp_C ca) (hX : sp_X sa T) (h : fs = 0 ∨ sp_LD ca T fb la) (hg : g < 2) (hs : s < 10)
    (K : ∀ x fs' fb' fw' bl' wa' la', sp_B x (sp_J (sp_F ca T) T (10 * g + s)) → sp_LD ca T fb' la' → post x (fs', fb', fw', ft, fr, ca, sa, bl', wa', la', cl)) : wpX_leads post (fs, fb, fw, ft, fr, ca, sa, bl, wa, la, cl) (nI g) (nI s) := by
  unfold wpX_leads
  refine br_f (nI_pos (by omega)) (br_f (nI_nlt (a := 1) (b := g) (by omega) (by omega)) ?_)
  refine sp_xis1 hs (br_f (by decide) ?_)
  refine sp_xsettle hC hX h (fun fs' fb' fw' bl' wa' la' hL => ?_)
  have i1 : vp_in ((10 * nI g) + nI s) 20 := by rw [sp_ix]; exact sp_in (by omega) (by omega)
  have b1 : sp_B (sa ((10 * nI g) + nI s).toNatClampNeg) (T (10 * g + s)) := by rw [sp_ix, sp_cl (by omega)]; exact hX _ (by omega)
  exact ⟨i1, sp_xlo b1 hL.2 (fun t ht => sp_l_lt (sp_Q_F ca T) ht) (fun x hx => K x fs' fb' fw' bl' wa' la' hx hL)⟩
/-- the first i rows are reduced -/
def sp_MX (T U : Nat → Nat → Prop) (i : Nat) (sa : Nat → Int32) : Prop := ∀ r, r < 20 → (r < i → sp_B (sa r) (U r)) ∧ (¬ r < i → sp_B (sa r) (T r))
theorem sp_xreduce {post : Int32 → SX → Prop} (hC : sp_C ca) (hX : sp_X sa T) (h : fs = 0 ∨ sp_LD ca T fb la)
    (K : ∀ fb' fw' sa' bl' wa' la', sp_X sa' (sp_J (sp_F ca T) T) → post (nI (sp_tot (sp_J (sp_F ca T) T) 20)) (0, fb', fw', 0, fr, ca, sa', bl', wa', la', cl)) : wpX_reduce post (fs, fb, fw, ft, fr, ca, sa, bl, wa, la, cl) := by
  unfold wpX_reduce
  refine sp_xsettle hC hX h (fun fs' fb' fw' bl' wa' la' hL => ?_)
  have main : ∀ (d i : Nat) (sa : Nat → Int32), i + d = 20 → sp_MX T (sp_J (sp_F ca T) T) i sa → wX_reduce_8 post fs' fb' fw' ft fr (d + 1) (nI (sp_tot (sp_J (sp_F ca T) T) i)) (nI i) ca sa bl' wa' la' cl := by
    intro d
    induction d with
    | zero =>
      intro i sa hi hM
      have e : i = 20 := by omega
      subst e
      exact br_t sp_e20 (K fb' fw' sa bl' wa' la' (fun r hr => (hM r hr).1 hr))
    | succ d ih =>
      intro i sa hi hM
      have h20 : i < 20 := by omega
      have hin : vp_in (nI i) 20 := sp_in h20 (by omega)
      have b1 : sp_B (sa (nI i).toNatClampNeg) (T i) := by rw [sp_cl (by omega)]; exact (hM i h20).2 (by omega)
      refine br_f (sp_l20 h20) ⟨hin, sp_xlo b1 hL.2 (fun t ht => sp_l_lt (sp_Q_F ca T) ht) (fun x hx => ⟨hin, nm_r (e' := upd sa i x) (by rw [sp_cl (by omega)]) ⟨hin, ?_⟩⟩)⟩
      have hx : sp_B x (sp_J (sp_F ca T) T i) := hx
      have b2 : sp_B (upd sa i x (nI i).toNatClampNeg) (sp_J (sp_F ca T) T i) := by rw [sp_cl (by omega), pk_us]; exact hx
      refine sp_xbi b2 (nm_r (e' := nI (sp_tot (sp_J (sp_F ca T) T) (i + 1))) (nI_add _ _) (nm_r (nI_1 i) (ih (i + 1) _ (by omega) (fun r hr => ?_))))
      by_cases c : r = i
      · subst c
        rw [pk_us]
        exact ⟨fun _ => hx, fun z => absurd (Nat.lt_succ_self r) z⟩
      · rw [pk_un c]
        exact ⟨fun z => (hM r hr).1 (by omega), fun z => (hM r hr).2 (by omega)⟩
  exact Exists.intro 21 (main 20 0 sa rfl (fun r hr => ⟨fun z => absurd z (Nat.not_lt_zero _), fun _ => hX r hr⟩))
end
end
section
/-! the relation -/
def sp_Rel (fs fb ft fr : Int32) (ca sa la cl cy ys : Nat → Int32) : Prop := cy = ca ∧ sp_C ca ∧ ∃ T, sp_X sa T ∧ sp_Y ys T ∧ (fs = 0 ∨ sp_LD ca T fb la) ∧ (ft = 0 ∨ sp_RK ca T fr cl)
/-- the relation at the head of a turn: the same colours; one table of steps T; what is settled or known is what T and the colours say -/
def i_Rel (_k : Nat) (u : SX) (v : SY) : Prop := match u, v with
  | (fs, fb, _, ft, fr, ca, sa, _, _, la, cl), (cy, ys, _, _) => sp_Rel fs fb ft fr ca sa la cl cy ys
theorem i_up {k : Nat} {u : SX} {v : SY} (h : i_Rel k u v) : i_Rel (k + 5) u v := h
theorem sp_el {P : SX → SY → Prop} {k : Nat} {u : SX} {v : SY} (I : i_Rel k u v)
    (h : ∀ (fs fb fw ft fr : Int32) (ca sa bl wa la cl ys now aft : Nat → Int32) (T : Nat → Nat → Prop), sp_C ca → sp_X sa T → sp_Y ys T → (fs = 0 ∨ sp_LD ca T fb la) → (ft = 0 ∨ sp_RK ca T fr cl) → P (fs, fb, fw, ft, fr, ca, sa, bl, wa, la, cl) (ca, ys, now, aft)) : P u v := by
  obtain ⟨fs, fb, fw, ft, fr, ca, sa, bl, wa, la, cl⟩ := u
  obtain ⟨cy, ys, now, aft⟩ := v
  obtain ⟨e, hC, T, hX, hY, h1, h2⟩ := I
  subst e
  exact h fs fb fw ft fr _ sa bl wa la cl ys now aft T hC hX hY h1 h2
theorem sp_mk {k : Nat} {fs fb fw ft fr : Int32} {ca sa bl wa la cl ys now aft : Nat → Int32} {T : Nat → Nat → Prop} (hC : sp_C ca) (hX : sp_X sa T) (hY : sp_Y ys T) (h1 : fs = 0 ∨ sp_LD ca T fb la) (h2 : ft = 0 ∨ sp_RK ca T fr cl) : i_Rel k (fs, fb, fw, ft, fr, ca, sa, bl, wa, la, cl) (ca, ys, now, aft) :=
  (⟨rfl, hC, T, hX, hY, h1, h2⟩ : sp_Rel fs fb ft fr ca sa la cl ca ys)
theorem sp_X_up {sa : Nat → Int32} {T U : Nat → Nat → Prop} {r : Nat} {x : Int32} (hX : sp_X sa T) (hB : sp_B x (U r)) (ho : ∀ i j, i ≠ r → (T i j ↔ U i j)) : sp_X (upd sa r x) U := fun i hi => by
  by_cases c : i = r
  · subst c
    rw [pk_us]
    exact hB
  · rw [pk_un c]
    exact sp_B_cg (hX i hi) (fun j _ => ho i j c)
theorem sp_Y_up {ys : Nat → Int32} {T U : Nat → Nat → Prop} {r t : Nat} {x : Int32} (hY : sp_Y ys T) (ht : t < 10) (hx : x = nI (b01 (U r t))) (ho : ∀ i j, ¬ (i = r ∧ j = t) → (T i j ↔ U i j)) : sp_Y (upd ys (10 * r + t) x) U := fun p hp => by
  by_cases c : p = 10 * r + t
  · subst c
    rw [pk_us, show (10 * r + t) / 10 = r by omega, show (10 * r + t) % 10 = t by omega]
    exact hx
  · rw [pk_un c, hY p hp, sp_bc (ho (p / 10) (p % 10) (by omega))]
theorem i_vc0 : wpX_init (fun u => wpY_init (fun v => i_Rel 0 u v)) := by
  unfold wpX_init wpY_init
  exact sp_mk (T := fun _ _ => False) (fun s _ => ⟨0, by omega, rfl⟩) (fun i _ => sp_B_0) (fun p _ => sp_is0 id) (Or.inl rfl) (Or.inl rfl)
theorem sp_ste (v : Int32) : (v < 0 ∨ 10 ≤ v) ∨ ∃ s, s < 10 ∧ v = nI s := by
  rcases pk_ix v (n := 10) (by omega) with h | h | h
  · exact Or.inl (Or.inl h)
  · exact Or.inl (Or.inr h)
  · exact Or.inr h
theorem sp_one (v : Int32) : v < 0 ∨ (¬ v < 0 ∧ 1 < v) ∨ ∃ g, g < 2 ∧ v = nI g := by
  by_cases h : v < 0
  · exact Or.inl h
  · by_cases h1 : 1 < v
    · exact Or.inr (Or.inl ⟨h, h1⟩)
    · obtain ⟨j, hj, e⟩ := nI_of2 (x := v) (M := 1) (n := 1) (by decide) h (Int32.not_lt.mp h1)
      exact Or.inr (Or.inr ⟨j, by omega, e⟩)
theorem i_vc_colour {k : Nat} {u : SX} {v : SY} (I : i_Rel k u v) (hk : k + 5 ≤ 2560) (v1 : Int32) (v2 : Int32) : wpX_colour (fun r u' => wpY_colour (fun r' v' => r' = r ∧ i_Rel (k + 5) u' v') v v1 v2) u v1 v2 := by
  refine sp_el (P := fun u v => wpX_colour (fun r u' => wpY_colour (fun r' v' => r' = r ∧ i_Rel (k + 5) u' v') v v1 v2) u v1 v2) I ?_
  intro fs fb fw ft fr ca sa bl wa la cl ys now aft T hC hX hY h1 h2
  have R := sp_mk (k := k + 5) (fw := fw) (bl := bl) (wa := wa) (now := now) (aft := aft) hC hX hY h1 h2
  unfold wpX_colour wpY_colour
  dsimp only
  rcases sp_ste v1 with hs | ⟨s, hs, e⟩
  · exact sp_xis0 hs (br_t rfl (sp_yis0 hs (br_t rfl ⟨rfl, R⟩)))
  · subst e
    refine sp_xis1 hs (br_f (by decide) ?_)
    by_cases c0 : v2 < 0
    · exact br_t c0 (sp_yis1 hs (br_f (by decide) (br_t c0 ⟨rfl, R⟩)))
    · refine br_f c0 ?_
      by_cases c3 : v2 ≤ 3
      · obtain ⟨j, hj, e⟩ := nI_of2 (x := v2) (M := 3) (n := 3) (by decide) c0 c3
        subst e
        refine br_t c3 ⟨sp_in hs (by omega), nm_r (e' := upd ca s (nI j)) (by rw [sp_cl (by omega), sp_by j (by omega)]) ?_⟩
        unfold wpX_change
        dsimp only
        refine sp_yis1 hs (br_f (by decide) (br_f c0 (br_t c3 ⟨sp_in hs (by omega), nm_r (e' := upd ca s (nI j)) (by rw [sp_cl (by omega)]) ⟨rfl, ?_⟩⟩)))
        refine sp_mk (fun i hi => ?_) hX hY (Or.inl rfl) (Or.inl rfl)
        by_cases c : i = s
        · subst c
          rw [pk_us]
          exact ⟨j, by omega, rfl⟩
        · rw [pk_un c]
          exact hC i hi
      · exact br_f c3 (sp_yis1 hs (br_f (by decide) (br_f c0 (br_f c3 ⟨rfl, R⟩))))
theorem i_vc_step {k : Nat} {u : SX} {v : SY} (I : i_Rel k u v) (hk : k + 5 ≤ 2560) (v1 : Int32) (v2 : Int32) (v3 : Int32) (v4 : Int32) : wpX_step (fun r u' => wpY_step (fun r' v' => r' = r ∧ i_Rel (k + 5) u' v') v v1 v2 v3 (lw_bz v4)) u v1 v2 v3 (lw_bz v4) := by
  refine sp_el (P := fun u v => wpX_step (fun r u' => wpY_step (fun r' v' => r' = r ∧ i_Rel (k + 5) u' v') v v1 v2 v3 (lw_bz v4)) u v1 v2 v3 (lw_bz v4)) I ?_
  intro fs fb fw ft fr ca sa bl wa la cl ys now aft T hC hX hY h1 h2
  have R := sp_mk (k := k + 5) (fw := fw) (bl := bl) (wa := wa) (now := now) (aft := aft) hC hX hY h1 h2
  unfold wpX_step wpY_step
  dsimp only
  rcases sp_one v1 with c0 | ⟨c0, c1⟩ | ⟨g, hg, e⟩
  · exact br_t c0 (br_t c0 ⟨rfl, R⟩)
  · exact br_f c0 (br_t c1 (br_f c0 (br_t c1 ⟨rfl, R⟩)))
  · subst e
    have c0 : ¬ nI g < 0 := nI_pos (by omega)
    have c1 : ¬ 1 < nI g := nI_nlt (a := 1) (b := g) (by omega) (by omega)
    refine br_f c0 (br_f c1 ?_)
    rcases sp_ste v2 with hs | ⟨s, hs, e⟩
    · exact sp_xis0 hs (br_t rfl (br_f c0 (br_f c1 (sp_yis0 hs (br_t rfl ⟨rfl, R⟩)))))
    · subst e
      refine sp_xis1 hs (br_f (by decide) ?_)
      rcases sp_ste v3 with ht | ⟨t, ht, e⟩
      · exact sp_xis0 ht (br_t rfl (br_f c0 (br_f c1 (sp_yis1 hs (br_f (by decide) (sp_yis0 ht (br_t rfl ⟨rfl, R⟩)))))))
      · subst e
        refine sp_xis1 ht (br_f (by decide) ?_)
        have i1 : vp_in ((10 * nI g) + nI s) 20 := by rw [sp_ix]; exact sp_in (by omega) (by omega)
        have i2 : vp_in (((nI g * 100) + (nI s * 10)) + nI t) 200 := by rw [sp_iz]; exact sp_in (by omega) (by omega)
        have x1 : ((10 * nI g) + nI s).toNatClampNeg = 10 * g + s := by rw [sp_ix, sp_cl (by omega)]
        have x2 : (((nI g * 100) + (nI s * 10)) + nI t).toNatClampNeg = 10 * (10 * g + s) + t := by rw [sp_iz, sp_cl (by omega)]
        rw [x1, x2]
        rcases lw_bz_01 v4 with b | b
        · rw [b]
          refine br_t rfl ⟨i1, i1, nm_e ?_⟩
          unfold wX_step_71 wpX_change
          dsimp only
          refine br_f c0 (br_f c1 (sp_yis1 hs (br_f (by decide) (sp_yis1 ht (br_f (by decide) ⟨i2, nm_e ⟨rfl, ?_⟩⟩)))))
          refine sp_mk (T := fun i j => T i j ∧ ¬ (i = 10 * g + s ∧ j = t)) hC (sp_X_up hX ?_ (fun i j c => ?_)) (sp_Y_up hY ht (sp_v0.trans (sp_is0 ?_)) (fun i j c => ?_)) (Or.inl rfl) (Or.inl rfl)
          · exact sp_B_cg (sp_B_clr (hX (10 * g + s) (by omega)) ht) (fun j _ => ⟨fun z => ⟨z.1, fun q => z.2 q.2⟩, fun z => ⟨z.1, fun q => z.2 ⟨rfl, q⟩⟩⟩)
          · exact ⟨fun z => ⟨z, fun q => c q.1⟩, fun z => z.1⟩
          · exact fun z => z.2 ⟨rfl, rfl⟩
          · exact ⟨fun z => ⟨z, c⟩, fun z => z.1⟩
        · rw [b]
          refine br_f (by decide) ⟨i1, i1, nm_e ?_⟩
          unfold wX_step_71 wpX_change
          dsimp only
          refine br_f c0 (br_f c1 (sp_yis1 hs (br_f (by decide) (sp_yis1 ht (br_f (by decide) ⟨i2, nm_e ⟨rfl, ?_⟩⟩)))))
          refine sp_mk (T := fun i j => T i j ∨ (i = 10 * g + s ∧ j = t)) hC (sp_X_up hX ?_ (fun i j c => ?_)) (sp_Y_up hY ht (sp_v1.trans (sp_is1 ?_)) (fun i j c => ?_)) (Or.inl rfl) (Or.inl rfl)
          · exact sp_B_cg (sp_B_or (hX (10 * g + s) (by omega)) ht) (fun j _ => ⟨fun z => z.imp id (fun q => ⟨rfl, q⟩), fun z => z.imp id (fun q => q.2)⟩)
          · exact ⟨Or.inl, fun z => z.elim id (fun q => absurd q.1 c)⟩
          · exact Or.inr ⟨rfl, rfl⟩
          · exact ⟨Or.inl, fun z => z.elim id (fun q => absurd q c)⟩
end
section
/-! the calls that answer -/
theorem i_vc_alike {k : Nat} {u : SX} {v : SY} (I : i_Rel k u v) (hk : k + 5 ≤ 2560) (v1 : Int32) (v2 : Int32) : wpX_alike (fun r u' => wpY_alike (fun r' v' => r' = r ∧ i_Rel (k + 5) u' v') v v1 v2) u v1 v2 := by
  refine sp_el (P := fun u v => wpX_alike (fun r u' => wpY_alike (fun r' v' => r' = r ∧ i_Rel (k + 5) u' v') v v1 v2) u v1 v2) I ?_
  intro fs fb fw ft fr ca sa bl wa la cl ys now aft T hC hX hY h1 h2
  have R := sp_mk (k := k + 5) (fw := fw) (bl := bl) (wa := wa) (now := now) (aft := aft) hC hX hY h1 h2
  rcases sp_ste v1 with hs | ⟨s, hs, e⟩
  · unfold wpX_alike wpY_alike
    dsimp only
    exact sp_xis0 hs (br_t rfl (sp_yis0 hs (br_t rfl ⟨rfl, R⟩)))
  · subst e
    rcases sp_ste v2 with ht | ⟨t, ht, e⟩
    · unfold wpX_alike wpY_alike
      dsimp only
      exact sp_xis1 hs (br_f (by decide) (sp_xis0 ht (br_t rfl (sp_yis1 hs (br_f (by decide) (sp_yis0 ht (br_t rfl ⟨rfl, R⟩)))))))
    · subst e
      exact sp_xalike hC hX h1 hs ht (fun _ _ _ _ _ _ hL => sp_yalike hY hs ht (fun _ _ => ⟨rfl, sp_mk hC hX hY (Or.inr hL) h2⟩))
theorem i_vc_classes {k : Nat} {u : SX} {v : SY} (I : i_Rel k u v) (hk : k + 5 ≤ 2560) : wpX_classes (fun r u' => wpY_classes (fun r' v' => r' = r ∧ i_Rel (k + 5) u' v') v) u := by
  refine sp_el (P := fun u v => wpX_classes (fun r u' => wpY_classes (fun r' v' => r' = r ∧ i_Rel (k + 5) u' v') v) u) I ?_
  intro fs fb fw ft fr ca sa bl wa la cl ys now aft T hC hX hY h1 h2
  exact sp_xclasses hC hX h1 (fun _ _ _ _ _ _ hL => sp_yclasses hY (fun _ _ => ⟨rfl, sp_mk hC hX hY (Or.inr hL) h2⟩))
theorem i_vc_leader {k : Nat} {u : SX} {v : SY} (I : i_Rel k u v) (hk : k + 5 ≤ 2560) (v1 : Int32) : wpX_leader (fun r u' => wpY_leader (fun r' v' => r' = r ∧ i_Rel (k + 5) u' v') v v1) u v1 := by
  refine sp_el (P := fun u v => wpX_leader (fun r u' => wpY_leader (fun r' v' => r' = r ∧ i_Rel (k + 5) u' v') v v1) u v1) I ?_
  intro fs fb fw ft fr ca sa bl wa la cl ys now aft T hC hX hY h1 h2
  have R := sp_mk (k := k + 5) (fw := fw) (bl := bl) (wa := wa) (now := now) (aft := aft) hC hX hY h1 h2
  rcases sp_ste v1 with hs | ⟨s, hs, e⟩
  · unfold wpX_leader wpY_leader
    dsimp only
    exact sp_xis0 hs (br_t rfl (sp_yis0 hs (br_t rfl ⟨rfl, R⟩)))
  · subst e
    exact sp_xleader hC hX h1 hs (fun _ _ _ _ _ _ hL => sp_yleader hY hs (fun _ _ => ⟨rfl, sp_mk hC hX hY (Or.inr hL) h2⟩))
theorem i_vc_members {k : Nat} {u : SX} {v : SY} (I : i_Rel k u v) (hk : k + 5 ≤ 2560) (v1 : Int32) : wpX_members (fun r u' => wpY_members (fun r' v' => r' = r ∧ i_Rel (k + 5) u' v') v v1) u v1 := by
  refine sp_el (P := fun u v => wpX_members (fun r u' => wpY_members (fun r' v' => r' = r ∧ i_Rel (k + 5) u' v') v v1) u v1) I ?_
  intro fs fb fw ft fr ca sa bl wa la cl ys now aft T hC hX hY h1 h2
  have R := sp_mk (k := k + 5) (fw := fw) (bl := bl) (wa := wa) (now := now) (aft := aft) hC hX hY h1 h2
  rcases sp_ste v1 with hs | ⟨s, hs, e⟩
  · unfold wpX_members wpY_members
    dsimp only
    exact sp_xis0 hs (br_t rfl (sp_yis0 hs (br_t rfl ⟨rfl, R⟩)))
  · subst e
    exact sp_xmembers hC hX h1 hs (fun _ _ _ _ _ _ _ hx hL => sp_ymembers hY hs (fun _ _ _ hy => ⟨sp_B_in hy hx, sp_mk hC hX hY (Or.inr hL) h2⟩))
theorem i_vc_told {k : Nat} {u : SX} {v : SY} (I : i_Rel k u v) (hk : k + 5 ≤ 2560) (v1 : Int32) (v2 : Int32) : wpX_told (fun r u' => wpY_told (fun r' v' => r' = r ∧ i_Rel (k + 5) u' v') v v1 v2) u v1 v2 := by
  refine sp_el (P := fun u v => wpX_told (fun r u' => wpY_told (fun r' v' => r' = r ∧ i_Rel (k + 5) u' v') v v1 v2) u v1 v2) I ?_
  intro fs fb fw ft fr ca sa bl wa la cl ys now aft T hC hX hY h1 h2
  have R := sp_mk (k := k + 5) (fw := fw) (bl := bl) (wa := wa) (now := now) (aft := aft) hC hX hY h1 h2
  rcases sp_ste v1 with hs | ⟨s, hs, e⟩
  · unfold wpX_told wpY_told
    dsimp only
    exact sp_xis0 hs (br_t rfl (sp_yis0 hs (br_t rfl ⟨rfl, R⟩)))
  · subst e
    rcases sp_ste v2 with ht | ⟨t, ht, e⟩
    · unfold wpX_told wpY_told
      dsimp only
      exact sp_xis1 hs (br_f (by decide) (sp_xis0 ht (br_t rfl (sp_yis1 hs (br_f (by decide) (sp_yis0 ht (br_t rfl ⟨rfl, R⟩)))))))
    · subst e
      obtain ⟨r, hr⟩ := sp_tl_ex ca T s t
      exact sp_xtold hX hs ht h2 hr (fun _ _ _ hK => sp_ytold hY hs ht hr (fun _ _ => ⟨rfl, sp_mk hC hX hY h1 (Or.inr hK)⟩))
theorem i_vc_leads {k : Nat} {u : SX} {v : SY} (I : i_Rel k u v) (hk : k + 5 ≤ 2560) (v1 : Int32) (v2 : Int32) : wpX_leads (fun r u' => wpY_leads (fun r' v' => r' = r ∧ i_Rel (k + 5) u' v') v v1 v2) u v1 v2 := by
  refine sp_el (P := fun u v => wpX_leads (fun r u' => wpY_leads (fun r' v' => r' = r ∧ i_Rel (k + 5) u' v') v v1 v2) u v1 v2) I ?_
  intro fs fb fw ft fr ca sa bl wa la cl ys now aft T hC hX hY h1 h2
  have R := sp_mk (k := k + 5) (fw := fw) (bl := bl) (wa := wa) (now := now) (aft := aft) hC hX hY h1 h2
  rcases sp_one v1 with c0 | ⟨c0, c1⟩ | ⟨g, hg, e⟩
  · unfold wpX_leads wpY_leads
    dsimp only
    exact br_t c0 (br_t c0 ⟨rfl, R⟩)
  · unfold wpX_leads wpY_leads
    dsimp only
    exact br_f c0 (br_t c1 (br_f c0 (br_t c1 ⟨rfl, R⟩)))
  · subst e
    rcases sp_ste v2 with hs | ⟨s, hs, e⟩
    · have c0 : ¬ nI g < 0 := nI_pos (by omega)
      have c1 : ¬ 1 < nI g := nI_nlt (a := 1) (b := g) (by omega) (by omega)
      unfold wpX_leads wpY_leads
      dsimp only
      exact br_f c0 (br_f c1 (sp_xis0 hs (br_t rfl (br_f c0 (br_f c1 (sp_yis0 hs (br_t rfl ⟨rfl, R⟩)))))))
    · subst e
      exact sp_xleads hC hX h1 hg hs (fun _ _ _ _ _ _ _ hx hL => sp_yleads hY hg hs (fun _ _ _ hy => ⟨sp_B_in hy hx, sp_mk hC hX hY (Or.inr hL) h2⟩))
theorem i_vc_colours {k : Nat} {u : SX} {v : SY} (I : i_Rel k u v) (hk : k + 5 ≤ 2560) : wpX_colours (fun r => wpY_colours (fun r' => r' = r ∧ i_Rel (k + 5) u v) v) u := by
  refine sp_el (P := fun u v => wpX_colours (fun r => wpY_colours (fun r' => r' = r ∧ i_Rel (k + 5) u v) v) u) I ?_
  intro fs fb fw ft fr ca sa bl wa la cl ys now aft T hC hX hY h1 h2
  exact sp_xcolours hC (sp_ycolours hC ⟨rfl, sp_mk hC hX hY h1 h2⟩)
theorem i_vc_reduce {k : Nat} {u : SX} {v : SY} (I : i_Rel k u v) (hk : k + 5 ≤ 2560) : wpX_reduce (fun r u' => wpY_reduce (fun r' v' => r' = r ∧ i_Rel (k + 5) u' v') v) u := by
  refine sp_el (P := fun u v => wpX_reduce (fun r u' => wpY_reduce (fun r' v' => r' = r ∧ i_Rel (k + 5) u' v') v) u) I ?_
  intro fs fb fw ft fr ca sa bl wa la cl ys now aft T hC hX hY h1 h2
  exact sp_xreduce hC hX h1 (fun _ _ _ _ _ _ hX' => sp_yreduce hY (fun _ _ _ hY' => ⟨rfl, sp_mk hC hX' hY' (Or.inl rfl) (Or.inl rfl)⟩))
theorem i_vc_rounds {k : Nat} {u : SX} {v : SY} (I : i_Rel k u v) (hk : k + 5 ≤ 2560) : wpX_rounds (fun r u' => wpY_rounds (fun r' v' => r' = r ∧ i_Rel (k + 5) u' v') v) u := by
  refine sp_el (P := fun u v => wpX_rounds (fun r u' => wpY_rounds (fun r' v' => r' = r ∧ i_Rel (k + 5) u' v') v) u) I ?_
  intro fs fb fw ft fr ca sa bl wa la cl ys now aft T hC hX hY h1 h2
  exact sp_xrounds hX h2 (fun _ _ _ hK => sp_yrounds hY (fun _ _ => ⟨rfl, sp_mk hC hX hY h1 (Or.inr hK)⟩))
end
