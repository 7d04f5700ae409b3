section
/-! starting text: rows of the kit to paste -/
theorem pk_us {f : Nat → Int32} {k : Nat} {x : Int32} : upd f k x k = x := if_pos rfl
theorem pk_un {f : Nat → Int32} {k j : Nat} {x : Int32} (h : j ≠ k) : upd f k x j = f j := if_neg h
theorem pk_uLs {f : Nat → Int64} {k : Nat} {x : Int64} : vp_updL f k x k = x := if_pos rfl
theorem pk_uLn {f : Nat → Int64} {k j : Nat} {x : Int64} (h : j ≠ k) : vp_updL f k x j = f j := if_neg h
theorem pk_sub {a b : Nat} (h : b ≤ a) : nI a - nI b = nI (a - b) := by
  obtain ⟨c, rfl⟩ : ∃ c, a = c + b := ⟨a - b, by omega⟩
  rw [← nI_add, Int32.add_sub_cancel, Nat.add_sub_cancel]
theorem pk_m1 (n : Nat) : nI (n + 1) + (-1) = nI n := by
  rw [← nI_1, Int32.add_assoc, show (1 : Int32) + (-1) = 0 from rfl, Int32.add_zero]
theorem pk_mul (a b : Nat) : nI a * nI b = nI (a * b) := (Int32.ofNat_mul a b).symm
theorem pk_div {a d : Nat} (ha : a < 2 ^ 31) (h0 : 0 < d) (hd : d < 2 ^ 31) : nI a / nI d = nI (a / d) := by
  apply Int32.toInt_inj.mp
  rw [lg_idiv_nonneg (by rw [nI_toInt ha]; omega) (by rw [nI_toInt hd]; omega), nI_toInt ha, nI_toInt hd, nI_toInt (Nat.lt_of_le_of_lt (Nat.div_le_self a d) ha)]
  first | rfl | exact (Int.natCast_ediv _ _).symm
theorem pk_rem {a d : Nat} (ha : a < 2 ^ 31) (h0 : 0 < d) (hd : d < 2 ^ 31) : nI a - nI a / nI d * nI d = nI (a % d) := by
  rw [pk_div ha h0 hd, pk_mul, pk_sub (Nat.div_mul_le_self a d)]
  exact congrArg nI (by have := Nat.div_add_mod' a d; omega)
theorem pk_sub_toInt {a b : Nat} (ha : a < 2 ^ 30) (hb : b < 2 ^ 30) : (nI a - nI b).toInt = (a : Int) - b := by
  rw [Int32.toInt_sub, nI_toInt (by omega), nI_toInt (by omega)]
  exact Int.bmod_eq_of_le (by omega) (by omega)
theorem pk_sneg {a b : Nat} (hb : b < 2 ^ 30) (h : a < b) : nI a - nI b < 0 := by
  rw [Int32.lt_iff_toInt_lt, pk_sub_toInt (by omega) hb, show (0 : Int32).toInt = 0 from by decide]
  omega
theorem pk_ix (x : Int32) {n : Nat} (hn : n < 2 ^ 31) : x < 0 ∨ nI n ≤ x ∨ ∃ j : Nat, j < n ∧ x = nI j := by
  by_cases h : x < 0
  · exact Or.inl h
  · obtain ⟨j, hj, rfl⟩ := nI_of h
    by_cases h2 : j < n
    · exact Or.inr (Or.inr ⟨j, h2, rfl⟩)
    · exact Or.inr (Or.inl (nI_le (by omega) hj))
theorem pk_le {x y : Int32} {A B : Prop} (a b : Nat) (f : a ≤ b → A) (g : b < a → B) (hx : x = nI a := by rfl) (hy : y = nI b := by rfl) (ha : a < 2 ^ 31 := by omega) (hb : b < 2 ^ 31 := by omega) : (x ≤ y → A) ∧ (¬ x ≤ y → B) := by
  subst hx hy
  rw [nI_leI ha hb]
  exact ⟨f, fun z => g (by omega)⟩
theorem pk_lt {x y : Int32} {A B : Prop} (a b : Nat) (f : a < b → A) (g : b ≤ a → B) (hx : x = nI a := by rfl) (hy : y = nI b := by rfl) (ha : a < 2 ^ 31 := by omega) (hb : b < 2 ^ 31 := by omega) : (x < y → A) ∧ (¬ x < y → B) := by
  subst hx hy
  rw [nI_ltI ha hb]
  exact ⟨f, fun z => g (by omega)⟩
theorem pk_eq {x y : Int32} {A B : Prop} (a b : Nat) (f : a = b → A) (g : a ≠ b → B) (hx : x = nI a := by rfl) (hy : y = nI b := by rfl) (ha : a < 2 ^ 31 := by omega) (hb : b < 2 ^ 31 := by omega) : (x = y → A) ∧ (¬ x = y → B) := by
  subst hx hy
  rw [nI_eq ha hb]
  exact ⟨f, g⟩
theorem pk_in {x : Int32} (n N : Nat) (h : n < N) (hx : x = nI n := by rfl) (hN : N < 2 ^ 31 := by omega) : vp_in x N := by
  subst hx
  exact vp_in_nI h hN
theorem pk_cl {x : Int32} (n : Nat) (hx : x = nI n := by rfl) (h : n < 2 ^ 31 := by omega) : x.toNatClampNeg = n := by
  subst hx
  exact nI_clamp h
theorem pk_tn {n : Nat} (h : n < 2 ^ 32) : (nI n).toBitVec.toNat = n := Nat.mod_eq_of_lt h
theorem ts_nf {x : Bool} (h : ¬ x = false) : x = true := by cases x <;> first | rfl | exact absurd rfl h
theorem ts_nt {x : Bool} (h : ¬ x = true) : x = false := by cases x <;> first | rfl | exact absurd rfl h
theorem wb_tb (n : Nat) : (lN n).toBitVec = BitVec.ofNat 64 n := rfl
theorem wb_inj {a b : Int64} (h : a.toBitVec = b.toBitVec) : a = b := Int64.toBitVec_inj.mp h
theorem wb_tn {n : Nat} (h : n < 2 ^ 64) : (lN n).toBitVec.toNat = n := by rw [wb_tb, BitVec.toNat_ofNat, Nat.mod_eq_of_lt h]
theorem wb_c : ∀ k, k < 64 → ((nI k).toInt64 &&& 63) = lN k := by decide +kernel
theorem wb_cu : ∀ k, k < 64 → ((nI k).toInt64.toUInt64 &&& Int64.toUInt64 63) = UInt64.ofNat k := by decide +kernel
theorem wb_sm : ∀ k, k < 64 → (BitVec.ofNat 64 k).smod 64 = BitVec.ofNat 64 k := by decide +kernel
end
section
/-! counts of predicates, neighbours, reach -/
noncomputable def gb_o (P : Prop) : Nat := @ite Nat P (Classical.propDecidable P) 1 0
theorem gb_o_t {P : Prop} (h : P) : gb_o P = 1 := by unfold gb_o; rw [if_pos h]
theorem gb_o_f {P : Prop} (h : ¬ P) : gb_o P = 0 := by unfold gb_o; rw [if_neg h]
theorem gb_o_le (P : Prop) : gb_o P ≤ 1 := by
  rcases Classical.em P with h | h
  · rw [gb_o_t h]; omega
  · rw [gb_o_f h]; omega
noncomputable def gb_cn (P : Nat → Prop) : Nat → Nat
  | 0 => 0
  | k + 1 => gb_cn P k + gb_o (P k)
theorem gb_cn_s (P : Nat → Prop) (k : Nat) : gb_cn P (k + 1) = gb_cn P k + gb_o (P k) := rfl
theorem gb_cn_t {P : Nat → Prop} {k : Nat} (h : P k) : gb_cn P (k + 1) = gb_cn P k + 1 := by rw [gb_cn_s, gb_o_t h]
theorem gb_cn_f {P : Nat → Prop} {k : Nat} (h : ¬ P k) : gb_cn P (k + 1) = gb_cn P k := by rw [gb_cn_s, gb_o_f h, Nat.add_zero]
theorem gb_cn_le (P : Nat → Prop) : ∀ N, gb_cn P N ≤ N
  | 0 => Nat.le_refl _
  | N + 1 => by have := gb_cn_le P N; have := gb_o_le (P N); rw [gb_cn_s]; omega
theorem gb_cn_mono {P Q : Nat → Prop} : ∀ {N : Nat}, (∀ k, k < N → P k → Q k) → gb_cn P N ≤ gb_cn Q N
  | 0, _ => Nat.le_refl _
  | N + 1, h => by
    have a := gb_cn_mono (P := P) (Q := Q) (N := N) (fun k hk => h k (by omega))
    rcases Classical.em (P N) with hp | hp
    · rw [gb_cn_t hp, gb_cn_t (h N (by omega) hp)]; omega
    · rw [gb_cn_f hp, gb_cn_s]; omega
theorem gb_cn_eq {P Q : Nat → Prop} {N : Nat} (h : ∀ k, k < N → (P k ↔ Q k)) : gb_cn P N = gb_cn Q N :=
  Nat.le_antisymm (gb_cn_mono fun k hk => (h k hk).mp) (gb_cn_mono fun k hk => (h k hk).mpr)
theorem gb_cn_or {P Q : Nat → Prop} : ∀ {N : Nat}, (∀ k, k < N → P k → ¬ Q k) → gb_cn (fun k => P k ∨ Q k) N = gb_cn P N + gb_cn Q N
  | 0, _ => rfl
  | N + 1, h => by
    have a := gb_cn_or (P := P) (Q := Q) (N := N) (fun k hk => h k (by omega))
    rcases Classical.em (P N) with hp | hp
    · rw [gb_cn_t (P := fun k => P k ∨ Q k) (Or.inl hp), gb_cn_t hp, gb_cn_f (h N (by omega) hp), a]; omega
    · rcases Classical.em (Q N) with hq | hq
      · rw [gb_cn_t (P := fun k => P k ∨ Q k) (Or.inr hq), gb_cn_t hq, gb_cn_f hp, a]; omega
      · rw [gb_cn_f (P := fun k => P k ∨ Q k) (fun z => z.elim hp hq), gb_cn_f hq, gb_cn_f hp, a]
theorem gb_cn_none {P : Nat → Prop} : ∀ {N : Nat}, (∀ k, k < N → ¬ P k) → gb_cn P N = 0
  | 0, _ => rfl
  | N + 1, h => by rw [gb_cn_f (h N (by omega))]; exact gb_cn_none (fun k hk => h k (by omega))
theorem gb_cn_one (a : Nat) : ∀ {N : Nat}, a < N → gb_cn (fun k => k = a) N = 1
  | 0, h => by omega
  | N + 1, h => by
    rcases Nat.lt_or_ge a N with z | z
    · rw [gb_cn_f (P := fun k => k = a) (by omega)]; exact gb_cn_one a z
    · rw [gb_cn_t (P := fun k => k = a) (by omega), gb_cn_none (fun k hk => by omega)]
theorem gb_cn_pos {P : Nat → Prop} {N a : Nat} (ha : a < N) (h : P a) : 1 ≤ gb_cn P N := by
  rw [← gb_cn_one a ha]; exact gb_cn_mono (fun k _ e => by rw [e]; exact h)
theorem gb_cn_zero {P : Nat → Prop} {N : Nat} : gb_cn P N = 0 ↔ ∀ k, k < N → ¬ P k :=
  ⟨fun h k hk hp => by have := gb_cn_pos hk hp; omega, gb_cn_none⟩
theorem gb_cn_lt {P Q : Nat → Prop} {N a : Nat} (h : ∀ k, k < N → P k → Q k) (ha : a < N) (hp : ¬ P a) (hq : Q a) : gb_cn P N < gb_cn Q N := by
  have e : gb_cn (fun k => P k ∨ k = a) N = gb_cn P N + gb_cn (fun k => k = a) N := gb_cn_or (fun k _ hk z => hp (by rw [← z]; exact hk))
  rw [gb_cn_one a ha] at e
  have m : gb_cn (fun k => P k ∨ k = a) N ≤ gb_cn Q N := gb_cn_mono (fun k hk z => z.elim (h k hk) (fun z => by rw [z]; exact hq))
  omega
theorem gb_cn_full {P : Nat → Prop} {N : Nat} (h : N ≤ gb_cn P N) : ∀ k, k < N → P k := by
  intro k hk
  rcases Classical.em (P k) with hp | hp
  · exact hp
  · have a := gb_cn_lt (P := P) (Q := fun _ => True) (N := N) (a := k) (fun _ _ _ => trivial) hk hp trivial
    have b := gb_cn_le (fun _ => True) N
    omega
/-- exactly one -/
theorem gb_cn_1 {P : Nat → Prop} {N : Nat} : gb_cn P N = 1 ↔ ∃ a, a < N ∧ P a ∧ ∀ k, k < N → P k → k = a := by
  constructor
  · intro h
    rcases Classical.em (∃ a, a < N ∧ P a) with ⟨a, ha, hp⟩ | z
    · refine ⟨a, ha, hp, fun k hk hpk => ?_⟩
      rcases Nat.decEq k a with ne | e
      · have e2 : gb_cn (fun j => j = k ∨ j = a) N = gb_cn (fun j => j = k) N + gb_cn (fun j => j = a) N := gb_cn_or (fun j _ e1 e2 => ne (e1.symm.trans e2))
        rw [gb_cn_one a ha, gb_cn_one k hk] at e2
        have m : gb_cn (fun j => j = k ∨ j = a) N ≤ gb_cn P N := gb_cn_mono (fun j _ z => z.elim (fun z => by rw [z]; exact hpk) (fun z => by rw [z]; exact hp))
        omega
      · exact e
    · rw [gb_cn_none (fun k hk hp => z ⟨k, hk, hp⟩)] at h; omega
  · rintro ⟨a, ha, hp, h⟩
    rw [← gb_cn_one a ha]
    exact gb_cn_eq (fun k hk => ⟨h k hk, fun e => by rw [e]; exact hp⟩)
/-- neighbours -/
def gb_adj (j i : Nat) : Prop := j = i + 7 ∨ i = j + 7 ∨ (j = i + 1 ∧ j % 7 ≠ 0) ∨ (i = j + 1 ∧ i % 7 ≠ 0)
theorem gb_adj_sym {j i : Nat} (h : gb_adj j i) : gb_adj i j := by
  unfold gb_adj at h ⊢; omega
/-- the points beside a set -/
def gb_N (P : Nat → Prop) (i : Nat) : Prop := i < 49 ∧ ∃ j, P j ∧ gb_adj j i
/-- what can be come to from S inside W -/
def gb_R (W S : Nat → Prop) (r : Nat) : Prop := ∀ T : Nat → Prop, (∀ i, S i → W i → T i) → (∀ i j, T i → gb_adj i j → W j → T j) → T r
def gb_R1 (W : Nat → Prop) (q r : Nat) : Prop := gb_R W (fun i => i = q) r
theorem gb_R_base {W S : Nat → Prop} {i : Nat} (h : S i) (w : W i) : gb_R W S i := fun _ hb _ => hb i h w
theorem gb_R_step {W S : Nat → Prop} {i j : Nat} (h : gb_R W S i) (a : gb_adj i j) (w : W j) : gb_R W S j := fun T hb hs => hs i j (h T hb hs) a w
theorem gb_R_in {W S : Nat → Prop} {i : Nat} (h : gb_R W S i) : W i := h W (fun _ _ w => w) (fun _ _ _ _ w => w)
theorem gb_R1_base {W : Nat → Prop} {q : Nat} (w : W q) : gb_R1 W q q := gb_R_base rfl w
theorem gb_R1_src {W : Nat → Prop} {q r : Nat} (h : gb_R1 W q r) : W q := h (fun _ => W q) (fun i e w => by rw [← e]; exact w) (fun _ _ t _ _ => t)
theorem gb_R_trans {W S : Nat → Prop} {q r : Nat} (h : gb_R W S q) (k : gb_R1 W q r) : gb_R W S r :=
  k (gb_R W S) (fun i e _ => by rw [e]; exact h) (fun _ _ t a w => gb_R_step t a w)
theorem gb_R1_sym {W : Nat → Prop} {q r : Nat} (h : gb_R1 W q r) : gb_R1 W r q := by
  have : W r ∧ gb_R1 W r q := h (fun r => W r ∧ gb_R1 W r q) (fun i e w => by rw [e] at w ⊢; exact ⟨w, gb_R1_base w⟩)
    (fun i j t a w => ⟨w, gb_R_trans (gb_R_step (gb_R1_base w) (gb_adj_sym a) t.1) t.2⟩)
  exact this.2
theorem gb_R_ex {W S : Nat → Prop} {r : Nat} (h : gb_R W S r) : ∃ q, S q ∧ W q ∧ gb_R1 W q r :=
  h (fun r => ∃ q, S q ∧ W q ∧ gb_R1 W q r) (fun i s w => ⟨i, s, w, gb_R1_base w⟩)
    (fun _ _ ⟨q, s, w, t⟩ a wj => ⟨q, s, w, gb_R_step t a wj⟩)
theorem gb_R_of {W S : Nat → Prop} {q r : Nat} (s : S q) (h : gb_R1 W q r) : gb_R W S r := gb_R_trans (gb_R_base s (gb_R1_src h)) h
theorem gb_R1_same {W : Nat → Prop} {q r : Nat} (h : gb_R1 W q r) : gb_R1 W q = gb_R1 W r :=
  funext fun _ => propext ⟨fun k => gb_R_trans (gb_R1_sym h) k, fun k => gb_R_trans h k⟩
theorem gb_R_ext {W W' S S' : Nat → Prop} (hw : ∀ i, W i ↔ W' i) (hs : ∀ i, S i ↔ S' i) : gb_R W S = gb_R W' S' := by
  rw [funext fun i => propext (hw i), funext fun i => propext (hs i)]
/-- a closed part of W: reach inside it is reach in W -/
theorem gb_R1_part {W L : Nat → Prop} (hL : ∀ i, L i → W i) (hc : ∀ i j, L i → gb_adj i j → W j → L j) {q : Nat} (hq : L q) (r : Nat) : gb_R1 L q r ↔ gb_R1 W q r := by
  constructor
  · intro h
    exact h (gb_R1 W q) (fun i e l => gb_R_base e (hL i l)) (fun i j t a l => gb_R_step t a (hL j l))
  · intro h
    have : L r ∧ gb_R1 L q r := h (fun r => L r ∧ gb_R1 L q r) (fun i e w => by rw [e]; exact ⟨hq, gb_R1_base hq⟩)
      (fun i j t a w => ⟨hc i j t.1 a w, gb_R_step t.2 a (hc i j t.1 a w)⟩)
    exact this.2
/-- reach from the points of W beside O: a point of the group beside O -/
theorem gb_R_beside {W O : Nat → Prop} (hW : ∀ i, W i → i < 49) (i : Nat) :
    gb_R W (fun i => W i ∧ gb_N O i) i ↔ W i ∧ ∃ o s, O o ∧ gb_adj o s ∧ gb_R1 W i s := by
  constructor
  · intro h
    obtain ⟨q, ⟨_, _, j, hj, a⟩, _, hr⟩ := gb_R_ex h
    exact ⟨gb_R_in h, j, q, hj, a, gb_R1_sym hr⟩
  · rintro ⟨_, o, s, ho, a, hr⟩
    have ws := gb_R_in hr
    exact gb_R_of (S := fun i => W i ∧ gb_N O i) ⟨ws, hW s ws, o, ho, a⟩ (gb_R1_sym hr)
/-- the points of the board b with c at them -/
def gb_C (b : Nat → Int32) (c : Int32) (i : Nat) : Prop := i < 49 ∧ b i = c
theorem gb_C_lt {b : Nat → Int32} {c : Int32} (i : Nat) (h : gb_C b c i) : i < 49 := h.1
theorem gb_C_ext {b b' : Nat → Int32} (h : ∀ i, i < 49 → b' i = b i) (c : Int32) : gb_C b' c = gb_C b c :=
  funext fun i => propext ⟨fun k => ⟨k.1, (h i k.1).symm.trans k.2⟩, fun k => ⟨k.1, (h i k.1).trans k.2⟩⟩
/-- the empty points beside a group G -/
def gb_lib (b : Nat → Int32) (G : Nat → Prop) (r : Nat) : Prop := gb_C b 2 r ∧ ∃ s, gb_adj r s ∧ G s
theorem gb_lib_ext {b b' : Nat → Int32} (h : ∀ i, i < 49 → b' i = b i) (G : Nat → Prop) : gb_lib b' G = gb_lib b G := by
  unfold gb_lib; rw [gb_C_ext h]
end
section
/-! sets of points as longs -/
def gb_tb (x : Int64) (i : Nat) : Bool := x.toBitVec.getLsbD i
def gb_S (x : Int64) (P : Nat → Prop) : Prop := ∀ i, gb_tb x i = true ↔ P i
theorem gb_tb_lt {x : Int64} {i : Nat} (h : gb_tb x i = true) : i < 64 := by
  rcases Nat.lt_or_ge i 64 with z | z
  · exact z
  · unfold gb_tb at h; rw [BitVec.getLsbD_of_ge _ _ z] at h; exact absurd h (by decide)
theorem gb_S_ext {x : Int64} {P Q : Nat → Prop} (h : gb_S x P) (e : ∀ i, P i ↔ Q i) : gb_S x Q := fun i => (h i).trans (e i)
theorem gb_S_eq {x y : Int64} {P Q : Nat → Prop} (hx : gb_S x P) (hy : gb_S y Q) : x = y ↔ ∀ i, P i ↔ Q i := by
  constructor
  · intro e i; rw [e] at hx; exact (hx i).symm.trans (hy i)
  · intro h
    apply Int64.toBitVec_inj.mp
    apply BitVec.eq_of_getLsbD_eq
    intro i _
    have a := ((hx i).trans (h i)).trans (hy i).symm
    unfold gb_tb at a
    exact Bool.eq_iff_iff.mpr a
theorem gb_S_zero : gb_S 0 (fun _ => False) := fun i => by
  unfold gb_tb
  show (0#64).getLsbD i = true ↔ False
  rw [BitVec.getLsbD_zero]; decide
theorem gb_S_eq0 {x : Int64} {P : Nat → Prop} (hx : gb_S x P) : x = 0 ↔ ∀ i, ¬ P i := by
  rw [gb_S_eq hx gb_S_zero]
  exact ⟨fun h i hp => (h i).mp hp, fun h i => ⟨fun hp => h i hp, fun z => z.elim⟩⟩
theorem gb_S_or {x y : Int64} {P Q : Nat → Prop} (hx : gb_S x P) (hy : gb_S y Q) : gb_S (x ||| y) (fun i => P i ∨ Q i) := fun i => by
  have a := hx i; have b := hy i
  unfold gb_tb at a b ⊢
  rw [Int64.toBitVec_or, BitVec.getLsbD_or, Bool.or_eq_true]
  exact or_congr a b
theorem gb_S_and {x y : Int64} {P Q : Nat → Prop} (hx : gb_S x P) (hy : gb_S y Q) : gb_S (x &&& y) (fun i => P i ∧ Q i) := fun i => by
  have a := hx i; have b := hy i
  unfold gb_tb at a b ⊢
  rw [Int64.toBitVec_and, BitVec.getLsbD_and, Bool.and_eq_true]
  exact and_congr a b
theorem gb_m1 : ∀ i, i < 64 → (-1 : Int64).toBitVec.getLsbD i = true := by decide +kernel
theorem gb_S_diff {x y : Int64} {P Q : Nat → Prop} (hx : gb_S x P) (hy : gb_S y Q) : gb_S (x &&& (y ^^^ (-1))) (fun i => P i ∧ ¬ Q i) := fun i => by
  have a := hx i; have b := hy i
  have l := fun z => gb_tb_lt (x := x) (i := i) z
  unfold gb_tb at a b l ⊢
  rw [Int64.toBitVec_and, BitVec.getLsbD_and, Bool.and_eq_true, Int64.toBitVec_xor, BitVec.getLsbD_xor]
  constructor
  · rintro ⟨h1, h2⟩
    rw [gb_m1 i (l h1)] at h2
    refine ⟨a.mp h1, fun q => ?_⟩
    rw [b.mpr q] at h2
    exact absurd h2 (by decide)
  · rintro ⟨h1, h2⟩
    have h1 := a.mpr h1
    refine ⟨h1, ?_⟩
    rw [gb_m1 i (l h1)]
    have : y.toBitVec.getLsbD i = false := ts_nt (fun z => h2 (b.mp z))
    rw [this]; decide
theorem gb_tp : ∀ q, q < 64 → ((1 : Int64) <<< ((nI q).toInt64 &&& 63)).toBitVec = BitVec.twoPow 64 q := by decide +kernel
theorem gb_S_bit {q : Nat} (hq : q < 64) : gb_S ((1 : Int64) <<< ((nI q).toInt64 &&& 63)) (fun i => i = q) := fun i => by
  unfold gb_tb
  rw [gb_tp q hq, BitVec.getLsbD_twoPow]
  constructor
  · intro h
    have := (Bool.and_eq_true _ _ ▸ h).2
    exact (of_decide_eq_true this).symm
  · intro h
    rw [h, decide_eq_true hq, decide_eq_true rfl]; rfl
theorem gb_shr_bv (x : Int64) {k : Nat} (hk : k < 64) : ((x.toUInt64 >>> ((nI k).toInt64.toUInt64 &&& Int64.toUInt64 63)).toInt64).toBitVec = x.toBitVec >>> k := by
  rw [wb_cu k hk]
  apply BitVec.eq_of_toNat_eq
  show (x.toUInt64 >>> UInt64.ofNat k).toNat = _
  have h1 : (UInt64.ofNat k).toNat = k := by
    show (BitVec.ofNat 64 k).toNat = k
    rw [BitVec.toNat_ofNat, Nat.mod_eq_of_lt (by omega)]
  rw [UInt64.toNat_shiftRight, h1, Nat.mod_eq_of_lt hk, BitVec.toNat_ushiftRight]
  rfl
theorem gb_shl_bv (x : Int64) {k : Nat} (hk : k < 64) : (x <<< ((nI k).toInt64 &&& 63)).toBitVec = x.toBitVec <<< k := by
  rw [wb_c k hk, Int64.toBitVec_shiftLeft, wb_tb, wb_sm k hk, BitVec.shiftLeft_eq', BitVec.toNat_ofNat, Nat.mod_eq_of_lt (show k < 2 ^ 64 by omega)]
theorem gb_S_shr {x : Int64} {P : Nat → Prop} (hx : gb_S x P) {k : Nat} (hk : k < 64) :
    gb_S ((x.toUInt64 >>> ((nI k).toInt64.toUInt64 &&& Int64.toUInt64 63)).toInt64) (fun i => P (k + i)) := fun i => by
  have a := hx (k + i)
  unfold gb_tb at a ⊢
  rw [gb_shr_bv x hk, BitVec.getLsbD_ushiftRight]
  exact a
theorem gb_S_shl {x : Int64} {P : Nat → Prop} (hx : gb_S x P) {k : Nat} (hk : k < 64) :
    gb_S (x <<< ((nI k).toInt64 &&& 63)) (fun i => i < 64 ∧ k ≤ i ∧ P (i - k)) := fun i => by
  have a := hx (i - k)
  unfold gb_tb at a ⊢
  rw [gb_shl_bv x hk, BitVec.getLsbD_shiftLeft, Bool.and_eq_true, Bool.and_eq_true, a, Bool.not_eq_true', decide_eq_true_eq, decide_eq_false_iff_not, Nat.not_lt, and_assoc]
theorem gb_and1 (y : Int64) : (y &&& 1) = 1 ↔ y.toBitVec.getLsbD 0 = true := by
  rw [← Int64.toBitVec_inj, Int64.toBitVec_and]
  show y.toBitVec &&& 1#64 = 1#64 ↔ _
  constructor
  · intro h
    have t := congrArg (fun x => x.getLsbD 0) h
    simpa using t
  · intro h
    apply BitVec.eq_of_getLsbD_eq
    intro i hi
    cases i with
    | zero => rw [BitVec.getLsbD_and, h]; rfl
    | succ i => simp
theorem gb_S_test {x : Int64} {P : Nat → Prop} (hx : gb_S x P) {k : Nat} (hk : k < 64) :
    (((x.toUInt64 >>> ((nI k).toInt64.toUInt64 &&& Int64.toUInt64 63)).toInt64) &&& 1) = 1 ↔ P k := by
  rw [gb_and1, gb_shr_bv x hk, BitVec.getLsbD_ushiftRight]
  exact hx k
/-- the least point -/
theorem gb_S_low {x : Int64} {P : Nat → Prop} (hx : gb_S x P) {q : Nat} (hq : P q) (hl : ∀ i, P i → q ≤ i) : gb_S (x &&& (-x)) (fun i => i = q) := fun i => by
  have a := fun i => hx i
  unfold gb_tb at a ⊢
  rw [Int64.toBitVec_and, BitVec.getLsbD_and, Bool.and_eq_true, Int64.toBitVec_neg, BitVec.getLsbD_neg, a i]
  constructor
  · rintro ⟨hp, h⟩
    have hb := (a i).mpr hp
    have hi : i < 64 := gb_tb_lt (x := x) hb
    rcases Nat.lt_or_ge q i with z | z
    · have : ∃ j, j < i ∧ x.toBitVec.getLsbD j = true := ⟨q, z, (a q).mpr hq⟩
      rw [hb, decide_eq_true hi, decide_eq_true this] at h
      exact absurd h (by decide)
    · have := hl i hp; omega
  · intro e
    subst e
    have hb := (a i).mpr hq
    refine ⟨hq, ?_⟩
    have : ¬ ∃ j, j < i ∧ x.toBitVec.getLsbD j = true := fun ⟨j, hj, hp⟩ => by have := hl j ((a j).mp hp); omega
    rw [hb, decide_eq_false this, Bool.and_false]; rfl
/-- x and x - 1 share no bit: at most one point -/
theorem gb_S_single {x : Int64} {P : Nat → Prop} (hx : gb_S x P) : (x &&& (x - 1)) = 0 ↔ ∀ i j, P i → P j → i = j := by
  have a := fun i => hx i
  have key : gb_S (x &&& (x - 1)) (fun i => P i ∧ ∃ j, j < i ∧ P j) := fun i => by
    unfold gb_tb at a ⊢
    rw [Int64.toBitVec_and, BitVec.getLsbD_and, Bool.and_eq_true, a i, Int64.toBitVec_sub]
    show P i ∧ (x.toBitVec - 1#64).getLsbD i = true ↔ _
    rw [← BitVec.not_neg, BitVec.getLsbD_not, BitVec.getLsbD_neg]
    constructor
    · rintro ⟨hp, h⟩
      have hb := (a i).mpr hp
      have hi : i < 64 := gb_tb_lt (x := x) hb
      refine ⟨hp, ?_⟩
      rcases Classical.em (∃ j, j < i ∧ x.toBitVec.getLsbD j = true) with ⟨j, hj, hpj⟩ | z
      · exact ⟨j, hj, (a j).mp hpj⟩
      · rw [hb, decide_eq_true hi, decide_eq_false z] at h
        exact absurd h (by decide)
    · rintro ⟨hp, j, hj, hpj⟩
      have hb := (a i).mpr hp
      have hi : i < 64 := gb_tb_lt (x := x) hb
      have z : ∃ j, j < i ∧ x.toBitVec.getLsbD j = true := ⟨j, hj, (a j).mpr hpj⟩
      refine ⟨hp, ?_⟩
      rw [hb, decide_eq_true hi, decide_eq_true z]; rfl
  rw [gb_S_eq0 key]
  constructor
  · intro h i j hi hj
    rcases Nat.lt_trichotomy i j with z | z | z
    · exact (h j ⟨hj, i, z, hi⟩).elim
    · exact z
    · exact (h i ⟨hi, j, z, hj⟩).elim
  · rintro h i ⟨hi, j, hj, hpj⟩
    have := h i j hi hpj
    omega
/-- the masks -/
def gb_M (fA fF fL : Int64) : Prop := gb_S fA (fun i => i < 49) ∧ gb_S fF (fun i => i < 49 ∧ i % 7 ≠ 0) ∧ gb_S fL (fun i => i < 49 ∧ i % 7 ≠ 6)
theorem gb_S_around {fA fF fL x : Int64} {P : Nat → Prop} (hM : gb_M fA fF fL) (hx : gb_S x P) (hP : ∀ i, P i → i < 49) :
    gb_S ((((((x.toUInt64 >>> ((7 : Int32).toInt64.toUInt64 &&& Int64.toUInt64 63)).toInt64) ||| (x <<< ((7 : Int32).toInt64 &&& 63))) ||| (((x &&& fF).toUInt64 >>> ((1 : Int32).toInt64.toUInt64 &&& Int64.toUInt64 63)).toInt64)) ||| ((x &&& fL) <<< ((1 : Int32).toInt64 &&& 63))) &&& fA) (gb_N P) := by
  obtain ⟨hA, hF, hL⟩ := hM
  have h1 := gb_S_shr hx (k := 7) (by decide)
  have h2 := gb_S_shl hx (k := 7) (by decide)
  have h3 := gb_S_shr (gb_S_and hx hF) (k := 1) (by decide)
  have h4 := gb_S_shl (gb_S_and hx hL) (k := 1) (by decide)
  refine gb_S_ext (gb_S_and (gb_S_or (gb_S_or (gb_S_or h1 h2) h3) h4) hA) (fun i => ?_)
  unfold gb_N gb_adj
  constructor
  · rintro ⟨((h | ⟨_, h7, h⟩) | ⟨h, _, hm⟩) | ⟨_, h7, h, _, hm⟩, hi⟩
    · exact ⟨hi, 7 + i, h, by omega⟩
    · exact ⟨hi, i - 7, h, by omega⟩
    · exact ⟨hi, 1 + i, h, by omega⟩
    · exact ⟨hi, i - 1, h, by omega⟩
  · rintro ⟨hi, j, hj, e | e | ⟨e, m⟩ | ⟨e, m⟩⟩
    · refine ⟨Or.inl (Or.inl (Or.inl ?_)), hi⟩
      rw [show 7 + i = j by omega]; exact hj
    · refine ⟨Or.inl (Or.inl (Or.inr ⟨by omega, by omega, ?_⟩)), hi⟩
      rw [show i - 7 = j by omega]; exact hj
    · have := hP j hj
      refine ⟨Or.inl (Or.inr ?_), hi⟩
      rw [show 1 + i = j by omega]; exact ⟨hj, this, m⟩
    · have := hP j hj
      refine ⟨Or.inr ⟨by omega, by omega, ?_⟩, hi⟩
      rw [show i - 1 = j by omega]; exact ⟨hj, this, by omega⟩
end
section
/-! X: around, grown, sizeOf, small ones -/
/-- both sides hold one board -/
def gb_BR (fB fW : Int64) (b : Nat → Int32) : Prop := gb_S fB (gb_C b 0) ∧ gb_S fW (gb_C b 1) ∧ ∀ i, i < 49 → b i = 0 ∨ b i = 1 ∨ b i = 2
theorem gb_BR_ext {fB fW : Int64} {b b' : Nat → Int32} (h : gb_BR fB fW b) (e : ∀ i, i < 49 → b' i = b i) : gb_BR fB fW b' := by
  unfold gb_BR at h ⊢
  rw [gb_C_ext e, gb_C_ext e]
  exact ⟨h.1, h.2.1, fun i hi => by rw [e i hi]; exact h.2.2 i hi⟩
theorem gb_n01 : ¬ (0 : Int32) = 1 := by decide
theorem gb_n02 : ¬ (0 : Int32) = 2 := by decide
theorem gb_n12 : ¬ (1 : Int32) = 2 := by decide
theorem gb_n10 : ¬ (1 : Int32) = 0 := by decide
theorem gb_n20 : ¬ (2 : Int32) = 0 := by decide
theorem gb_n21 : ¬ (2 : Int32) = 1 := by decide
theorem gb_BR_eq {fB fW gB gW : Int64} {b b' : Nat → Int32} (h : gb_BR fB fW b) (h' : gb_BR gB gW b') : (fB = gB ∧ fW = gW) ↔ ∀ i, i < 49 → b i = b' i := by
  rw [gb_S_eq h.1 h'.1, gb_S_eq h.2.1 h'.2.1]
  constructor
  · rintro ⟨e0, e1⟩ i hi
    rcases h.2.2 i hi with z | z | z
    · rw [z, ((e0 i).mp ⟨hi, z⟩).2]
    · rw [z, ((e1 i).mp ⟨hi, z⟩).2]
    · rcases h'.2.2 i hi with y | y | y
      · exact absurd (z.symm.trans ((e0 i).mpr ⟨hi, y⟩).2) gb_n20
      · exact absurd (z.symm.trans ((e1 i).mpr ⟨hi, y⟩).2) gb_n21
      · rw [z, y]
  · intro e
    exact ⟨fun i => by rw [gb_C_ext e], fun i => by rw [gb_C_ext e]⟩
theorem gb_BR_empty {fA fB fW : Int64} {b : Nat → Int32} (hA : gb_S fA (fun i => i < 49)) (h : gb_BR fB fW b) : gb_S (fA &&& ((fB ||| fW) ^^^ (-1))) (gb_C b 2) := by
  refine gb_S_ext (gb_S_diff hA (gb_S_or h.1 h.2.1)) (fun i => ?_)
  constructor
  · rintro ⟨hi, n⟩
    refine ⟨hi, ?_⟩
    rcases h.2.2 i hi with z | z | z
    · exact (n (Or.inl ⟨hi, z⟩)).elim
    · exact (n (Or.inr ⟨hi, z⟩)).elim
    · exact z
  · rintro ⟨hi, z⟩
    refine ⟨hi, fun n => ?_⟩
    rcases n with n | n
    · exact gb_n20 (z.symm.trans n.2)
    · exact gb_n21 (z.symm.trans n.2)
section
variable {fA fF fL fB fW : Int64} {fc fx fy : Int32} {t1 t2 : Int64} {oB oW : Nat → Int64} {oT : Nat → Int32}
theorem gb_x_around {post : Int64 → Prop} {x : Int64} {P : Nat → Prop} (hM : gb_M fA fF fL) (hx : gb_S x P) (hP : ∀ i, P i → i < 49) (h : ∀ r, gb_S r (gb_N P) → post r) :
    wpX_around post (fA, fF, fL, fB, fW, fc, fx, fy, t1, t2, oB, oW, oT) x := by
  unfold wpX_around
  intro x3 e3 x5 e5 x7 e7 x9 e9
  subst e3 e5 e7 e9
  exact h _ (gb_S_around hM hx hP)
theorem gb_x_grown_l {post : Int64 → Prop} {w : Int64} {W P : Nat → Prop} (hM : gb_M fA fF fL) (hw : gb_S w W) (hW : ∀ i, W i → i < 49) (h : ∀ r, gb_S r (gb_R W P) → post r) :
    ∀ (n k : Nat) (x : Int64) (Q : Nat → Prop) (m : Int32), 51 ≤ n + k → k ≤ 50 → gb_S x Q → (∀ i, P i → W i → Q i) → (∀ i, Q i → gb_R W P i) →
      ((m = 0 ∧ ∀ i j, Q i → gb_adj i j → W j → Q j) ∨ (m = 1 ∧ k ≤ gb_cn Q 49)) →
      wX_grown_11 post w fA fF fL fB fW fc fx fy t1 t2 oB oW oT n x m (nI k) := by
  intro n
  induction n with
  | zero => intro k x Q m h1 h2; omega
  | succ n ih =>
    intro k x Q m hn hk hx hb hR hm
    rcases hm with ⟨rfl, hc⟩ | ⟨rfl, hcnt⟩
    · have hp : post x := h x (gb_S_ext hx (fun i => ⟨hR i, fun r => r Q hb hc⟩))
      exact br_c (fun _ => hp) (fun _ => br_t rfl hp)
    · have hk : k < 50 := by
        have := gb_cn_le Q 49; omega
      refine br_f (nI_ge (b := 50) hk (by decide)) (br_f gb_n10 ?_)
      refine gb_x_around hM hx (fun i q => hW i (gb_R_in (hR i q))) (fun r hr => ?_)
      have hx' := gb_S_or hx (gb_S_and hr hw)
      have hR' : ∀ i, (Q i ∨ (gb_N Q i ∧ W i)) → gb_R W P i := by
        rintro i (q | ⟨⟨_, j, hj, a⟩, w⟩)
        · exact hR i q
        · exact gb_R_step (hR j hj) a w
      intro y ey
      subst ey
      refine br_c (fun e => ?_) (fun ne => ?_)
      · have ee := (gb_S_eq hx' hx).mp e
        refine nm_r (nI_1 k) (ih (k + 1) _ _ 0 (by omega) (by omega) hx' (fun i p w => Or.inl (hb i p w)) hR' (Or.inl ⟨rfl, ?_⟩))
        intro i j qi a wj
        exact Or.inr ⟨⟨hW j wj, i, (ee i).mp qi, a⟩, wj⟩
      · refine nm_r (nI_1 k) (ih (k + 1) _ _ 1 (by omega) (by omega) hx' (fun i p w => Or.inl (hb i p w)) hR' (Or.inr ⟨rfl, ?_⟩))
        rcases Classical.em (∃ i, (Q i ∨ (gb_N Q i ∧ W i)) ∧ ¬ Q i) with ⟨i, qi, nq⟩ | z
        · have := gb_cn_lt (P := Q) (Q := fun i => Q i ∨ (gb_N Q i ∧ W i)) (N := 49) (fun k _ q => Or.inl q) (hW i (gb_R_in (hR' i qi))) nq qi
          omega
        · refine (ne ((gb_S_eq hx' hx).mpr (fun i => ⟨fun qi => ?_, Or.inl⟩))).elim
          rcases Classical.em (Q i) with q | q
          · exact q
          · exact (z ⟨i, qi, q⟩).elim
theorem gb_x_grown {post : Int64 → Prop} {x w : Int64} {W P : Nat → Prop} (hM : gb_M fA fF fL) (hx : gb_S x P) (hw : gb_S w W) (hW : ∀ i, W i → i < 49) (h : ∀ r, gb_S r (gb_R W P) → post r) :
    wpX_grown post (fA, fF, fL, fB, fW, fc, fx, fy, t1, t2, oB, oW, oT) x w := by
  unfold wpX_grown
  intro y ey
  subst ey
  exact ⟨51, gb_x_grown_l (P := P) hM hw hW h 51 0 _ _ 1 (by omega) (by omega) (gb_S_and hx hw) (fun i p w => ⟨p, w⟩) (fun i q => gb_R_base q.1 q.2) (Or.inr ⟨rfl, by omega⟩)⟩
theorem gb_x_sizeOf_l {post : Int32 → Prop} {x : Int64} {P : Nat → Prop} (hx : gb_S x P) (h : post (nI (gb_cn P 49))) :
    ∀ (n k : Nat), 50 ≤ n + k → k ≤ 49 → wX_sizeOf_5 post x fA fF fL fB fW fc fx fy t1 t2 oB oW oT n (nI (gb_cn P k)) (nI k) := by
  intro n
  induction n with
  | zero => intro k h1 h2; omega
  | succ n ih =>
    intro k hn hk
    rcases Nat.lt_or_ge k 49 with z | z
    · refine br_f (nI_ge (b := 49) z (by decide)) (br_c (fun e => ?_) (fun ne => ?_))
      · have hp : P k := (gb_S_test hx (by omega)).mp e
        have := ih (k + 1) (by omega) (by omega)
        rw [gb_cn_t hp] at this
        exact nm_r (nI_1 _) (nm_r (nI_1 k) this)
      · have hp : ¬ P k := fun p => ne ((gb_S_test hx (by omega)).mpr p)
        have := ih (k + 1) (by omega) (by omega)
        rw [gb_cn_f hp] at this
        exact nm_r (nI_1 k) this
    · obtain rfl : k = 49 := by omega
      exact br_t (nI_le (a := 49) (b := 49) (by decide) (by decide)) h
theorem gb_x_sizeOf {post : Int32 → Prop} {x : Int64} {P : Nat → Prop} (hx : gb_S x P) (h : post (nI (gb_cn P 49))) :
    wpX_sizeOf post (fA, fF, fL, fB, fW, fc, fx, fy, t1, t2, oB, oW, oT) x := by
  unfold wpX_sizeOf
  exact ⟨50, gb_x_sizeOf_l hx h 50 0 (by omega) (by omega)⟩
theorem gb_x_stones {post : Int64 → Prop} {b : Nat → Int32} {p : Int32} (hb : gb_BR fB fW b) (hp : p = 0 ∨ p = 1) (h : ∀ r, gb_S r (gb_C b p) → post r) :
    wpX_stones post (fA, fF, fL, fB, fW, fc, fx, fy, t1, t2, oB, oW, oT) p := by
  unfold wpX_stones
  rcases hp with rfl | rfl
  · exact br_t rfl (h _ hb.1)
  · exact br_f gb_n10 (h _ hb.2.1)
theorem gb_x_empty {post : Int64 → Prop} {b : Nat → Int32} (hM : gb_M fA fF fL) (hb : gb_BR fB fW b) (h : ∀ r, gb_S r (gb_C b 2) → post r) :
    wpX_empty post (fA, fF, fL, fB, fW, fc, fx, fy, t1, t2, oB, oW, oT) := by
  unfold wpX_empty
  exact h _ (gb_BR_empty hM.1 hb)
theorem gb_x_point {post : Int32 → Prop} {q : Nat} (hq : q < 49) (h : post 0) : wpX_badPoint post (fA, fF, fL, fB, fW, fc, fx, fy, t1, t2, oB, oW, oT) (nI q) := by
  unfold wpX_badPoint
  exact br_f (nI_pos (by omega)) (br_t (nI_lt (b := 49) hq (by decide)) h)
theorem gb_x_nopoint {post : Int32 → Prop} {q : Int32} (hq : q < 0 ∨ nI 49 ≤ q) (h : post 1) : wpX_badPoint post (fA, fF, fL, fB, fW, fc, fx, fy, t1, t2, oB, oW, oT) q := by
  unfold wpX_badPoint
  rcases hq with z | z
  · exact br_t z h
  · exact br_c (fun _ => h) (fun _ => br_f (Int32.not_lt.mpr z) h)
theorem gb_x_player {post : Int32 → Prop} {p : Int32} (hp : p = 0 ∨ p = 1) (h : post 0) : wpX_badPlayer post (fA, fF, fL, fB, fW, fc, fx, fy, t1, t2, oB, oW, oT) p := by
  unfold wpX_badPlayer
  rcases hp with rfl | rfl
  · exact br_f (by decide) (br_t (by decide) h)
  · exact br_f (by decide) (br_t (by decide) h)
theorem gb_x_noplayer {post : Int32 → Prop} {p : Int32} (hp : ¬ (p = 0 ∨ p = 1)) (h : post 1) : wpX_badPlayer post (fA, fF, fL, fB, fW, fc, fx, fy, t1, t2, oB, oW, oT) p := by
  unfold wpX_badPlayer
  refine br_c (fun _ => h) (fun n => br_c (fun l => ?_) (fun _ => h))
  refine (hp ?_).elim
  obtain ⟨j, hj, rfl⟩ := nI_of2 (M := 1) (n := 1) (by decide) n l
  rcases j with _ | _ | j
  · exact Or.inl rfl
  · exact Or.inr rfl
  · omega
end
end
section
/-! a move under trial, as it is -/
theorem gb_opp {p : Int32} (hp : p = 0 ∨ p = 1) : ¬ p = 1 - p ∧ ¬ p = 2 ∧ ¬ 1 - p = 2 ∧ (1 - p = 0 ∨ 1 - p = 1) := by
  rcases hp with rfl | rfl <;> decide
theorem gb_three {p x : Int32} (hp : p = 0 ∨ p = 1) (hx : x = 0 ∨ x = 1 ∨ x = 2) : x = p ∨ x = 1 - p ∨ x = 2 := by
  rcases hp with rfl | rfl <;> rcases hx with rfl | rfl | rfl <;> decide
/-- the stones of the other player that have no liberty when p has put a stone at q -/
def gb_D (b : Nat → Int32) (p : Int32) (q : Nat) (i : Nat) : Prop :=
  gb_C (upd b q p) (1 - p) i ∧ ¬ ∃ o s, gb_C (upd b q p) 2 o ∧ gb_adj o s ∧ gb_R1 (gb_C (upd b q p) (1 - p)) i s
/-- the board after it -/
noncomputable def gb_b2 (b : Nat → Int32) (p : Int32) (q : Nat) (i : Nat) : Int32 := @ite Int32 (gb_D b p q i) (Classical.propDecidable _) 2 (upd b q p i)
/-- the stone's group has a liberty -/
def gb_free (b : Nat → Int32) (p : Int32) (q : Nat) : Prop :=
  ∃ o s, gb_C (gb_b2 b p q) 2 o ∧ gb_adj o s ∧ gb_R1 (gb_C (gb_b2 b p q) p) q s
/-- as before the last move -/
def gb_ko (c : Nat) (H : Nat → Nat → Int32) (b : Nat → Int32) : Prop := 0 < c ∧ ∀ i, i < 49 → b i = H (c - 1) i
/-- a stone -/
def gb_st (b : Nat → Int32) (i : Nat) : Prop := ¬ b i = 2
section
variable {b : Nat → Int32} {p : Int32} {q : Nat}
theorem gb_b1_q : upd b q p q = p := if_pos rfl
theorem gb_b1_n {i : Nat} (h : i ≠ q) : upd b q p i = b i := if_neg h
theorem gb_b1C_p (hq : q < 49) (i : Nat) : gb_C (upd b q p) p i ↔ gb_C b p i ∨ i = q := by
  unfold gb_C
  rcases Nat.decEq i q with h | h
  · rw [gb_b1_n h]; exact ⟨Or.inl, fun z => z.elim id (fun e => (h e).elim)⟩
  · subst h; rw [gb_b1_q]; exact ⟨fun _ => Or.inr rfl, fun _ => ⟨hq, rfl⟩⟩
theorem gb_b1C_o {c : Int32} (hc : ¬ p = c) (hb : ¬ b q = c) (i : Nat) : gb_C (upd b q p) c i ↔ gb_C b c i := by
  unfold gb_C
  rcases Nat.decEq i q with h | h
  · rw [gb_b1_n h]
  · subst h; rw [gb_b1_q]; exact ⟨fun z => (hc z.2).elim, fun z => (hb z.2).elim⟩
theorem gb_b1C_del {c : Int32} (hc : ¬ p = c) (i : Nat) : gb_C (upd b q p) c i ↔ gb_C b c i ∧ ¬ i = q := by
  unfold gb_C
  rcases Nat.decEq i q with h | h
  · rw [gb_b1_n h]; exact ⟨fun z => ⟨z, h⟩, fun z => z.1⟩
  · subst h; rw [gb_b1_q]; exact ⟨fun z => (hc z.2).elim, fun z => (z.2 rfl).elim⟩
theorem gb_b1_in (hp : p = 0 ∨ p = 1 ∨ p = 2) (hb : ∀ i, i < 49 → b i = 0 ∨ b i = 1 ∨ b i = 2) : ∀ i, i < 49 → upd b q p i = 0 ∨ upd b q p i = 1 ∨ upd b q p i = 2 := by
  intro i hi
  rcases Nat.decEq i q with h | h
  · rw [gb_b1_n h]; exact hb i hi
  · subst h; rw [gb_b1_q]; exact hp
theorem gb_b2_d {i : Nat} (h : gb_D b p q i) : gb_b2 b p q i = 2 := by unfold gb_b2; rw [if_pos h]
theorem gb_b2_n {i : Nat} (h : ¬ gb_D b p q i) : gb_b2 b p q i = upd b q p i := by unfold gb_b2; rw [if_neg h]
theorem gb_D_q (hp : p = 0 ∨ p = 1) : ¬ gb_D b p q q := fun h => (gb_opp hp).1 ((gb_b1_q (b := b)).symm.trans h.1.2)
theorem gb_b2_q (hp : p = 0 ∨ p = 1) : gb_b2 b p q q = p := (gb_b2_n (gb_D_q hp)).trans gb_b1_q
theorem gb_b2C_p (hp : p = 0 ∨ p = 1) (i : Nat) : gb_C (gb_b2 b p q) p i ↔ gb_C (upd b q p) p i := by
  have o := gb_opp hp
  unfold gb_C
  rcases Classical.em (gb_D b p q i) with h | h
  · rw [gb_b2_d h, h.1.2]
    exact ⟨fun z => (o.2.1 z.2.symm).elim, fun z => (o.1 z.2.symm).elim⟩
  · rw [gb_b2_n h]
theorem gb_b2C_e (hp : p = 0 ∨ p = 1) (i : Nat) : gb_C (gb_b2 b p q) (1 - p) i ↔ gb_C (upd b q p) (1 - p) i ∧ ¬ gb_D b p q i := by
  have o := gb_opp hp
  rcases Classical.em (gb_D b p q i) with h | h
  · refine ⟨fun z => ?_, fun z => (z.2 h).elim⟩
    have := z.2
    rw [gb_b2_d h] at this
    exact (o.2.2.1 this.symm).elim
  · unfold gb_C
    rw [gb_b2_n h]
    exact ⟨fun z => ⟨z, h⟩, fun z => z.1⟩
theorem gb_b2C_2 (i : Nat) : gb_C (gb_b2 b p q) 2 i ↔ gb_C (upd b q p) 2 i ∨ gb_D b p q i := by
  rcases Classical.em (gb_D b p q i) with h | h
  · exact ⟨fun _ => Or.inr h, fun _ => ⟨h.1.1, gb_b2_d h⟩⟩
  · unfold gb_C
    rw [gb_b2_n h]
    exact ⟨Or.inl, fun z => z.elim id (fun z => (h z).elim)⟩
theorem gb_b2_in (hp : p = 0 ∨ p = 1) (hb : ∀ i, i < 49 → b i = 0 ∨ b i = 1 ∨ b i = 2) : ∀ i, i < 49 → gb_b2 b p q i = 0 ∨ gb_b2 b p q i = 1 ∨ gb_b2 b p q i = 2 := by
  intro i hi
  rcases Classical.em (gb_D b p q i) with h | h
  · rw [gb_b2_d h]; exact Or.inr (Or.inr rfl)
  · rw [gb_b2_n h]; exact gb_b1_in (hp.elim Or.inl (fun z => Or.inr (Or.inl z))) hb i hi
theorem gb_b1C_2 (hp : p = 0 ∨ p = 1) (hb : ∀ i, i < 49 → b i = 0 ∨ b i = 1 ∨ b i = 2) (i : Nat) :
    (i < 49 ∧ ¬ (gb_C (upd b q p) p i ∨ gb_C (upd b q p) (1 - p) i)) ↔ gb_C (upd b q p) 2 i := by
  have o := gb_opp hp
  constructor
  · rintro ⟨hi, n⟩
    refine ⟨hi, ?_⟩
    rcases gb_three hp (gb_b1_in (p := p) (q := q) (hp.elim Or.inl (fun z => Or.inr (Or.inl z))) hb i hi) with z | z | z
    · exact (n (Or.inl ⟨hi, z⟩)).elim
    · exact (n (Or.inr ⟨hi, z⟩)).elim
    · exact z
  · rintro ⟨hi, z⟩
    refine ⟨hi, fun n => ?_⟩
    rcases n with n | n
    · exact o.2.1 (n.2.symm.trans z)
    · exact o.2.2.1 (n.2.symm.trans z)
/-- a move adds one stone; the captured ones are off -/
theorem gb_st_move (hp : p = 0 ∨ p = 1) (hq : q < 49) (hbq : b q = 2) : gb_cn (gb_st (gb_b2 b p q)) 49 + gb_cn (gb_D b p q) 49 = gb_cn (gb_st b) 49 + 1 := by
  have o := gb_opp hp
  have e1 : gb_cn (fun i => gb_st b i ∨ i = q) 49 = gb_cn (gb_st b) 49 + gb_cn (fun i => i = q) 49 := gb_cn_or (fun k _ s e => s (by rw [e]; exact hbq))
  have e2 : gb_cn (fun i => gb_st (gb_b2 b p q) i ∨ gb_D b p q i) 49 = gb_cn (gb_st (gb_b2 b p q)) 49 + gb_cn (gb_D b p q) 49 := gb_cn_or (fun k _ s d => s (gb_b2_d d))
  rw [gb_cn_one q hq] at e1
  rw [← e1, ← e2]
  apply gb_cn_eq
  intro k hk
  unfold gb_st
  rcases Classical.em (gb_D b p q k) with h | h
  · refine ⟨fun _ => ?_, fun _ => Or.inr h⟩
    have hk1 := h.1.2
    rcases Nat.decEq k q with z | z
    · rw [gb_b1_n z] at hk1
      exact Or.inl (fun e => o.2.2.1 (hk1.symm.trans e))
    · exact Or.inr z
  · rw [gb_b2_n h]
    rcases Nat.decEq k q with z | z
    · rw [gb_b1_n z]
      exact ⟨fun y => y.elim Or.inl (fun y => (h y).elim), fun y => y.elim Or.inl (fun y => (z y).elim)⟩
    · subst z
      rw [gb_b1_q]
      exact ⟨fun _ => Or.inr rfl, fun _ => Or.inl o.2.1⟩
theorem gb_D_lt {i : Nat} (h : gb_D b p q i) : i < 49 := h.1.1
end
/-- the same at boards alike -/
theorem gb_upd_ext {b b' : Nat → Int32} (h : ∀ i, i < 49 → b' i = b i) (p : Int32) (q : Nat) : ∀ i, i < 49 → upd b' q p i = upd b q p i := by
  intro i hi
  rcases Nat.decEq i q with z | z
  · rw [gb_b1_n z, gb_b1_n z]; exact h i hi
  · subst z; rw [gb_b1_q, gb_b1_q]
theorem gb_st_ext {b b' : Nat → Int32} (h : ∀ i, i < 49 → b' i = b i) : gb_cn (gb_st b') 49 = gb_cn (gb_st b) 49 :=
  gb_cn_eq (fun k hk => by unfold gb_st; rw [h k hk])
end
section
/-! X: dead, attempt, store -/
section
variable {fA fF fL fB fW : Int64} {fc fx fy : Int32} {t1 t2 : Int64} {oB oW : Nat → Int64} {oT : Nat → Int32}
theorem gb_x_dead {post : Int64 → Prop} {x o : Int64} {P O : Nat → Prop} (hM : gb_M fA fF fL) (hx : gb_S x P) (hP : ∀ i, P i → i < 49) (ho : gb_S o O) (hO : ∀ i, O i → i < 49)
    (h : ∀ r, gb_S r (fun i => P i ∧ ¬ ∃ o s, O o ∧ gb_adj o s ∧ gb_R1 P i s) → post r) :
    wpX_dead post (fA, fF, fL, fB, fW, fc, fx, fy, t1, t2, oB, oW, oT) x o := by
  unfold wpX_dead
  refine gb_x_around hM ho hO (fun r hr => ?_)
  intro y ey
  subst ey
  refine gb_x_grown hM (gb_S_and hx hr) hx hP (fun g hg => ?_)
  refine h _ (gb_S_ext (gb_S_diff hx hg) (fun i => ?_))
  rw [gb_R_beside hP]
  exact ⟨fun z => ⟨z.1, fun e => z.2 ⟨z.1, e⟩⟩, fun z => ⟨z.1, fun e => z.2 e.2⟩⟩
theorem gb_x_a207 {post : Int32 → SX → Prop} {d : Int64} {D : Nat → Prop} (hD : gb_S d D) (h : post (nI (gb_cn D 49)) (fA, fF, fL, fB, fW, fc, fx, fy, t1, t2, oB, oW, oT)) :
    wX_attempt_207 post d fA fF fL fB fW fc fx fy t1 t2 oB oW oT := by
  unfold wX_attempt_207
  exact gb_x_sizeOf hD h
theorem gb_x_a156 {post : Int32 → SX → Prop} {d z : Int64} {D : Nat → Prop} {c : Nat} {H : Nat → Nat → Int32} {b : Nat → Int32} (hc : c ≤ 40)
    (hH : ∀ i, i < c → gb_BR (oB i) (oW i) (H i)) (hb : gb_BR t1 z b) (hD : gb_S d D)
    (hK : gb_ko c H b → post (-6) (fA, fF, fL, fB, fW, nI c, fx, fy, t1, z, oB, oW, oT))
    (hN : ¬ gb_ko c H b → post (nI (gb_cn D 49)) (fA, fF, fL, fB, fW, nI c, fx, fy, t1, z, oB, oW, oT)) :
    wX_attempt_156 post d z fA fF fL fB fW (nI c) fx fy t1 t2 oB oW oT := by
  unfold wX_attempt_156
  cases c with
  | zero => exact br_t (by decide) (gb_x_a207 hD (hN (fun k => absurd k.1 (by decide))))
  | succ c =>
    have hi : vp_in (nI c) 40 := vp_in_nI (by omega) (by decide)
    have hh := hH c (by omega)
    have he := gb_BR_eq hb hh
    refine br_f (nI_nle (by omega) (by omega)) ?_
    rw [nI_pred, nI_clamp (by omega)]
    refine ⟨hi, br_c (fun e1 => ⟨hi, br_c (fun e2 => ?_) (fun e2 => ?_)⟩) (fun e1 => ?_)⟩
    · exact hK ⟨by omega, he.mp ⟨e1, e2⟩⟩
    · exact gb_x_a207 hD (hN (fun k => e2 (he.mpr k.2).2))
    · exact gb_x_a207 hD (hN (fun k => e1 (he.mpr k.2).1))
theorem gb_x_attempt {post : Int32 → SX → Prop} {c : Nat} {H : Nat → Nat → Int32} {b : Nat → Int32} {p : Int32} {q : Nat} (hM : gb_M fA fF fL) (hb : gb_BR fB fW b)
    (hp : p = 0 ∨ p = 1) (hq : q < 49) (hc : c ≤ 40) (hH : ∀ i, i < c → gb_BR (oB i) (oW i) (H i))
    (h2 : ¬ b q = 2 → post (-2) (fA, fF, fL, fB, fW, nI c, fx, fy, t1, t2, oB, oW, oT))
    (hS : b q = 2 → ¬ gb_free b p q → post (-5) (fA, fF, fL, fB, fW, nI c, fx, fy, t1, t2, oB, oW, oT))
    (hK : b q = 2 → gb_free b p q → gb_ko c H (gb_b2 b p q) → ∀ tB tW, post (-6) (fA, fF, fL, fB, fW, nI c, fx, fy, tB, tW, oB, oW, oT))
    (hN : b q = 2 → gb_free b p q → ¬ gb_ko c H (gb_b2 b p q) → ∀ tB tW, gb_BR tB tW (gb_b2 b p q) → post (nI (gb_cn (gb_D b p q) 49)) (fA, fF, fL, fB, fW, nI c, fx, fy, tB, tW, oB, oW, oT)) :
    wpX_attempt post (fA, fF, fL, fB, fW, nI c, fx, fy, t1, t2, oB, oW, oT) p (nI q) := by
  unfold wpX_attempt
  refine gb_x_player hp (br_t rfl ?_)
  refine gb_x_point hq (br_t rfl ?_)
  have hbit := gb_S_bit (q := q) (by omega)
  intro x3 e3
  rw [← e3] at hbit
  have htk : ((fB ||| fW) &&& x3) = 0 ↔ b q = 2 := by
    rw [gb_S_eq0 (gb_S_and (gb_S_or hb.1 hb.2.1) hbit)]
    constructor
    · intro h
      rcases hb.2.2 q hq with z | z | z
      · exact (h q ⟨Or.inl ⟨hq, z⟩, rfl⟩).elim
      · exact (h q ⟨Or.inr ⟨hq, z⟩, rfl⟩).elim
      · exact z
    · rintro h i ⟨z, rfl⟩
      rcases z with z | z
      · exact gb_n20 (h.symm.trans z.2)
      · exact gb_n21 (h.symm.trans z.2)
  refine br_c (fun e => ?_) (fun e => h2 (fun z => e (htk.mpr z)))
  have hbq := htk.mp e
  have o := gb_opp hp
  refine gb_x_stones hb hp (fun m0 hm0 => ?_)
  intro mine em
  have hmine : gb_S mine (gb_C (upd b q p) p) := by
    rw [em]
    exact gb_S_ext (gb_S_or hm0 hbit) (fun i => (gb_b1C_p hq i).symm)
  refine gb_x_stones hb o.2.2.2 (fun th hth => ?_)
  have hth : gb_S th (gb_C (upd b q p) (1 - p)) := gb_S_ext hth (fun i => (gb_b1C_o o.1 (fun z => o.2.2.1 (z.symm.trans hbq)) i).symm)
  intro opn eo
  have hopn : gb_S opn (gb_C (upd b q p) 2) := by
    rw [eo]
    exact gb_S_ext (gb_S_diff hM.1 (gb_S_or hmine hth)) (gb_b1C_2 hp hb.2.2)
  refine gb_x_dead hM hth gb_C_lt hopn gb_C_lt (fun d hd => ?_)
  have hd : gb_S d (gb_D b p q) := hd
  intro th2 et2
  have hth2 : gb_S th2 (gb_C (gb_b2 b p q) (1 - p)) := by
    rw [et2]
    exact gb_S_ext (gb_S_diff hth hd) (fun i => (gb_b2C_e hp i).symm)
  intro op2 eo2
  have hop2 : gb_S op2 (gb_C (gb_b2 b p q) 2) := by
    rw [eo2]
    exact gb_S_ext (gb_S_or hopn hd) (fun i => (gb_b2C_2 i).symm)
  have hmine : gb_S mine (gb_C (gb_b2 b p q) p) := gb_S_ext hmine (fun i => (gb_b2C_p hp i).symm)
  refine gb_x_grown hM hbit hmine gb_C_lt (fun g hg => ?_)
  refine gb_x_around hM hg (fun i z => gb_C_lt i (gb_R_in z)) (fun r hr => ?_)
  have hfr : (r &&& op2) = 0 ↔ ¬ gb_free b p q := by
    rw [gb_S_eq0 (gb_S_and hr hop2)]
    constructor
    · rintro h ⟨o, s, ho, a, hs⟩
      exact h o ⟨⟨ho.1, s, hs, gb_adj_sym a⟩, ho⟩
    · rintro h i ⟨⟨_, s, hs, a⟩, ho⟩
      exact h ⟨i, s, ho, gb_adj_sym a, hs⟩
  refine br_c (fun e => hS hbq (hfr.mp e)) (fun e => ?_)
  have hf : gb_free b p q := Classical.byContradiction (fun z => e (hfr.mpr z))
  have hin := gb_b2_in (q := q) hp hb.2.2
  rcases hp with rfl | rfl
  · refine br_t rfl ?_
    unfold wX_attempt_141
    refine br_t rfl ?_
    exact gb_x_a156 hc hH (b := gb_b2 b 0 q) ⟨hmine, hth2, hin⟩ hd (fun k => hK hbq hf k _ _) (fun k => hN hbq hf k _ _ ⟨hmine, hth2, hin⟩)
  · refine br_f gb_n10 ?_
    unfold wX_attempt_141
    refine br_f gb_n10 ?_
    exact gb_x_a156 hc hH (b := gb_b2 b 1 q) ⟨hth2, hmine, hin⟩ hd (fun k => hK hbq hf k _ _) (fun k => hN hbq hf k _ _ ⟨hth2, hmine, hin⟩)
theorem gb_x_attempt_bad {post : Int32 → SX → Prop} {p q : Int32} (h : ¬ (p = 0 ∨ p = 1) ∨ (q < 0 ∨ nI 49 ≤ q)) (hp : post (-1) (fA, fF, fL, fB, fW, fc, fx, fy, t1, t2, oB, oW, oT)) :
    wpX_attempt post (fA, fF, fL, fB, fW, fc, fx, fy, t1, t2, oB, oW, oT) p q := by
  unfold wpX_attempt
  rcases Classical.em (p = 0 ∨ p = 1) with z | z
  · refine gb_x_player z (br_t rfl ?_)
    exact gb_x_nopoint (h.elim (fun n => (n z).elim) id) (br_f gb_n10 hp)
  · exact gb_x_noplayer z (br_f gb_n10 hp)
theorem gb_x_store {post : SX → Prop} {c : Nat} (hc : c < 40)
    (h : post (fA, fF, fL, fB, fW, nI (c + 1), fx, fy, t1, t2, vp_updL oB c fB, vp_updL oW c fW, upd oT c (fx * 1000 + fy))) :
    wpX_store post (fA, fF, fL, fB, fW, nI c, fx, fy, t1, t2, oB, oW, oT) := by
  have hi : vp_in (nI c) 40 := vp_in_nI hc (by decide)
  unfold wpX_store
  refine ⟨hi, ?_⟩
  rw [nI_clamp (show c < 2 ^ 31 by omega)]
  exact nm_e ⟨hi, nm_e ⟨hi, nm_e (nm_r (nI_1 c) h)⟩⟩
end
end
section
/-! Y: neighbour, besides, reachFrom, countLiberties -/
/-- r is the neighbour of q in direction d -/
def gb_dir (q d r : Nat) : Prop := r < 49 ∧ ((d = 0 ∧ q = r + 7) ∨ (d = 1 ∧ r = q + 7) ∨ (d = 2 ∧ q = r + 1 ∧ q % 7 ≠ 0) ∨ (d = 3 ∧ r = q + 1 ∧ r % 7 ≠ 0))
theorem gb_dir_adj {q d r : Nat} (h : gb_dir q d r) : r < 49 ∧ gb_adj q r := by unfold gb_dir at h; unfold gb_adj; omega
theorem gb_adj_dir {q r : Nat} (hr : r < 49) (h : gb_adj q r) : ∃ d, d < 4 ∧ gb_dir q d r := by
  unfold gb_adj at h; unfold gb_dir
  rcases h with h | h | h | h
  · exact ⟨0, by omega, hr, by omega⟩
  · exact ⟨1, by omega, hr, by omega⟩
  · exact ⟨2, by omega, hr, by omega⟩
  · exact ⟨3, by omega, hr, by omega⟩
theorem gb_dir_uniq {q d r s : Nat} (h : gb_dir q d r) (k : gb_dir q d s) : r = s := by unfold gb_dir at h k; omega
theorem gb_rem7 {a : Nat} (ha : a < 49) : nI a - nI a / 7 * 7 = nI (a % 7) := pk_rem (a := a) (d := 7) (by omega) (by decide) (by decide)
/-- what is reached -/
def gb_A (re : Nat → Int32) (i : Nat) : Prop := i < 49 ∧ ¬ re i = 0
section
variable {fd : Int32} {b hi hF hS ca re de ke : Nat → Int32}
theorem gb_y_nb {post : Int32 → Prop} {q d : Nat} (hq : q < 49) (hd : d < 4) (h0 : (∀ r, ¬ gb_dir q d r) → post (-1)) (h1 : ∀ r, gb_dir q d r → post (nI r)) :
    wpY_neighbour post (fd, b, hi, hF, hS, ca, re, de, ke) (nI q) (nI d) := by
  unfold wpY_neighbour
  rcases d with _ | _ | _ | _ | d
  · refine br_t rfl (pk_le 7 q (fun h => ?_) (fun h => ?_))
    · rw [show nI q - 7 = nI (q - 7) from pk_sub (b := 7) h]
      exact h1 _ (by unfold gb_dir; omega)
    · exact h0 (fun r z => by unfold gb_dir at z; omega)
  · refine br_f (by decide) (br_t rfl (pk_le q 41 (fun h => ?_) (fun h => ?_)))
    · rw [show nI q + 7 = nI (q + 7) from nI_add q 7]
      exact h1 _ (by unfold gb_dir; omega)
    · exact h0 (fun r z => by unfold gb_dir at z; omega)
  · refine br_f (by decide) (br_f (by decide) (br_t rfl ⟨by decide, ?_⟩))
    rw [gb_rem7 hq]
    refine pk_eq (q % 7) 0 (fun h => ?_) (fun h => ?_)
    · exact h0 (fun r z => by unfold gb_dir at z; omega)
    · rw [show nI q - 1 = nI (q - 1) from pk_sub (b := 1) (by omega)]
      exact h1 _ (by unfold gb_dir; omega)
  · refine br_f (by decide) (br_f (by decide) (br_f (by decide) ⟨by decide, ?_⟩))
    rw [gb_rem7 hq]
    refine pk_eq (q % 7) 6 (fun h => ?_) (fun h => ?_)
    · exact h0 (fun r z => by unfold gb_dir at z; omega)
    · rw [nI_1 q]
      exact h1 _ (by unfold gb_dir; omega)
  · omega
theorem gb_y_besides_l {post : Int32 → Prop} {q : Nat} {w o : Int32} (hq : q < 49)
    (h1 : (∃ r, r < 49 ∧ gb_adj q r ∧ b r = w ∧ (o = 0 ∨ ¬ re r = 0)) → post 1) (h0 : ¬ (∃ r, r < 49 ∧ gb_adj q r ∧ b r = w ∧ (o = 0 ∨ ¬ re r = 0)) → post 0) :
    ∀ (n d : Nat), 5 ≤ n + d → d ≤ 4 → (∀ d' r, d' < d → gb_dir q d' r → ¬ (b r = w ∧ (o = 0 ∨ ¬ re r = 0))) →
      wY_besides_3 post (nI q) w o fd b hi hF hS ca re de ke n (nI d) := by
  intro n
  induction n with
  | zero => intro d h1 h2; omega
  | succ n ih =>
    intro d hn hd hI
    rcases Nat.lt_or_ge d 4 with z | z
    · refine br_f (nI_ge (b := 4) z (by decide)) ?_
      refine gb_y_nb hq z (fun hno => ?_) (fun r hr => ?_)
      · refine br_t (by decide) (nm_r (nI_1 d) (ih (d + 1) (by omega) (by omega) ?_))
        intro d' r hd' hr
        rcases Nat.lt_or_ge d' d with y | y
        · exact hI d' r y hr
        · obtain rfl : d' = d := by omega
          exact (hno r hr).elim
      · have hr49 := (gb_dir_adj hr).1
        have hin : vp_in (nI r) 49 := vp_in_nI hr49 (by decide)
        have next : ¬ (b r = w ∧ (o = 0 ∨ ¬ re r = 0)) → wY_besides_3 post (nI q) w o fd b hi hF hS ca re de ke n (nI (d + 1)) := by
          intro hnr
          refine ih (d + 1) (by omega) (by omega) ?_
          intro d' s hd' hs
          rcases Nat.lt_or_ge d' d with y | y
          · exact hI d' s y hs
          · obtain rfl : d' = d := by omega
            rw [gb_dir_uniq hs hr]
            exact hnr
        refine br_f (nI_pos (by omega)) ⟨hin, ?_⟩
        rw [nI_clamp (show r < 2 ^ 31 by omega)]
        refine br_c (fun e => br_c (fun eo => ?_) (fun eo => ⟨hin, br_c (fun er => ?_) (fun er => ?_)⟩)) (fun e => ?_)
        · exact h1 ⟨r, hr49, (gb_dir_adj hr).2, e, Or.inl eo⟩
        · exact nm_r (nI_1 d) (next (fun y => y.2.elim eo (fun y => y er)))
        · exact h1 ⟨r, hr49, (gb_dir_adj hr).2, e, Or.inr er⟩
        · exact nm_r (nI_1 d) (next (fun y => e y.1))
    · obtain rfl : d = 4 := by omega
      refine br_t (nI_le (a := 4) (b := 4) (by decide) (by decide)) (h0 ?_)
      rintro ⟨r, hr, a, y⟩
      obtain ⟨d, hd, hdir⟩ := gb_adj_dir hr a
      exact hI d r hd hdir y
theorem gb_y_besides {post : Int32 → Prop} {q : Nat} {w o : Int32} (hq : q < 49)
    (h1 : (∃ r, r < 49 ∧ gb_adj q r ∧ b r = w ∧ (o = 0 ∨ ¬ re r = 0)) → post 1) (h0 : ¬ (∃ r, r < 49 ∧ gb_adj q r ∧ b r = w ∧ (o = 0 ∨ ¬ re r = 0)) → post 0) :
    wpY_besides post (fd, b, hi, hF, hS, ca, re, de, ke) (nI q) w o := by
  unfold wpY_besides
  exact ⟨5, gb_y_besides_l hq h1 h0 5 0 (by omega) (by omega) (fun d' r z => by omega)⟩
/-- one more is reached -/
theorem gb_A_add {k : Nat} (hk : k < 49) (hr : ¬ gb_A re k) : gb_cn (gb_A (upd re k (vp_nar .boolean 1))) 49 = gb_cn (gb_A re) 49 + 1 := by
  have e1 : gb_cn (fun i => gb_A re i ∨ i = k) 49 = gb_cn (gb_A re) 49 + gb_cn (fun i => i = k) 49 := gb_cn_or (fun i _ s e => hr (by rw [← e]; exact s))
  rw [gb_cn_one k hk] at e1
  rw [← e1]
  apply gb_cn_eq
  intro i hi
  unfold gb_A
  rcases Nat.decEq i k with z | z
  · rw [gb_b1_n z]; exact ⟨Or.inl, fun y => y.elim id (fun y => (z y).elim)⟩
  · subst z; rw [gb_b1_q]; exact ⟨fun _ => Or.inr rfl, fun _ => ⟨hi, gb_n10⟩⟩
theorem gb_A_upd {k : Nat} (hk : k < 49) (i : Nat) : gb_A (upd re k (vp_nar .boolean 1)) i ↔ gb_A re i ∨ i = k := by
  unfold gb_A
  rcases Nat.decEq i k with z | z
  · rw [gb_b1_n z]; exact ⟨Or.inl, fun y => y.elim id (fun y => (z y).elim)⟩
  · subst z; rw [gb_b1_q]; exact ⟨fun _ => Or.inr rfl, fun _ => ⟨hk, gb_n10⟩⟩
end
section
variable {fd : Int32} {b hi hF hS ca de ke : Nat → Int32}
/-- one pass -/
theorem gb_y_reach44 {post : Int32 → SY → Prop} {J : Int32 → Int32 → (Nat → Int32) → (Nat → Int32) → (Nat → Int32) → (Nat → Int32) → (Nat → Int32) → (Nat → Int32) → (Nat → Int32) → (Nat → Int32) → Prop} {q bf : Nat} (hq : q < 49)
    (hJ : ∀ re', gb_A re' q → (∀ i, gb_A re' i → gb_R1 (gb_C b (b q)) q i) → bf ≤ gb_cn (gb_A re') 49 →
      (bf < gb_cn (gb_A re') 49 ∨ ∀ i j, gb_A re' i → gb_adj i j → gb_C b (b q) j → gb_A re' j) →
      J (nI (gb_cn (gb_A re') 49)) (nI bf) b hi hF hS ca re' de ke) :
    ∀ (n k : Nat) (re : Nat → Int32), 50 ≤ n + k → k ≤ 49 → gb_A re q → (∀ i, gb_A re i → gb_R1 (gb_C b (b q)) q i) → bf ≤ gb_cn (gb_A re) 49 →
      (bf < gb_cn (gb_A re) 49 ∨ ∀ i j, gb_A re i → gb_adj i j → gb_C b (b q) j → j < k → gb_A re j) →
      wY_reachFrom_44 post J (nI q) (nI bf) fd n (nI (gb_cn (gb_A re) 49)) (nI k) b hi hF hS ca re de ke := by
  intro n
  induction n with
  | zero => intro k re h1 h2; omega
  | succ n ih =>
    intro k re hn hk hAq hR hcn hI
    rcases Nat.lt_or_ge k 49 with z | z
    · have hin : vp_in (nI k) 49 := vp_in_nI z (by decide)
      have hqin : vp_in (nI q) 49 := vp_in_nI hq (by decide)
      refine br_f (nI_ge (b := 49) z (by decide)) ⟨hin, ?_⟩
      rw [nI_clamp (show k < 2 ^ 31 by omega), nI_clamp (show q < 2 ^ 31 by omega)]
      have keep : (∀ i, gb_A re i → gb_adj i k → gb_C b (b q) k → gb_A re k) → wY_reachFrom_44 post J (nI q) (nI bf) fd n (nI (gb_cn (gb_A re) 49)) (nI (k + 1)) b hi hF hS ca re de ke := by
        intro hk2
        refine ih (k + 1) re (by omega) (by omega) hAq hR hcn (hI.elim Or.inl (fun h => Or.inr ?_))
        intro i j hi hij hj hjk
        rcases Nat.lt_or_ge j k with y | y
        · exact h i j hi hij hj y
        · obtain rfl : j = k := by omega
          exact hk2 i hi hij hj
      refine br_c (fun er => ⟨hin, hqin, br_c (fun eb => ⟨hqin, ?_⟩) (fun eb => ?_)⟩) (fun er => ?_)
      · refine gb_y_besides z (fun hex => ?_) (fun hno => ?_)
        · refine br_f gb_n10 ⟨hin, nm_e (nm_r (nI_1 _) (nm_r (nI_1 k) ?_))⟩
          have hnA : ¬ gb_A re k := fun y => y.2 er
          have ea := gb_A_add z hnA
          rw [← ea]
          refine ih (k + 1) _ (by omega) (by omega) ((gb_A_upd z q).mpr (Or.inl hAq)) ?_ (by omega) (Or.inl (by omega))
          intro i hAi
          rcases (gb_A_upd z i).mp hAi with y | rfl
          · exact hR i y
          · obtain ⟨r, hr, a, _, o⟩ := hex
            refine gb_R_step (hR r ⟨hr, o.elim (fun e => (gb_n10 e).elim) id⟩) (gb_adj_sym a) ⟨z, eb⟩
        · refine br_t rfl (nm_r (nI_1 k) (keep ?_))
          intro i hAi a hC
          exact (hno ⟨i, hAi.1, gb_adj_sym a, (gb_R_in (hR i hAi)).2, Or.inr hAi.2⟩).elim
      · exact nm_r (nI_1 k) (keep (fun i _ _ hC => (eb hC.2).elim))
      · exact nm_r (nI_1 k) (keep (fun i _ _ hC => ⟨z, er⟩))
    · obtain rfl : k = 49 := by omega
      exact br_t (nI_le (a := 49) (b := 49) (by decide) (by decide)) (hJ re hAq hR hcn (hI.elim Or.inl (fun h => Or.inr (fun i j a c d => h i j a c d d.1))))
theorem gb_y_reach34 {post : Int32 → SY → Prop} {q : Nat} (hq : q < 49)
    (h : ∀ re', gb_A re' = gb_R1 (gb_C b (b q)) q → post (nI (gb_cn (gb_R1 (gb_C b (b q)) q) 49)) (fd, b, hi, hF, hS, ca, re', de, ke)) :
    ∀ (n bf : Nat) (re : Nat → Int32), 1 ≤ n → bf ≤ 49 → gb_A re q → (∀ i, gb_A re i → gb_R1 (gb_C b (b q)) q i) →
      (bf < gb_cn (gb_A re) 49 → 51 ≤ n + gb_cn (gb_A re) 49) →
      (bf < gb_cn (gb_A re) 49 ∨ ∀ i j, gb_A re i → gb_adj i j → gb_C b (b q) j → gb_A re j) →
      wY_reachFrom_34 post (nI q) fd n (nI (gb_cn (gb_A re) 49)) (nI bf) b hi hF hS ca re de ke := by
  intro n
  induction n with
  | zero => intro bf re h1; omega
  | succ n ih =>
    intro bf re _ hbf hAq hR hfu hI
    have hle := gb_cn_le (gb_A re) 49
    refine pk_le (gb_cn (gb_A re) 49) bf (fun hl => ?_) (fun hl => ?_)
    · have hc := hI.elim (fun z => absurd z (by omega)) id
      have e : gb_A re = gb_R1 (gb_C b (b q)) q := funext fun i => propext ⟨hR i, fun r => r (gb_A re) (fun i e _ => by rw [e]; exact hAq) hc⟩
      have hh := h re e
      rw [← e] at hh
      exact hh
    · have hfu := hfu hl
      refine ⟨50, gb_y_reach44 (bf := gb_cn (gb_A re) 49) hq ?_ 50 0 re (by omega) (by omega) hAq hR (Nat.le_refl _) (Or.inr (fun i j _ _ _ z => absurd z (by omega)))⟩
      intro re' hAq' hR' hb' hI'
      exact ih (gb_cn (gb_A re) 49) re' (by omega) hle hAq' hR' (fun z => by omega) hI'
theorem gb_y_reach2 {post : Int32 → SY → Prop} {q : Nat} (hq : q < 49)
    (h : ∀ re', gb_A re' = gb_R1 (gb_C b (b q)) q → post (nI (gb_cn (gb_R1 (gb_C b (b q)) q) 49)) (fd, b, hi, hF, hS, ca, re', de, ke)) :
    ∀ (n k : Nat) (re : Nat → Int32), 50 ≤ n + k → k ≤ 49 → (∀ i, i < k → (¬ re i = 0 ↔ i = q)) →
      wY_reachFrom_2 post (nI q) fd n (nI k) b hi hF hS ca re de ke := by
  intro n
  induction n with
  | zero => intro k re h1 h2; omega
  | succ n ih =>
    intro k re hn hk hI
    rcases Nat.lt_or_ge k 49 with z | z
    · have hin : vp_in (nI k) 49 := vp_in_nI z (by decide)
      refine br_f (nI_ge (b := 49) z (by decide)) (pk_eq k q (fun e => ⟨hin, nm_e (nm_r (nI_1 k) ?_)⟩) (fun e => ⟨hin, nm_e (nm_r (nI_1 k) ?_)⟩))
      · rw [nI_clamp (show k < 2 ^ 31 by omega)]
        refine ih (k + 1) _ (by omega) (by omega) (fun i hi => ?_)
        rcases Nat.decEq i k with y | y
        · rw [gb_b1_n y]; exact hI i (by omega)
        · subst y; rw [gb_b1_q]; exact ⟨fun _ => e, fun _ => gb_n10⟩
      · rw [nI_clamp (show k < 2 ^ 31 by omega)]
        refine ih (k + 1) _ (by omega) (by omega) (fun i hi => ?_)
        rcases Nat.decEq i k with y | y
        · rw [gb_b1_n y]; exact hI i (by omega)
        · subst y; rw [gb_b1_q]; exact ⟨fun y => (y rfl).elim, fun y => (e y).elim⟩
    · obtain rfl : k = 49 := by omega
      have hA : ∀ i, gb_A re i ↔ i = q := fun i => ⟨fun y => (hI i y.1).mp y.2, fun y => by rw [y]; exact ⟨hq, (hI q hq).mpr rfl⟩⟩
      have hc : gb_cn (gb_A re) 49 = 1 := (gb_cn_eq (fun i _ => hA i)).trans (gb_cn_one q hq)
      have key := gb_y_reach34 (fd := fd) (b := b) (hi := hi) (hF := hF) (hS := hS) (ca := ca) (de := de) (ke := ke) hq h 50 0 re (by omega) (by omega) ((hA q).mpr rfl) (fun i y => by rw [(hA i).mp y]; exact gb_R1_base ⟨hq, rfl⟩) (fun _ => by omega) (Or.inl (by omega))
      rw [hc] at key
      exact br_t (nI_le (a := 49) (b := 49) (by decide) (by decide)) ⟨50, key⟩
theorem gb_y_reach {post : Int32 → SY → Prop} {re : Nat → Int32} {q : Nat} (hq : q < 49)
    (h : ∀ re', gb_A re' = gb_R1 (gb_C b (b q)) q → post (nI (gb_cn (gb_R1 (gb_C b (b q)) q) 49)) (fd, b, hi, hF, hS, ca, re', de, ke)) :
    wpY_reachFrom post (fd, b, hi, hF, hS, ca, re, de, ke) (nI q) := by
  unfold wpY_reachFrom
  exact ⟨50, gb_y_reach2 hq h 50 0 re (by omega) (by omega) (fun i z => absurd z (by omega))⟩
end
section
variable {fd : Int32} {b hi hF hS ca re de ke : Nat → Int32}
theorem gb_y_lib15 {post : Int32 → Prop} {J : Int32 → Int32 → Prop} {x1 : Int32} {k : Nat} (hk : k < 49)
    (h1 : gb_lib b (gb_A re) k → J (x1 + 1) (nI (k + 1))) (h0 : ¬ gb_lib b (gb_A re) k → J x1 (nI (k + 1))) :
    ∀ (n d : Nat) (f : Int32), 5 ≤ n + d → d ≤ 4 → ((f = 1 ∧ gb_lib b (gb_A re) k) ∨ (f = 0 ∧ ∀ d' s, d' < d → gb_dir k d' s → ¬ (b k = 2 ∧ ¬ re s = 0))) →
      wY_countLiberties_15 post J x1 (nI k) fd b hi hF hS ca re de ke n f (nI d) := by
  intro n
  induction n with
  | zero => intro d f h1 h2; omega
  | succ n ih =>
    intro d f hn hd hI
    rcases Nat.lt_or_ge d 4 with z | z
    · refine br_f (nI_ge (b := 4) z (by decide)) ?_
      have hin : vp_in (nI k) 49 := vp_in_nI hk (by decide)
      have next1 : gb_lib b (gb_A re) k → wY_countLiberties_15 post J x1 (nI k) fd b hi hF hS ca re de ke n 1 (nI (d + 1)) := fun hl =>
        ih (d + 1) 1 (by omega) (by omega) (Or.inl ⟨rfl, hl⟩)
      have body : ∀ (r : Int32), (r < 0 → ∀ s, ¬ gb_dir k d s) → (¬ r < 0 → ∃ s, r = nI s ∧ gb_dir k d s) →
          (((f = 0 → (vp_in (nI k) 49 ∧ ((((b (nI k).toNatClampNeg) = 2 → (((r < 0 → (∀ y : Int32, y = nI d + 1 → (wY_countLiberties_15 post J x1 (nI k) fd b hi hF hS ca re de ke n 0 y))) ∧ (¬ r < 0 → (vp_in r 49 ∧ ((((re r.toNatClampNeg) = 0 → (∀ y : Int32, y = nI d + 1 → (wY_countLiberties_15 post J x1 (nI k) fd b hi hF hS ca re de ke n 0 y))) ∧ (¬ (re r.toNatClampNeg) = 0 → (∀ y : Int32, y = nI d + 1 → (wY_countLiberties_15 post J x1 (nI k) fd b hi hF hS ca re de ke n 1 y)))))))))) ∧ (¬ (b (nI k).toNatClampNeg) = 2 → (∀ y : Int32, y = nI d + 1 → (wY_countLiberties_15 post J x1 (nI k) fd b hi hF hS ca re de ke n 0 y))))))) ∧ (¬ f = 0 → (∀ y : Int32, y = nI d + 1 → (wY_countLiberties_15 post J x1 (nI k) fd b hi hF hS ca re de ke n 1 y))))) := by
        intro r hneg hpos
        rw [nI_clamp (show k < 2 ^ 31 by omega)]
        rcases hI with ⟨rfl, hl⟩ | ⟨rfl, hl⟩
        · exact br_f gb_n10 (nm_r (nI_1 d) (next1 hl))
        · have next0 : (∀ s, gb_dir k d s → ¬ (b k = 2 ∧ ¬ re s = 0)) → wY_countLiberties_15 post J x1 (nI k) fd b hi hF hS ca re de ke n 0 (nI (d + 1)) := by
            intro hnn
            refine ih (d + 1) 0 (by omega) (by omega) (Or.inr ⟨rfl, fun d' s hd' hs => ?_⟩)
            rcases Nat.lt_or_ge d' d with y | y
            · exact hl d' s y hs
            · obtain rfl : d' = d := by omega
              exact hnn s hs
          refine br_t rfl ⟨hin, br_c (fun eb => br_c (fun er => ?_) (fun er => ?_)) (fun eb => ?_)⟩
          · exact nm_r (nI_1 d) (next0 (fun s hs => (hneg er s hs).elim))
          · obtain ⟨s, rfl, hs⟩ := hpos er
            have hs49 := (gb_dir_adj hs).1
            refine ⟨vp_in_nI hs49 (by decide), ?_⟩
            rw [nI_clamp (show s < 2 ^ 31 by omega)]
            refine br_c (fun e => ?_) (fun e => ?_)
            · exact nm_r (nI_1 d) (next0 (fun s' hs' => by rw [gb_dir_uniq hs' hs]; exact fun y => y.2 e))
            · exact nm_r (nI_1 d) (next1 ⟨⟨hk, eb⟩, s, (gb_dir_adj hs).2, hs49, e⟩)
          · exact nm_r (nI_1 d) (next0 (fun s hs y => eb y.1))
      refine gb_y_nb hk z (fun hno => ?_) (fun r hr => ?_)
      · exact body (-1) (fun _ => hno) (fun y => absurd (by decide) y)
      · exact body (nI r) (fun y => absurd y (nI_pos (by have := hr.1; omega))) (fun _ => ⟨r, rfl, hr⟩)
    · obtain rfl : d = 4 := by omega
      refine br_t (nI_le (a := 4) (b := 4) (by decide) (by decide)) ?_
      rcases hI with ⟨rfl, hl⟩ | ⟨rfl, hl⟩
      · exact br_f gb_n10 (nm_e (nm_r (nI_1 k) (h1 hl)))
      · refine br_t rfl (nm_r (nI_1 k) (h0 ?_))
        rintro ⟨hC, s, a, hA⟩
        obtain ⟨d, hd, hdir⟩ := gb_adj_dir hA.1 a
        exact hl d s hd hdir ⟨hC.2, hA.2⟩
theorem gb_y_lib4 {post : Int32 → Prop} (h : post (nI (gb_cn (gb_lib b (gb_A re)) 49))) :
    ∀ (n k : Nat), 50 ≤ n + k → k ≤ 49 → wY_countLiberties_4 post fd b hi hF hS ca re de ke n (nI (gb_cn (gb_lib b (gb_A re)) k)) (nI k) := by
  intro n
  induction n with
  | zero => intro k h1 h2; omega
  | succ n ih =>
    intro k hn hk
    rcases Nat.lt_or_ge k 49 with z | z
    · refine br_f (nI_ge (b := 49) z (by decide)) ⟨5, gb_y_lib15 z (fun hl => ?_) (fun hl => ?_) 5 0 0 (by omega) (by omega) (Or.inr ⟨rfl, fun d' s y => absurd y (by omega)⟩)⟩
      · rw [nI_1, ← gb_cn_t hl]
        exact ih (k + 1) (by omega) (by omega)
      · rw [← gb_cn_f hl]
        exact ih (k + 1) (by omega) (by omega)
    · obtain rfl : k = 49 := by omega
      exact br_t (nI_le (a := 49) (b := 49) (by decide) (by decide)) h
theorem gb_y_libs {post : Int32 → Prop} (h : post (nI (gb_cn (gb_lib b (gb_A re)) 49))) : wpY_countLiberties post (fd, b, hi, hF, hS, ca, re, de, ke) := by
  unfold wpY_countLiberties
  exact ⟨50, gb_y_lib4 h 50 0 (by omega) (by omega)⟩
end
end
section
/-! Y: putAndCapture, isAsBefore, tryMove, putBack, note -/
section
variable {fd : Int32} {hi hF hS ca ke : Nat → Int32}
theorem gb_y_pc83 {post : Int32 → SY → Prop} {re de b1 : Nat → Int32} {D : Nat → Prop} (hD : ∀ i, i < 49 → (de i = 1 ↔ D i))
    (h : ∀ b', (∀ i, i < 49 → (D i → b' i = 2) ∧ (¬ D i → b' i = b1 i)) → post (nI (gb_cn D 49)) (fd, b', hi, hF, hS, ca, re, de, ke)) :
    ∀ (n k : Nat) (b' : Nat → Int32), 50 ≤ n + k → k ≤ 49 → (∀ i, i < 49 → (i < k → D i → b' i = 2) ∧ (¬ (i < k ∧ D i) → b' i = b1 i)) →
      wY_putAndCapture_83 post fd n (nI (gb_cn D k)) (nI k) b' hi hF hS ca re de ke := by
  intro n
  induction n with
  | zero => intro k b' h1 h2; omega
  | succ n ih =>
    intro k b' hn hk hI
    rcases Nat.lt_or_ge k 49 with z | z
    · have hin : vp_in (nI k) 49 := vp_in_nI z (by decide)
      refine br_f (nI_ge (b := 49) z (by decide)) ⟨hin, ?_⟩
      rw [nI_clamp (show k < 2 ^ 31 by omega)]
      refine br_c (fun e => ⟨hin, nm_e (nm_r (nI_1 _) (nm_r (nI_1 k) ?_))⟩) (fun e => nm_r (nI_1 k) ?_)
      · have hd := (hD k z).mp e
        rw [← gb_cn_t hd]
        refine ih (k + 1) _ (by omega) (by omega) (fun i hi => ?_)
        rcases Nat.decEq i k with y | y
        · rw [gb_b1_n y]
          exact ⟨fun l d => (hI i hi).1 (by omega) d, fun l => (hI i hi).2 (fun w => l ⟨by omega, w.2⟩)⟩
        · subst y; rw [gb_b1_q]
          exact ⟨fun _ _ => rfl, fun l => (l ⟨by omega, hd⟩).elim⟩
      · have hd : ¬ D k := fun d => e ((hD k z).mpr d)
        rw [← gb_cn_f hd]
        refine ih (k + 1) _ (by omega) (by omega) (fun i hi => ?_)
        refine ⟨fun l d => (hI i hi).1 ?_ d, fun l => (hI i hi).2 (fun w => l ⟨by omega, w.2⟩)⟩
        rcases Nat.decEq i k with y | y
        · omega
        · subst y; exact (hd d).elim
    · obtain rfl : k = 49 := by omega
      exact br_t (nI_le (a := 49) (b := 49) (by decide) (by decide)) (h b' (fun i hi => ⟨fun d => (hI i hi).1 hi d, fun d => (hI i hi).2 (fun w => d w.2)⟩))
theorem gb_y_pc30 {post : Int32 → SY → Prop} {b1 : Nat → Int32} {p : Int32} {D : Nat → Prop}
    (hDd : ∀ i, i < 49 → (D i ↔ b1 i = 1 - p ∧ gb_cn (gb_lib b1 (gb_R1 (gb_C b1 (b1 i)) i)) 49 = 0))
    (h : ∀ b' re' de', (∀ i, i < 49 → (D i → b' i = 2) ∧ (¬ D i → b' i = b1 i)) → post (nI (gb_cn D 49)) (fd, b', hi, hF, hS, ca, re', de', ke)) :
    ∀ (n k : Nat) (re de : Nat → Int32), 50 ≤ n + k → k ≤ 49 → (∀ i, i < 49 → (i < k → (de i = 1 ↔ D i)) ∧ (k ≤ i → de i = 0)) →
      wY_putAndCapture_30 post p n (nI k) fd b1 hi hF hS ca re de ke := by
  intro n
  induction n with
  | zero => intro k re de h1 h2; omega
  | succ n ih =>
    intro k re de hn hk hI
    rcases Nat.lt_or_ge k 49 with z | z
    · have hin : vp_in (nI k) 49 := vp_in_nI z (by decide)
      refine br_f (nI_ge (b := 49) z (by decide)) ⟨hin, ?_⟩
      rw [nI_clamp (show k < 2 ^ 31 by omega)]
      have stp : ∀ (de' : Nat → Int32), (∀ i, i ≠ k → de' i = de i) → (de' k = 1 ↔ D k) → (∀ i, i < 49 → (i < k + 1 → (de' i = 1 ↔ D i)) ∧ (k + 1 ≤ i → de' i = 0)) := by
        intro de' ho hk' i hi
        rcases Nat.decEq i k with y | y
        · rw [ho i y]
          exact ⟨fun l => (hI i hi).1 (by omega), fun l => (hI i hi).2 (by omega)⟩
        · subst y
          exact ⟨fun _ => hk', fun l => by omega⟩
      refine br_c (fun e => ?_) (fun e => ?_)
      · refine gb_y_reach z (fun re' hre => ?_)
        refine gb_y_libs ?_
        rw [hre]
        have hle := gb_cn_le (gb_lib b1 (gb_R1 (gb_C b1 (b1 k)) k)) 49
        refine pk_eq (gb_cn (gb_lib b1 (gb_R1 (gb_C b1 (b1 k)) k)) 49) 0 (fun e0 => ⟨hin, nm_e (nm_r (nI_1 k) ?_)⟩) (fun e0 => ⟨hin, nm_e (nm_r (nI_1 k) ?_)⟩)
        · exact ih (k + 1) _ _ (by omega) (by omega) (stp _ (fun i y => gb_b1_n y) ⟨fun _ => (hDd k z).mpr ⟨e, e0⟩, fun _ => gb_b1_q⟩)
        · refine ih (k + 1) _ _ (by omega) (by omega) (stp _ (fun i y => gb_b1_n y) ⟨fun y => ?_, fun y => (e0 ((hDd k z).mp y).2).elim⟩)
          rw [gb_b1_q] at y
          exact (gb_n01 y).elim
      · refine nm_r (nI_1 k) (ih (k + 1) _ _ (by omega) (by omega) (stp _ (fun _ _ => rfl) ⟨fun y => ?_, fun y => (e ((hDd k z).mp y).1).elim⟩))
        rw [(hI k z).2 (Nat.le_refl _)] at y
        exact (gb_n01 y).elim
    · obtain rfl : k = 49 := by omega
      refine br_t (nI_le (a := 49) (b := 49) (by decide) (by decide)) ⟨50, ?_⟩
      exact gb_y_pc83 (b1 := b1) (D := D) (fun i hi => (hI i hi).1 hi) (fun b' hb' => h b' re de hb') 50 0 b1 (by omega) (by omega) (fun i hi => ⟨fun y => absurd y (by omega), fun _ => rfl⟩)
theorem gb_y_pc9 {post : Int32 → SY → Prop} {re b1 : Nat → Int32} {p : Int32} {D : Nat → Prop}
    (hDd : ∀ i, i < 49 → (D i ↔ b1 i = 1 - p ∧ gb_cn (gb_lib b1 (gb_R1 (gb_C b1 (b1 i)) i)) 49 = 0))
    (h : ∀ b' re' de', (∀ i, i < 49 → (D i → b' i = 2) ∧ (¬ D i → b' i = b1 i)) → post (nI (gb_cn D 49)) (fd, b', hi, hF, hS, ca, re', de', ke)) :
    ∀ (n k : Nat) (de : Nat → Int32), 50 ≤ n + k → k ≤ 49 → (∀ i, i < k → de i = 0) →
      wY_putAndCapture_9 post p fd n (nI k) b1 hi hF hS ca re de ke := by
  intro n
  induction n with
  | zero => intro k de h1 h2; omega
  | succ n ih =>
    intro k de hn hk hI
    rcases Nat.lt_or_ge k 49 with z | z
    · have hin : vp_in (nI k) 49 := vp_in_nI z (by decide)
      refine br_f (nI_ge (b := 49) z (by decide)) ⟨hin, nm_e (nm_r (nI_1 k) ?_)⟩
      rw [nI_clamp (show k < 2 ^ 31 by omega)]
      refine ih (k + 1) _ (by omega) (by omega) (fun i hi => ?_)
      rcases Nat.decEq i k with y | y
      · rw [gb_b1_n y]; exact hI i (by omega)
      · subst y; exact gb_b1_q
    · obtain rfl : k = 49 := by omega
      exact br_t (nI_le (a := 49) (b := 49) (by decide) (by decide)) ⟨50, gb_y_pc30 hDd h 50 0 re de (by omega) (by omega) (fun i hi => ⟨fun y => absurd y (by omega), fun _ => hI i hi⟩)⟩
/-- no liberty, by the count -/
theorem gb_lib_0 (b : Nat → Int32) (G : Nat → Prop) : gb_cn (gb_lib b G) 49 = 0 ↔ ¬ ∃ o s, gb_C b 2 o ∧ gb_adj o s ∧ G s := by
  rw [gb_cn_zero]
  constructor
  · rintro h ⟨o, s, ho, a, hs⟩
    exact h o ho.1 ⟨ho, s, a, hs⟩
  · rintro h k _ ⟨ho, s, a, hs⟩
    exact h ⟨k, s, ho, a, hs⟩
theorem gb_y_put {post : Int32 → SY → Prop} {b re de : Nat → Int32} {p : Int32} {q : Nat} (hq : q < 49)
    (h : ∀ b' re' de', (∀ i, i < 49 → b' i = gb_b2 b p q i) → post (nI (gb_cn (gb_D b p q) 49)) (fd, b', hi, hF, hS, ca, re', de', ke)) :
    wpY_putAndCapture post (fd, b, hi, hF, hS, ca, re, de, ke) p (nI q) := by
  unfold wpY_putAndCapture
  refine ⟨vp_in_nI hq (by decide), nm_e ⟨50, ?_⟩⟩
  rw [nI_clamp (show q < 2 ^ 31 by omega)]
  refine gb_y_pc9 (D := gb_D b p q) (fun i hi => ?_) (fun b' re' de' hb' => h b' re' de' (fun i hi => ?_)) 50 0 de (by omega) (by omega) (fun i y => absurd y (by omega))
  · rw [gb_lib_0]
    constructor
    · intro d
      refine ⟨d.1.2, ?_⟩
      rw [d.1.2]
      exact d.2
    · rintro ⟨e, n⟩
      rw [e] at n
      exact ⟨⟨hi, e⟩, n⟩
  · rcases Classical.em (gb_D b p q i) with d | d
    · rw [gb_b2_d d]; exact (hb' i hi).1 d
    · rw [gb_b2_n d]; exact (hb' i hi).2 d
theorem gb_y_asb_l {post : Int32 → Prop} {b re de : Nat → Int32} {c : Nat} (hc : c < 40) (h1 : (∀ i, i < 49 → b i = hi (49 * c + i)) → post 1) (h0 : ¬ (∀ i, i < 49 → b i = hi (49 * c + i)) → post 0) :
    ∀ (n k : Nat), 50 ≤ n + k → k ≤ 49 → (∀ i, i < k → b i = hi (49 * c + i)) → wY_isAsBefore_2 post (nI c) fd b hi hF hS ca re de ke n (nI k) := by
  intro n
  induction n with
  | zero => intro k h1 h2; omega
  | succ n ih =>
    intro k hn hk hI
    rcases Nat.lt_or_ge k 49 with z | z
    · have hin : vp_in (nI k) 49 := vp_in_nI z (by decide)
      have ei : 49 * nI c + nI k = nI (49 * c + k) := by rw [show (49 : Int32) = nI 49 from rfl, pk_mul, nI_add]
      refine br_f (nI_ge (b := 49) z (by decide)) ⟨hin, ?_⟩
      rw [ei, nI_clamp (show k < 2 ^ 31 by omega), nI_clamp (show 49 * c + k < 2 ^ 31 by omega)]
      refine ⟨vp_in_nI (by omega) (by decide), br_c (fun e => ?_) (fun e => ?_)⟩
      · refine nm_r (nI_1 k) (ih (k + 1) (by omega) (by omega) (fun i hi' => ?_))
        rcases Nat.lt_or_ge i k with y | y
        · exact hI i y
        · obtain rfl : i = k := by omega
          exact e
      · exact h0 (fun y => e (y k z))
    · obtain rfl : k = 49 := by omega
      exact br_t (nI_le (a := 49) (b := 49) (by decide) (by decide)) (h1 hI)
theorem gb_y_asb {post : Int32 → Prop} {b re de : Nat → Int32} {c : Nat} (hc : c < 40) (h1 : (∀ i, i < 49 → b i = hi (49 * c + i)) → post 1) (h0 : ¬ (∀ i, i < 49 → b i = hi (49 * c + i)) → post 0) :
    wpY_isAsBefore post (fd, b, hi, hF, hS, ca, re, de, ke) (nI c) := by
  unfold wpY_isAsBefore
  exact ⟨50, gb_y_asb_l hc h1 h0 50 0 (by omega) (by omega) (fun i y => absurd y (by omega))⟩
end
section
variable {hi hF hS ca : Nat → Int32}
/-- the boards before, as functions -/
def gb_H (hi : Nat → Int32) (c i : Nat) : Int32 := hi (49 * c + i)
theorem gb_y_try2 {post : Int32 → SY → Prop} {b re de : Nat → Int32} {p : Int32} {q c : Nat} (hp : p = 0 ∨ p = 1) (hq : q < 49) (hc : c ≤ 40)
    (hS' : ¬ gb_free b p q → ∀ b' re' de' ke', (∀ i, i < 49 → b' i = gb_b2 b p q i) → (∀ i, i < 49 → ke' i = b i) → post (-5) (nI c, b', hi, hF, hS, ca, re', de', ke'))
    (hK : gb_free b p q → gb_ko c (gb_H hi) (gb_b2 b p q) → ∀ b' re' de' ke', (∀ i, i < 49 → b' i = gb_b2 b p q i) → (∀ i, i < 49 → ke' i = b i) → post (-6) (nI c, b', hi, hF, hS, ca, re', de', ke'))
    (hN : gb_free b p q → ¬ gb_ko c (gb_H hi) (gb_b2 b p q) → ∀ b' re' de' ke', (∀ i, i < 49 → b' i = gb_b2 b p q i) → (∀ i, i < 49 → ke' i = b i) → post (nI (gb_cn (gb_D b p q) 49)) (nI c, b', hi, hF, hS, ca, re', de', ke')) :
    ∀ (n k : Nat) (ke : Nat → Int32), 50 ≤ n + k → k ≤ 49 → (∀ i, i < k → ke i = b i) → wY_tryMove_2 post p (nI q) (nI c) n (nI k) b hi hF hS ca re de ke := by
  intro n
  induction n with
  | zero => intro k ke h1 h2; omega
  | succ n ih =>
    intro k ke hn hk hI
    rcases Nat.lt_or_ge k 49 with z | z
    · have hin : vp_in (nI k) 49 := vp_in_nI z (by decide)
      refine br_f (nI_ge (b := 49) z (by decide)) ⟨hin, hin, nm_e (nm_r (nI_1 k) ?_)⟩
      rw [nI_clamp (show k < 2 ^ 31 by omega)]
      refine ih (k + 1) _ (by omega) (by omega) (fun i hi => ?_)
      rcases Nat.decEq i k with y | y
      · rw [gb_b1_n y]; exact hI i (by omega)
      · subst y; exact gb_b1_q
    · obtain rfl : k = 49 := by omega
      refine br_t (nI_le (a := 49) (b := 49) (by decide) (by decide)) ?_
      refine gb_y_put hq (fun b' re' de' hb' => ?_)
      refine gb_y_reach hq (fun re'' hre => ?_)
      refine gb_y_libs ?_
      have ebq : b' q = p := (hb' q hq).trans (gb_b2_q hp)
      rw [hre, ebq, gb_lib_ext hb', gb_C_ext hb']
      have hle := gb_cn_le (gb_lib (gb_b2 b p q) (gb_R1 (gb_C (gb_b2 b p q) p) q)) 49
      have hfr := gb_lib_0 (gb_b2 b p q) (gb_R1 (gb_C (gb_b2 b p q) p) q)
      refine pk_eq _ 0 (fun e0 => ?_) (fun e0 => ?_)
      · exact hS' (hfr.mp e0) b' re'' de' ke hb' hI
      · have hf : gb_free b p q := Classical.byContradiction (fun y => e0 (hfr.mpr y))
        cases c with
        | zero => exact br_t (by decide) (hN hf (fun k => absurd k.1 (by decide)) b' re'' de' ke hb' hI)
        | succ c =>
          refine br_f (nI_nle (by omega) (by omega)) ?_
          rw [nI_pred]
          refine gb_y_asb (by omega) (fun hall => ?_) (fun hno => ?_)
          · exact br_f gb_n10 (hK hf ⟨by omega, fun i hi => (hb' i hi).symm.trans (hall i hi)⟩ b' re'' de' ke hb' hI)
          · exact br_t rfl (hN hf (fun k => hno (fun i hi => (hb' i hi).trans (k.2 i hi))) b' re'' de' ke hb' hI)
theorem gb_y_try {post : Int32 → SY → Prop} {b re de ke : Nat → Int32} {p : Int32} {q c : Nat} (hp : p = 0 ∨ p = 1) (hq : q < 49) (hc : c ≤ 40)
    (hS' : ¬ gb_free b p q → ∀ b' re' de' ke', (∀ i, i < 49 → b' i = gb_b2 b p q i) → (∀ i, i < 49 → ke' i = b i) → post (-5) (nI c, b', hi, hF, hS, ca, re', de', ke'))
    (hK : gb_free b p q → gb_ko c (gb_H hi) (gb_b2 b p q) → ∀ b' re' de' ke', (∀ i, i < 49 → b' i = gb_b2 b p q i) → (∀ i, i < 49 → ke' i = b i) → post (-6) (nI c, b', hi, hF, hS, ca, re', de', ke'))
    (hN : gb_free b p q → ¬ gb_ko c (gb_H hi) (gb_b2 b p q) → ∀ b' re' de' ke', (∀ i, i < 49 → b' i = gb_b2 b p q i) → (∀ i, i < 49 → ke' i = b i) → post (nI (gb_cn (gb_D b p q) 49)) (nI c, b', hi, hF, hS, ca, re', de', ke')) :
    wpY_tryMove post (nI c, b, hi, hF, hS, ca, re, de, ke) p (nI q) := by
  unfold wpY_tryMove
  exact ⟨50, gb_y_try2 hp hq hc hS' hK hN 50 0 ke (by omega) (by omega) (fun i y => absurd y (by omega))⟩
theorem gb_y_back2 {fd : Int32} {post : SY → Prop} {re de ke : Nat → Int32} (h : ∀ b', (∀ i, i < 49 → b' i = ke i) → post (fd, b', hi, hF, hS, ca, re, de, ke)) :
    ∀ (n k : Nat) (b : Nat → Int32), 50 ≤ n + k → k ≤ 49 → (∀ i, i < k → b i = ke i) → wY_putBack_2 post fd n (nI k) b hi hF hS ca re de ke := by
  intro n
  induction n with
  | zero => intro k b h1 h2; omega
  | succ n ih =>
    intro k b hn hk hI
    rcases Nat.lt_or_ge k 49 with z | z
    · have hin : vp_in (nI k) 49 := vp_in_nI z (by decide)
      refine br_f (nI_ge (b := 49) z (by decide)) ⟨hin, hin, nm_e (nm_r (nI_1 k) ?_)⟩
      rw [nI_clamp (show k < 2 ^ 31 by omega)]
      refine ih (k + 1) _ (by omega) (by omega) (fun i hi => ?_)
      rcases Nat.decEq i k with y | y
      · rw [gb_b1_n y]; exact hI i (by omega)
      · subst y; exact gb_b1_q
    · obtain rfl : k = 49 := by omega
      exact br_t (nI_le (a := 49) (b := 49) (by decide) (by decide)) (h b hI)
theorem gb_y_back {fd : Int32} {post : SY → Prop} {b re de ke : Nat → Int32} (h : ∀ b', (∀ i, i < 49 → b' i = ke i) → post (fd, b', hi, hF, hS, ca, re, de, ke)) :
    wpY_putBack post (fd, b, hi, hF, hS, ca, re, de, ke) := by
  unfold wpY_putBack
  exact ⟨50, gb_y_back2 h 50 0 b (by omega) (by omega) (fun i y => absurd y (by omega))⟩
end
section
variable {hF hS ca : Nat → Int32}
theorem gb_y_note2 {post : SY → Prop} {b hi0 re de ke : Nat → Int32} {c : Nat} (hc : c < 40)
    (h : ∀ hi', (∀ i, i < 49 → hi' (49 * c + i) = ke i) → (∀ j, j < 49 * c → hi' j = hi0 j) → post (nI (c + 1), b, hi', upd hF c (ca 0), upd hS c (ca 1), ca, re, de, ke)) :
    ∀ (n k : Nat) (hi : Nat → Int32), 50 ≤ n + k → k ≤ 49 → (∀ i, i < k → hi (49 * c + i) = ke i) → (∀ j, j < 49 * c → hi j = hi0 j) → wY_note_2 post (nI c) n (nI k) b hi hF hS ca re de ke := by
  intro n
  induction n with
  | zero => intro k hi h1 h2; omega
  | succ n ih =>
    intro k hi hn hk hI hJ
    rcases Nat.lt_or_ge k 49 with z | z
    · have hin : vp_in (nI k) 49 := vp_in_nI z (by decide)
      have ei : 49 * nI c + nI k = nI (49 * c + k) := by rw [show (49 : Int32) = nI 49 from rfl, pk_mul, nI_add]
      refine br_f (nI_ge (b := 49) z (by decide)) ⟨hin, ?_⟩
      rw [ei]
      refine ⟨vp_in_nI (by omega) (by decide), nm_e (nm_r (nI_1 k) ?_)⟩
      rw [nI_clamp (show k < 2 ^ 31 by omega), nI_clamp (show 49 * c + k < 2 ^ 31 by omega)]
      refine ih (k + 1) _ (by omega) (by omega) (fun i hi' => ?_) (fun j hj => ?_)
      · rcases Nat.decEq i k with y | y
        · rw [gb_b1_n (by omega)]; exact hI i (by omega)
        · subst y; exact gb_b1_q
      · rw [gb_b1_n (by omega)]; exact hJ j hj
    · obtain rfl : k = 49 := by omega
      have hi40 : vp_in (nI c) 40 := vp_in_nI hc (by decide)
      refine br_t (nI_le (a := 49) (b := 49) (by decide) (by decide)) ⟨hi40, ?_⟩
      rw [nI_clamp (show c < 2 ^ 31 by omega)]
      exact nm_e ⟨hi40, nm_e (nm_r (nI_1 c) (h hi hI hJ))⟩
theorem gb_y_note {post : SY → Prop} {b hi re de ke : Nat → Int32} {c : Nat} (hc : c < 40)
    (h : ∀ hi', (∀ i, i < 49 → hi' (49 * c + i) = ke i) → (∀ j, j < 49 * c → hi' j = hi j) → post (nI (c + 1), b, hi', upd hF c (ca 0), upd hS c (ca 1), ca, re, de, ke)) :
    wpY_note post (nI c, b, hi, hF, hS, ca, re, de, ke) := by
  unfold wpY_note
  exact ⟨50, gb_y_note2 hc h 50 0 hi (by omega) (by omega) (fun i y => absurd y (by omega)) (fun _ _ => rfl)⟩
end
end
section
/-! the relation; the constructors; small methods -/
/-- a board before a move, on both sides -/
def gb_E (fB fW : Int64) (t : Int32) (h : Nat → Int32) (f s : Int32) (i : Nat) : Prop :=
  gb_BR fB fW h ∧ ∃ x y : Nat, f = nI x ∧ s = nI y ∧ t = nI (x * 1000 + y) ∧ x + y + gb_cn (gb_st h) 49 ≤ 49 + i
def gb_G (fA fF fL fB fW : Int64) (c x y : Nat) (oB oW : Nat → Int64) (oT : Nat → Int32) (b hi hF hS ca : Nat → Int32) : Prop :=
  gb_M fA fF fL ∧ gb_BR fB fW b ∧ ca 0 = nI x ∧ ca 1 = nI y ∧ c ≤ 40 ∧ x + y + gb_cn (gb_st b) 49 ≤ 49 + c ∧
    ∀ i, i < c → gb_E (oB i) (oW i) (oT i) (gb_H hi i) (hF i) (hS i) i
def i_Rel (_ : Nat) (u : SX) (v : SY) : Prop := match u, v with
  | (fA, fF, fL, fB, fW, fc, fx, fy, _, _, oB, oW, oT), (fd, b, hi, hF, hS, ca, _, _, _) =>
    ∃ c x y : Nat, fc = nI c ∧ fx = nI x ∧ fy = nI y ∧ fd = nI c ∧ gb_G fA fF fL fB fW c x y oB oW oT b hi hF hS ca
theorem gb_in {k : Nat} {fA fF fL fB fW : Int64} {c x y : Nat} {t1 t2 : Int64} {oB oW : Nat → Int64} {oT : Nat → Int32} {b hi hF hS ca re de ke : Nat → Int32}
    (h : gb_G fA fF fL fB fW c x y oB oW oT b hi hF hS ca) :
    i_Rel k (fA, fF, fL, fB, fW, nI c, nI x, nI y, t1, t2, oB, oW, oT) (nI c, b, hi, hF, hS, ca, re, de, ke) := ⟨c, x, y, rfl, rfl, rfl, rfl, h⟩
theorem gb_el {k : Nat} {u : SX} {v : SY} {P : SX → SY → Prop}
    (h : ∀ (fA fF fL fB fW : Int64) (c x y : Nat) (t1 t2 : Int64) (oB oW : Nat → Int64) (oT : Nat → Int32) (b hi hF hS ca re de ke : Nat → Int32),
      gb_G fA fF fL fB fW c x y oB oW oT b hi hF hS ca → P (fA, fF, fL, fB, fW, nI c, nI x, nI y, t1, t2, oB, oW, oT) (nI c, b, hi, hF, hS, ca, re, de, ke))
    (I : i_Rel k u v) : P u v := by
  obtain ⟨fA, fF, fL, fB, fW, fc, fx, fy, t1, t2, oB, oW, oT⟩ := u
  obtain ⟨fd, b, hi, hF, hS, ca, re, de, ke⟩ := v
  obtain ⟨c, x, y, rfl, rfl, rfl, rfl, I⟩ := I
  exact h _ _ _ _ _ _ _ _ _ _ _ _ _ _ _ _ _ _ _ _ _ I
theorem i_up {k : Nat} {u : SX} {v : SY} (h : i_Rel k u v) : i_Rel (k + 3) u v := h
section
variable {fA fF fL fB fW : Int64} {fc fx fy : Int32} {t1 t2 : Int64} {oB oW : Nat → Int64} {oT : Nat → Int32}
theorem gb_x_init67 {post : SX → Prop} {J : Int64 → Int64 → Int64 → Int32 → Prop} {x1 x3 x5 : Int64} {k : Nat} (hk : k < 49) (h5 : gb_S x5 (fun i => i < k ∧ i % 7 = 6))
    (h : ∀ y5, gb_S y5 (fun i => i < k + 1 ∧ i % 7 = 6) → J x1 x3 y5 (nI (k + 1))) :
    wX_init_67 post J x1 x3 x5 (nI k) fA fF fL fB fW fc fx fy t1 t2 oB oW oT := by
  unfold wX_init_67
  refine ⟨by decide, ?_⟩
  rw [gb_rem7 hk]
  have hbit := gb_S_bit (q := k) (by omega)
  refine pk_eq (k % 7) 6 (fun e => nm_e (nm_r (nI_1 k) (h _ ?_))) (fun e => nm_r (nI_1 k) (h _ ?_))
  · exact gb_S_ext (gb_S_or h5 hbit) (fun i => by omega)
  · exact gb_S_ext h5 (fun i => by omega)
theorem gb_x_init38 {post : SX → Prop} (h : ∀ gA gF gL, gb_M gA gF gL → post (gA, gF, gL, fB, fW, fc, fx, fy, t1, t2, oB, oW, oT)) :
    ∀ (n k : Nat) (x1 x3 x5 : Int64), 50 ≤ n + k → k ≤ 49 → gb_S x1 (fun i => i < k) → gb_S x3 (fun i => i < k ∧ i % 7 = 0) → gb_S x5 (fun i => i < k ∧ i % 7 = 6) →
      wX_init_38 post fA fF fL fB fW fc fx fy t1 t2 oB oW oT n x1 x3 x5 (nI k) := by
  intro n
  induction n with
  | zero => intro k x1 x3 x5 h1 h2; omega
  | succ n ih =>
    intro k x1 x3 x5 hn hk h1 h3 h5
    rcases Nat.lt_or_ge k 49 with z | z
    · have hbit := gb_S_bit (q := k) (by omega)
      refine br_f (nI_ge (b := 49) z (by decide)) (nm_e ⟨by decide, ?_⟩)
      rw [gb_rem7 z]
      have h1' : gb_S (x1 ||| ((1 : Int64) <<< ((nI k).toInt64 &&& 63))) (fun i => i < k + 1) := gb_S_ext (gb_S_or h1 hbit) (fun i => by omega)
      refine pk_eq (k % 7) 0 (fun e => nm_e ?_) (fun e => ?_)
      · refine gb_x_init67 z h5 (fun y5 hy5 => ih (k + 1) _ _ _ (by omega) (by omega) h1' ?_ hy5)
        exact gb_S_ext (gb_S_or h3 hbit) (fun i => by omega)
      · refine gb_x_init67 z h5 (fun y5 hy5 => ih (k + 1) _ _ _ (by omega) (by omega) h1' ?_ hy5)
        exact gb_S_ext h3 (fun i => by omega)
    · obtain rfl : k = 49 := by omega
      refine br_t (nI_le (a := 49) (b := 49) (by decide) (by decide)) (nm_e (nm_e (h _ _ _ ⟨h1, ?_, ?_⟩)))
      · exact gb_S_ext (gb_S_diff h1 h3) (fun i => by omega)
      · exact gb_S_ext (gb_S_diff h1 h5) (fun i => by omega)
theorem gb_x_at {post : Int32 → Prop} {b : Nat → Int32} {q : Nat} (hb : gb_BR fB fW b) (hq : q < 49) (h : post (b q)) :
    wpX_at post (fA, fF, fL, fB, fW, fc, fx, fy, t1, t2, oB, oW, oT) (nI q) := by
  unfold wpX_at
  refine gb_x_point hq (br_t rfl ?_)
  have e0 := gb_S_test hb.1 (k := q) (by omega)
  have e1 := gb_S_test hb.2.1 (k := q) (by omega)
  rcases hb.2.2 q hq with z | z | z
  · rw [z] at h; exact br_t (e0.mpr ⟨hq, z⟩) h
  · rw [z] at h; exact br_f (fun y => gb_n10 (z.symm.trans (e0.mp y).2)) (br_t (e1.mpr ⟨hq, z⟩) h)
  · rw [z] at h; exact br_f (fun y => gb_n20 (z.symm.trans (e0.mp y).2)) (br_f (fun y => gb_n21 (z.symm.trans (e1.mp y).2)) h)
theorem gb_x_at_bad {post : Int32 → Prop} {q : Int32} (hq : q < 0 ∨ nI 49 ≤ q) (h : post (-1)) :
    wpX_at post (fA, fF, fL, fB, fW, fc, fx, fy, t1, t2, oB, oW, oT) q := by
  unfold wpX_at
  exact gb_x_nopoint hq (br_f gb_n10 h)
end
section
variable {fd : Int32} {b hi hF hS ca re de ke : Nat → Int32}
theorem gb_y_init70 {post : SY → Prop} (h : ∀ b', (∀ i, i < 49 → b' i = 2) → post (fd, b', hi, hF, hS, ca, re, de, ke)) :
    ∀ (n k : Nat) (b : Nat → Int32), 50 ≤ n + k → k ≤ 49 → (∀ i, i < k → b i = 2) → wY_init_70 post fd n (nI k) b hi hF hS ca re de ke := by
  intro n
  induction n with
  | zero => intro k b h1 h2; omega
  | succ n ih =>
    intro k b hn hk hI
    rcases Nat.lt_or_ge k 49 with z | z
    · have hin : vp_in (nI k) 49 := vp_in_nI z (by decide)
      refine br_f (nI_ge (b := 49) z (by decide)) ⟨hin, nm_e (nm_r (nI_1 k) ?_)⟩
      rw [nI_clamp (show k < 2 ^ 31 by omega)]
      refine ih (k + 1) _ (by omega) (by omega) (fun i hi => ?_)
      rcases Nat.decEq i k with y | y
      · rw [gb_b1_n y]; exact hI i (by omega)
      · subst y; exact gb_b1_q
    · obtain rfl : k = 49 := by omega
      exact br_t (nI_le (a := 49) (b := 49) (by decide) (by decide)) (h b hI)
theorem gb_y_point {post : Int32 → Prop} {q : Nat} (hq : q < 49) (h : post 1) : wpY_isPoint post (fd, b, hi, hF, hS, ca, re, de, ke) (nI q) := by
  unfold wpY_isPoint
  exact br_f (nI_pos (by omega)) (br_f (nI_nlt (a := 48) (by omega) (by omega)) h)
theorem gb_y_nopoint {post : Int32 → Prop} {q : Int32} (hq : q < 0 ∨ nI 49 ≤ q) (h : post 0) : wpY_isPoint post (fd, b, hi, hF, hS, ca, re, de, ke) q := by
  unfold wpY_isPoint
  rcases hq with z | z
  · exact br_t z h
  · refine br_c (fun _ => h) (fun _ => br_t ?_ h)
    rw [Int32.le_iff_toInt_le, nI_toInt (by decide)] at z
    rw [Int32.lt_iff_toInt_lt, show (48 : Int32).toInt = 48 from by decide]
    omega
theorem gb_y_player {post : Int32 → Prop} {p : Int32} (hp : p = 0 ∨ p = 1) (h : post 1) : wpY_isPlayer post (fd, b, hi, hF, hS, ca, re, de, ke) p := by
  unfold wpY_isPlayer
  rcases hp with rfl | rfl
  · exact br_t rfl h
  · exact br_f gb_n10 (br_t rfl h)
theorem gb_y_noplayer {post : Int32 → Prop} {p : Int32} (hp : ¬ (p = 0 ∨ p = 1)) (h : post 0) : wpY_isPlayer post (fd, b, hi, hF, hS, ca, re, de, ke) p := by
  unfold wpY_isPlayer
  exact br_f (fun z => hp (Or.inl z)) (br_f (fun z => hp (Or.inr z)) h)
end
theorem i_vc0 : wpX_init (fun u => wpY_init (fun v => i_Rel 0 u v)) := by
  unfold wpX_init
  refine ⟨50, gb_x_init38 (fun gA gF gL hM => ?_) 50 0 0 0 0 (by omega) (by omega) ?_ ?_ ?_⟩
  · unfold wpY_init
    refine ⟨50, gb_y_init70 (fun b' hb' => ?_) 50 0 _ (by omega) (by omega) (fun i z => absurd z (by omega))⟩
    refine gb_in (c := 0) (x := 0) (y := 0) ⟨hM, ⟨?_, ?_, fun i hi => Or.inr (Or.inr (hb' i hi))⟩, rfl, rfl, by omega, ?_, fun i z => absurd z (by omega)⟩
    · exact gb_S_ext gb_S_zero (fun i => ⟨fun z => z.elim, fun z => gb_n20 ((hb' i z.1).symm.trans z.2)⟩)
    · exact gb_S_ext gb_S_zero (fun i => ⟨fun z => z.elim, fun z => gb_n21 ((hb' i z.1).symm.trans z.2)⟩)
    · have := gb_cn_le (gb_st b') 49
      omega
  · exact gb_S_ext gb_S_zero (fun i => ⟨fun z => z.elim, fun z => absurd z (Nat.not_lt_zero i)⟩)
  · exact gb_S_ext gb_S_zero (fun i => ⟨fun z => z.elim, fun z => absurd z.1 (Nat.not_lt_zero i)⟩)
  · exact gb_S_ext gb_S_zero (fun i => ⟨fun z => z.elim, fun z => absurd z.1 (Nat.not_lt_zero i)⟩)
theorem i_vc_done {k : Nat} {u : SX} {v : SY} (I : i_Rel k u v) (hk : k + 3 ≤ 1536) : wpX_done (fun r => wpY_done (fun r' => r' = r ∧ i_Rel (k + 3) u v) v) u := by
  refine gb_el (P := fun u v => wpX_done (fun r => wpY_done (fun r' => r' = r ∧ i_Rel (k + 3) u v) v) u) ?_ I
  intro fA fF fL fB fW c x y t1 t2 oB oW oT b hi hF hS ca re de ke G
  exact ⟨rfl, gb_in G⟩
theorem i_vc_at {k : Nat} {u : SX} {v : SY} (I : i_Rel k u v) (hk : k + 3 ≤ 1536) (v1 : Int32) : wpX_at (fun r => wpY_at (fun r' => r' = r ∧ i_Rel (k + 3) u v) v v1) u v1 := by
  refine gb_el (P := fun u v => wpX_at (fun r => wpY_at (fun r' => r' = r ∧ i_Rel (k + 3) u v) v v1) u v1) ?_ I
  intro fA fF fL fB fW c x y t1 t2 oB oW oT b hi hF hS ca re de ke G
  rcases or_assoc.mpr (pk_ix v1 (n := 49) (by decide)) with z | ⟨q, hq, rfl⟩
  · refine gb_x_at_bad z ?_
    unfold wpY_at
    exact gb_y_nopoint z (br_t rfl ⟨rfl, gb_in G⟩)
  · refine gb_x_at G.2.1 hq ?_
    unfold wpY_at
    refine gb_y_point hq (br_f gb_n10 ⟨vp_in_nI hq (by decide), ?_⟩)
    exact ⟨congrArg b (nI_clamp (by omega)), gb_in G⟩
theorem i_vc_captured {k : Nat} {u : SX} {v : SY} (I : i_Rel k u v) (hk : k + 3 ≤ 1536) (v1 : Int32) : wpX_captured (fun r => wpY_captured (fun r' => r' = r ∧ i_Rel (k + 3) u v) v v1) u v1 := by
  refine gb_el (P := fun u v => wpX_captured (fun r => wpY_captured (fun r' => r' = r ∧ i_Rel (k + 3) u v) v v1) u v1) ?_ I
  intro fA fF fL fB fW c x y t1 t2 oB oW oT b hi hF hS ca re de ke G
  unfold wpX_captured wpY_captured
  rcases Classical.em (v1 = 0 ∨ v1 = 1) with z | z
  · refine gb_x_player z (br_t rfl ?_)
    rcases z with rfl | rfl
    · exact br_t rfl (gb_y_player (Or.inl rfl) (br_f gb_n10 ⟨vp_in_nI (n := 0) (by decide) (by decide), ⟨G.2.2.1, gb_in G⟩⟩))
    · exact br_f gb_n10 (gb_y_player (Or.inr rfl) (br_f gb_n10 ⟨vp_in_nI (n := 1) (by decide) (by decide), ⟨G.2.2.2.1, gb_in G⟩⟩))
  · exact gb_x_noplayer z (br_f gb_n10 (gb_y_noplayer z (br_t rfl ⟨rfl, gb_in G⟩)))
end
section
/-! pass, undo, set -/
theorem gb_E_ext {fB fW : Int64} {t : Int32} {h h' : Nat → Int32} {f s : Int32} {i : Nat} (E : gb_E fB fW t h f s i) (e : ∀ j, j < 49 → h' j = h j) : gb_E fB fW t h' f s i := by
  obtain ⟨hb, x, y, h1, h2, h3, h4⟩ := E
  refine ⟨gb_BR_ext hb e, x, y, h1, h2, h3, ?_⟩
  rw [gb_st_ext e]
  exact h4
theorem gb_pack (x y : Nat) : nI x * 1000 + nI y = nI (x * 1000 + y) := by
  show nI x * nI 1000 + nI y = _
  rw [pk_mul, nI_add]
/-- the board and the captures are noted on both sides -/
theorem gb_noted {fA fF fL fB fW : Int64} {c x y : Nat} {oB oW : Nat → Int64} {oT : Nat → Int32} {b hi hF hS ca hi' : Nat → Int32}
    (G : gb_G fA fF fL fB fW c x y oB oW oT b hi hF hS ca) (h1 : ∀ i, i < 49 → hi' (49 * c + i) = b i) (h2 : ∀ j, j < 49 * c → hi' j = hi j) :
    ∀ i, i < c + 1 → gb_E (vp_updL oB c fB i) (vp_updL oW c fW i) (upd oT c (nI x * 1000 + nI y) i) (gb_H hi' i) (upd hF c (ca 0) i) (upd hS c (ca 1) i) i := by
  intro i hi1
  obtain ⟨hM, hb, e0, e1, hc, hbd, hE⟩ := G
  rcases Nat.lt_or_ge i c with z | z
  · have ne : i ≠ c := by omega
    rw [pk_uLn ne, pk_uLn ne, gb_b1_n ne, gb_b1_n ne, gb_b1_n ne]
    exact gb_E_ext (hE i z) (fun j hj => h2 _ (by omega))
  · obtain rfl : i = c := by omega
    rw [pk_uLs, pk_uLs, gb_b1_q, gb_b1_q, gb_b1_q]
    refine gb_E_ext (h := b) ⟨hb, x, y, e0, e1, gb_pack x y, hbd⟩ (fun j hj => h1 j hj)
theorem gb_y_pass14 {post : Int32 → SY → Prop} {c : Nat} {b hi hF hS ca re de : Nat → Int32} (hc : c < 40)
    (h : ∀ hi' ke', (∀ i, i < 49 → hi' (49 * c + i) = b i) → (∀ j, j < 49 * c → hi' j = hi j) → post (nI (c + 1)) (nI (c + 1), b, hi', upd hF c (ca 0), upd hS c (ca 1), ca, re, de, ke')) :
    ∀ (n k : Nat) (ke : Nat → Int32), 50 ≤ n + k → k ≤ 49 → (∀ i, i < k → ke i = b i) → wY_pass_14 post (nI c) n (nI k) b hi hF hS ca re de ke := by
  intro n
  induction n with
  | zero => intro k ke h1 h2; omega
  | succ n ih =>
    intro k ke hn hk hI
    rcases Nat.lt_or_ge k 49 with z | z
    · have hin : vp_in (nI k) 49 := vp_in_nI z (by decide)
      refine br_f (nI_ge (b := 49) z (by decide)) ⟨hin, hin, nm_e (nm_r (nI_1 k) ?_)⟩
      rw [nI_clamp (show k < 2 ^ 31 by omega)]
      refine ih (k + 1) _ (by omega) (by omega) (fun i hi => ?_)
      rcases Nat.decEq i k with y | y
      · rw [gb_b1_n y]; exact hI i (by omega)
      · subst y; exact gb_b1_q
    · obtain rfl : k = 49 := by omega
      refine br_t (nI_le (a := 49) (b := 49) (by decide) (by decide)) ?_
      exact gb_y_note hc (fun hi' h1 h2 => h hi' ke (fun i hi => (h1 i hi).trans (hI i hi)) h2)
theorem i_vc_pass {k : Nat} {u : SX} {v : SY} (I : i_Rel k u v) (hk : k + 3 ≤ 1536) : wpX_pass (fun r u' => wpY_pass (fun r' v' => r' = r ∧ i_Rel (k + 3) u' v') v) u := by
  refine gb_el (P := fun u v => wpX_pass (fun r u' => wpY_pass (fun r' v' => r' = r ∧ i_Rel (k + 3) u' v') v) u) ?_ I
  intro fA fF fL fB fW c x y t1 t2 oB oW oT b hi hF hS ca re de ke G
  have hc := G.2.2.2.2.1
  unfold wpX_pass
  refine pk_eq c 40 (fun e => ?_) (fun e => ?_)
  · unfold wpY_pass
    exact pk_eq c 40 (fun _ => ⟨rfl, gb_in G⟩) (fun z => (z e).elim)
  · refine gb_x_store (by omega) ?_
    unfold wpY_pass
    refine pk_eq c 40 (fun z => (e z).elim) (fun _ => ⟨50, ?_⟩)
    refine gb_y_pass14 (by omega) (fun hi' ke' h1 h2 => ⟨rfl, gb_in ?_⟩) 50 0 ke (by omega) (by omega) (fun i y => absurd y (by omega))
    have hn := gb_noted G h1 h2
    obtain ⟨hM, hb, e0, e1, hc, hbd, hE⟩ := G
    exact ⟨hM, hb, e0, e1, by omega, by omega, hn⟩
theorem gb_y_undo22 {post : Int32 → SY → Prop} {c : Nat} {hi hF hS ca re de ke : Nat → Int32} (hc : c < 40)
    (h : ∀ b', (∀ i, i < 49 → b' i = hi (49 * c + i)) → post (nI c) (nI c, b', hi, hF, hS, upd (upd ca 0 (hF c)) 1 (hS c), re, de, ke)) :
    ∀ (n k : Nat) (b : Nat → Int32), 50 ≤ n + k → k ≤ 49 → (∀ i, i < k → b i = hi (49 * c + i)) → wY_undo_22 post (nI c) n (nI k) b hi hF hS ca re de ke := by
  intro n
  induction n with
  | zero => intro k b h1 h2; omega
  | succ n ih =>
    intro k b hn hk hI
    rcases Nat.lt_or_ge k 49 with z | z
    · have hin : vp_in (nI k) 49 := vp_in_nI z (by decide)
      have ei : 49 * nI c + nI k = nI (49 * c + k) := by rw [show (49 : Int32) = nI 49 from rfl, pk_mul, nI_add]
      refine br_f (nI_ge (b := 49) z (by decide)) ?_
      rw [ei]
      refine ⟨vp_in_nI (by omega) (by decide), hin, nm_e (nm_r (nI_1 k) ?_)⟩
      rw [nI_clamp (show k < 2 ^ 31 by omega), nI_clamp (show 49 * c + k < 2 ^ 31 by omega)]
      refine ih (k + 1) _ (by omega) (by omega) (fun i hi' => ?_)
      rcases Nat.decEq i k with y | y
      · rw [gb_b1_n y]; exact hI i (by omega)
      · subst y; exact gb_b1_q
    · obtain rfl : k = 49 := by omega
      have hi40 : vp_in (nI c) 40 := vp_in_nI hc (by decide)
      refine br_t (nI_le (a := 49) (b := 49) (by decide) (by decide)) ⟨hi40, ?_⟩
      rw [nI_clamp (show c < 2 ^ 31 by omega)]
      exact nm_e ⟨hi40, nm_e (h b hI)⟩
theorem gb_unpack {x y : Nat} (hx : x < 1000) (hy : y < 1000) : nI (x * 1000 + y) / 1000 = nI x ∧ nI (x * 1000 + y) - nI (x * 1000 + y) / 1000 * 1000 = nI y := by
  constructor
  · rw [show nI (x * 1000 + y) / 1000 = nI ((x * 1000 + y) / 1000) from pk_div (d := 1000) (by omega) (by decide) (by decide)]
    exact congrArg nI (by omega)
  · rw [show nI (x * 1000 + y) - nI (x * 1000 + y) / 1000 * 1000 = nI ((x * 1000 + y) % 1000) from pk_rem (d := 1000) (by omega) (by decide) (by decide)]
    exact congrArg nI (by omega)
theorem i_vc_undo {k : Nat} {u : SX} {v : SY} (I : i_Rel k u v) (hk : k + 3 ≤ 1536) : wpX_undo (fun r u' => wpY_undo (fun r' v' => r' = r ∧ i_Rel (k + 3) u' v') v) u := by
  refine gb_el (P := fun u v => wpX_undo (fun r u' => wpY_undo (fun r' v' => r' = r ∧ i_Rel (k + 3) u' v') v) u) ?_ I
  intro fA fF fL fB fW c x y t1 t2 oB oW oT b hi hF hS ca re de ke G
  unfold wpX_undo
  cases c with
  | zero =>
    refine br_t rfl ?_
    unfold wpY_undo
    exact br_t rfl ⟨rfl, gb_in G⟩
  | succ c =>
    obtain ⟨hM, hb, e0, e1, hc, hbd, hE⟩ := G
    obtain ⟨hb', x', y', hf, hs, ht, hbd'⟩ := hE c (by omega)
    have hne : ¬ nI (c + 1) = 0 := nI_ne0 (by omega) (by omega)
    have hin : vp_in (nI c) 40 := vp_in_nI (by omega) (by decide)
    have hup := gb_unpack (x := x') (y := y') (by omega) (by omega)
    refine br_f hne (nm_r (nI_pred c) ⟨hin, ?_⟩)
    rw [nI_clamp (show c < 2 ^ 31 by omega), ht]
    refine nm_e ⟨hin, nm_e ⟨hin, by decide, nm_r hup.1 ⟨hin, by decide, nm_r hup.2 ?_⟩⟩⟩
    unfold wpY_undo
    refine br_f hne (nm_r (nI_pred c) ⟨50, ?_⟩)
    refine gb_y_undo22 (by omega) (fun b' hb2 => ⟨rfl, gb_in ?_⟩) 50 0 b (by omega) (by omega) (fun i y => absurd y (by omega))
    refine ⟨hM, gb_BR_ext hb' hb2, ?_, ?_, by omega, ?_, fun i hi => hE i (by omega)⟩
    · rw [gb_b1_n (by omega), gb_b1_q]; exact hf
    · rw [gb_b1_q]; exact hs
    · have := gb_st_ext hb2
      rw [this]
      exact hbd'
/-- a point set by hand -/
theorem gb_set_in {k : Nat} {fA fF fL gB gW : Int64} {t1 t2 : Int64} {oB oW : Nat → Int64} {oT : Nat → Int32} {b hi hF hS ca re de ke : Nat → Int32}
    (hM : gb_M fA fF fL) (hb : gb_BR gB gW b) :
    i_Rel k (fA, fF, fL, gB, gW, 0, 0, 0, t1, t2, oB, oW, oT) (0, b, hi, hF, hS, upd (upd ca 0 0) 1 0, re, de, ke) := by
  refine gb_in (c := 0) (x := 0) (y := 0) ⟨hM, hb, ?_, ?_, by omega, ?_, fun i z => absurd z (by omega)⟩
  · rw [gb_b1_n (by omega), gb_b1_q]; rfl
  · rw [gb_b1_q]; rfl
  · have := gb_cn_le (gb_st b) 49
    omega
theorem i_vc_set {k : Nat} {u : SX} {v : SY} (I : i_Rel k u v) (hk : k + 3 ≤ 1536) (v1 : Int32) (v2 : Int32) : wpX_set (fun r u' => wpY_set (fun r' v' => r' = r ∧ i_Rel (k + 3) u' v') v v1 v2) u v1 v2 := by
  refine gb_el (P := fun u v => wpX_set (fun r u' => wpY_set (fun r' v' => r' = r ∧ i_Rel (k + 3) u' v') v v1 v2) u v1 v2) ?_ I
  intro fA fF fL fB fW c x y t1 t2 oB oW oT b hi hF hS ca re de ke G
  unfold wpX_set wpY_set
  refine br_c (fun hn => ?_) (fun hn => ?_)
  · exact br_t hn ⟨rfl, gb_in G⟩
  refine br_c (fun h2 => ?_) (fun h2 => ?_)
  · exact br_f hn (br_t h2 ⟨rfl, gb_in G⟩)
  have h3 : v1 = 0 ∨ v1 = 1 ∨ v1 = 2 := by
    obtain ⟨j, hj, rfl⟩ := nI_of2 (M := 2) (n := 2) (by decide) hn (Int32.not_lt.mp h2)
    rcases j with _ | _ | _ | j
    · exact Or.inl rfl
    · exact Or.inr (Or.inl rfl)
    · exact Or.inr (Or.inr rfl)
    · omega
  rcases or_assoc.mpr (pk_ix v2 (n := 49) (by decide)) with z | ⟨q, hq, rfl⟩
  · exact gb_x_nopoint z (br_f gb_n10 (br_f hn (br_f h2 (gb_y_nopoint z (br_t rfl ⟨rfl, gb_in G⟩)))))
  have G0 := G
  obtain ⟨hM, hb, -⟩ := G
  have hqin : vp_in (nI q) 49 := vp_in_nI hq (by decide)
  refine gb_x_point hq (br_t rfl ?_)
  have hbit := gb_S_bit (q := q) (by omega)
  intro x3 e3
  rw [← e3] at hbit
  have htk : ((fB ||| fW) &&& x3) = 0 ↔ b q = 2 := by
    rw [gb_S_eq0 (gb_S_and (gb_S_or hb.1 hb.2.1) hbit)]
    constructor
    · intro h
      rcases hb.2.2 q hq with z | z | z
      · exact (h q ⟨Or.inl ⟨hq, z⟩, rfl⟩).elim
      · exact (h q ⟨Or.inr ⟨hq, z⟩, rfl⟩).elim
      · exact z
    · rintro h i ⟨z, rfl⟩
      rcases z with z | z
      · exact gb_n20 (h.symm.trans z.2)
      · exact gb_n21 (h.symm.trans z.2)
  have hcl : (nI q).toNatClampNeg = q := nI_clamp (by omega)
  rcases Classical.em (b q = 2) with hbq | hbq
  · refine br_t (htk.mpr hbq) ?_
    rcases h3 with rfl | rfl | rfl
    · refine br_f gb_n02 (br_f gb_n01 (br_t rfl (nm_e ?_)))
      refine br_f hn (br_f h2 (gb_y_point hq (br_f gb_n10 ⟨hqin, ?_⟩)))
      rw [hcl]
      refine br_t hbq (br_f (by decide) (br_t rfl ⟨hqin, nm_e (nm_e (nm_e ⟨rfl, ?_⟩))⟩))
      rw [hcl]
      refine gb_set_in hM ⟨?_, ?_, gb_b1_in (Or.inl rfl) hb.2.2⟩
      · exact gb_S_ext (gb_S_or hb.1 hbit) (fun i => (gb_b1C_p hq i).symm)
      · exact gb_S_ext hb.2.1 (fun i => (gb_b1C_o gb_n01 (fun z => gb_n21 (hbq.symm.trans z)) i).symm)
    · refine br_f gb_n12 (br_f gb_n01 (br_f gb_n10 (br_t rfl (nm_e ?_))))
      refine br_f hn (br_f h2 (gb_y_point hq (br_f gb_n10 ⟨hqin, ?_⟩)))
      rw [hcl]
      refine br_t hbq (br_f (by decide) (br_t rfl ⟨hqin, nm_e (nm_e (nm_e ⟨rfl, ?_⟩))⟩))
      rw [hcl]
      refine gb_set_in hM ⟨?_, ?_, gb_b1_in (Or.inr (Or.inl rfl)) hb.2.2⟩
      · exact gb_S_ext hb.1 (fun i => (gb_b1C_o gb_n10 (fun z => gb_n20 (hbq.symm.trans z)) i).symm)
      · exact gb_S_ext (gb_S_or hb.2.1 hbit) (fun i => (gb_b1C_p hq i).symm)
    · refine br_t rfl (br_t rfl ?_)
      refine br_f hn (br_f h2 (gb_y_point hq (br_f gb_n10 ⟨hqin, ?_⟩)))
      rw [hcl]
      exact br_t hbq (br_t (by decide) (br_f gb_n10 ⟨rfl, gb_in G0⟩))
  · refine br_f (fun z => hbq (htk.mp z)) ?_
    rcases h3 with rfl | rfl | rfl
    · refine br_f gb_n02 (br_t rfl ?_)
      refine br_f hn (br_f h2 (gb_y_point hq (br_f gb_n10 ⟨hqin, ?_⟩)))
      rw [hcl]
      exact br_f hbq (br_f (by decide) (br_f gb_n01 ⟨rfl, gb_in G0⟩))
    · refine br_f gb_n12 (br_t rfl ?_)
      refine br_f hn (br_f h2 (gb_y_point hq (br_f gb_n10 ⟨hqin, ?_⟩)))
      rw [hcl]
      exact br_f hbq (br_f (by decide) (br_f gb_n01 ⟨rfl, gb_in G0⟩))
    · refine br_t rfl (br_f gb_n10 (br_f gb_n20 (br_f gb_n21 (nm_e (nm_e ?_)))))
      refine br_f hn (br_f h2 (gb_y_point hq (br_f gb_n10 ⟨hqin, ?_⟩)))
      rw [hcl]
      refine br_f hbq (br_t (by decide) (br_t rfl ⟨hqin, nm_e (nm_e (nm_e ⟨rfl, ?_⟩))⟩))
      rw [hcl]
      refine gb_set_in hM ⟨?_, ?_, gb_b1_in (Or.inr (Or.inr rfl)) hb.2.2⟩
      · exact gb_S_ext (gb_S_diff hb.1 hbit) (fun i => (gb_b1C_del gb_n20 i).symm)
      · exact gb_S_ext (gb_S_diff hb.2.1 hbit) (fun i => (gb_b1C_del gb_n21 i).symm)
end
section
/-! play, trial, moves -/
/-- a move may be done -/
def gb_Z (b : Nat → Int32) (p : Int32) (c : Nat) (H : Nat → Nat → Int32) (q : Nat) : Prop := b q = 2 ∧ gb_free b p q ∧ ¬ gb_ko c H (gb_b2 b p q)
section
variable {b b' : Nat → Int32}
theorem gb_D_ext (h : ∀ i, i < 49 → b' i = b i) (p : Int32) (q : Nat) : gb_D b' p q = gb_D b p q := by
  funext i
  unfold gb_D
  rw [gb_C_ext (gb_upd_ext h p q), gb_C_ext (gb_upd_ext h p q)]
theorem gb_b2_ext (h : ∀ i, i < 49 → b' i = b i) (p : Int32) (q : Nat) : ∀ i, i < 49 → gb_b2 b' p q i = gb_b2 b p q i := by
  intro i hi
  have e := congrFun (gb_D_ext h p q) i
  rcases Classical.em (gb_D b p q i) with d | d
  · rw [gb_b2_d d, gb_b2_d (e.symm ▸ d)]
  · rw [gb_b2_n d, gb_b2_n (e.symm ▸ d)]
    exact gb_upd_ext h p q i hi
theorem gb_free_ext (h : ∀ i, i < 49 → b' i = b i) (p : Int32) (q : Nat) : gb_free b' p q = gb_free b p q := by
  unfold gb_free
  rw [gb_C_ext (gb_b2_ext h p q), gb_C_ext (gb_b2_ext h p q)]
theorem gb_ko_ext {H : Nat → Nat → Int32} {c : Nat} (h : ∀ i, i < 49 → b' i = b i) : gb_ko c H b' ↔ gb_ko c H b := by
  unfold gb_ko
  exact ⟨fun z => ⟨z.1, fun i hi => (h i hi).symm.trans (z.2 i hi)⟩, fun z => ⟨z.1, fun i hi => (h i hi).trans (z.2 i hi)⟩⟩
theorem gb_Z_ext {H : Nat → Nat → Int32} {c : Nat} (h : ∀ i, i < 49 → b' i = b i) (p : Int32) {q : Nat} (hq : q < 49) : gb_Z b' p c H q ↔ gb_Z b p c H q := by
  unfold gb_Z
  rw [h q hq, gb_free_ext h, gb_ko_ext (gb_b2_ext h p q)]
end
theorem gb_m_ne {m : Nat} (hm : m < 2 ^ 31) : ¬ nI m = -1 ∧ ¬ nI m = -2 := by
  have h := nI_pos' hm
  constructor
  · intro e; rw [e] at h; exact absurd h (by decide)
  · intro e; rw [e] at h; exact absurd h (by decide)
section
variable {hi hF hS ca : Nat → Int32}
theorem gb_y_trial {post : Int32 → SY → Prop} {b re de ke : Nat → Int32} {p : Int32} {q c : Nat} (hp : p = 0 ∨ p = 1) (hq : q < 49) (hc : c ≤ 40)
    (h2 : ¬ b q = 2 → post (-2) (nI c, b, hi, hF, hS, ca, re, de, ke))
    (hS' : b q = 2 → ¬ gb_free b p q → ∀ b' re' de' ke', (∀ i, i < 49 → b' i = b i) → post (-5) (nI c, b', hi, hF, hS, ca, re', de', ke'))
    (hK : b q = 2 → gb_free b p q → gb_ko c (gb_H hi) (gb_b2 b p q) → ∀ b' re' de' ke', (∀ i, i < 49 → b' i = b i) → post (-6) (nI c, b', hi, hF, hS, ca, re', de', ke'))
    (hN : b q = 2 → gb_free b p q → ¬ gb_ko c (gb_H hi) (gb_b2 b p q) → ∀ b' re' de' ke', (∀ i, i < 49 → b' i = b i) → post (nI (gb_cn (gb_D b p q) 49)) (nI c, b', hi, hF, hS, ca, re', de', ke')) :
    wpY_trial post (nI c, b, hi, hF, hS, ca, re, de, ke) p (nI q) := by
  have hqin : vp_in (nI q) 49 := vp_in_nI hq (by decide)
  unfold wpY_trial
  refine gb_y_player hp (br_f gb_n10 (gb_y_point hq (br_f gb_n10 ⟨hqin, ?_⟩)))
  rw [nI_clamp (show q < 2 ^ 31 by omega)]
  refine br_c (fun hbq => ?_) (fun hbq => h2 hbq)
  refine gb_y_try hp hq hc (fun f b' re' de' ke' _ hke => ?_) (fun f k b' re' de' ke' _ hke => ?_) (fun f k b' re' de' ke' _ hke => ?_)
  · exact gb_y_back (fun b'' hb'' => hS' hbq f b'' re' de' ke' (fun i hi => (hb'' i hi).trans (hke i hi)))
  · exact gb_y_back (fun b'' hb'' => hK hbq f k b'' re' de' ke' (fun i hi => (hb'' i hi).trans (hke i hi)))
  · exact gb_y_back (fun b'' hb'' => hN hbq f k b'' re' de' ke' (fun i hi => (hb'' i hi).trans (hke i hi)))
theorem gb_y_play {post : Int32 → SY → Prop} {b re de ke : Nat → Int32} {p : Int32} {q c P : Nat} (hp : p = 0 ∨ p = 1) (hP : p = nI P) (hP2 : P < 2) (hq : q < 49) (hc : c ≤ 40)
    (h2 : ¬ b q = 2 → post (-2) (nI c, b, hi, hF, hS, ca, re, de, ke))
    (h40 : b q = 2 → c = 40 → post (-3) (nI c, b, hi, hF, hS, ca, re, de, ke))
    (hS' : b q = 2 → c < 40 → ¬ gb_free b p q → ∀ b' re' de' ke', (∀ i, i < 49 → b' i = b i) → post (-5) (nI c, b', hi, hF, hS, ca, re', de', ke'))
    (hK : b q = 2 → c < 40 → gb_free b p q → gb_ko c (gb_H hi) (gb_b2 b p q) → ∀ b' re' de' ke', (∀ i, i < 49 → b' i = b i) → post (-6) (nI c, b', hi, hF, hS, ca, re', de', ke'))
    (hN : b q = 2 → c < 40 → gb_free b p q → ¬ gb_ko c (gb_H hi) (gb_b2 b p q) → ∀ b' hi' re' de' ke', (∀ i, i < 49 → b' i = gb_b2 b p q i) →
      (∀ i, i < 49 → hi' (49 * c + i) = b i) → (∀ j, j < 49 * c → hi' j = hi j) →
      post (nI (gb_cn (gb_D b p q) 49)) (nI (c + 1), b', hi', upd hF c (ca 0), upd hS c (ca 1), upd ca P (ca P + nI (gb_cn (gb_D b p q) 49)), re', de', ke')) :
    wpY_play post (nI c, b, hi, hF, hS, ca, re, de, ke) p (nI q) := by
  have hqin : vp_in (nI q) 49 := vp_in_nI hq (by decide)
  have hpin : vp_in p 2 := by rw [hP]; exact vp_in_nI hP2 (by decide)
  have hpcl : p.toNatClampNeg = P := by rw [hP]; exact nI_clamp (by omega)
  have hm := gb_cn_le (gb_D b p q) 49
  unfold wpY_play
  refine gb_y_player hp (br_f gb_n10 (gb_y_point hq (br_f gb_n10 ⟨hqin, ?_⟩)))
  rw [nI_clamp (show q < 2 ^ 31 by omega)]
  refine br_c (fun hbq => ?_) (fun hbq => h2 hbq)
  refine pk_eq c 40 (fun e => h40 hbq e) (fun e => ?_)
  have hc' : c < 40 := by omega
  refine gb_y_try hp hq hc (fun f b' re' de' ke' _ hke => ?_) (fun f k b' re' de' ke' _ hke => ?_) (fun f k b' re' de' ke' hb' hke => ?_)
  · exact br_f (by decide) (gb_y_back (fun b'' hb'' => hS' hbq hc' f b'' re' de' ke' (fun i hi => (hb'' i hi).trans (hke i hi))))
  · exact br_f (by decide) (gb_y_back (fun b'' hb'' => hK hbq hc' f k b'' re' de' ke' (fun i hi => (hb'' i hi).trans (hke i hi))))
  · refine br_t (nI_pos' (by omega)) (gb_y_note hc' (fun hi' h1 h2 => ⟨hpin, hpin, ?_⟩))
    rw [hpcl]
    exact nm_e (hN hbq hc' f k b' hi' re' de' ke' hb' (fun i hi => (h1 i hi).trans (hke i hi)) h2)
end
theorem i_vc_trial {k : Nat} {u : SX} {v : SY} (I : i_Rel k u v) (hk : k + 3 ≤ 1536) (v1 : Int32) (v2 : Int32) : wpX_trial (fun r u' => wpY_trial (fun r' v' => r' = r ∧ i_Rel (k + 3) u' v') v v1 v2) u v1 v2 := by
  refine gb_el (P := fun u v => wpX_trial (fun r u' => wpY_trial (fun r' v' => r' = r ∧ i_Rel (k + 3) u' v') v v1 v2) u v1 v2) ?_ I
  intro fA fF fL fB fW c x y t1 t2 oB oW oT b hi hF hS ca re de ke G
  have fin : ∀ b', (∀ i, i < 49 → b' i = b i) → gb_G fA fF fL fB fW c x y oB oW oT b' hi hF hS ca := by
    intro b' hb'
    obtain ⟨hM, hb, e0, e1, hc, hbd, hE⟩ := G
    refine ⟨hM, gb_BR_ext hb hb', e0, e1, hc, ?_, hE⟩
    rw [gb_st_ext hb']
    exact hbd
  have G0 := G
  obtain ⟨hM, hb, e0, e1, hc, hbd, hE⟩ := G
  unfold wpX_trial
  rcases Classical.em (v1 = 0 ∨ v1 = 1) with hp | hp
  · rcases or_assoc.mpr (pk_ix v2 (n := 49) (by decide)) with z | ⟨q, hq, rfl⟩
    · refine gb_x_attempt_bad (Or.inr z) ?_
      unfold wpY_trial
      exact gb_y_player hp (br_f gb_n10 (gb_y_nopoint z (br_t rfl ⟨rfl, gb_in G0⟩)))
    · refine gb_x_attempt hM hb hp hq hc (H := gb_H hi) (fun i z => (hE i z).1) (fun h2 => ?_) (fun h2 hf => ?_) (fun h2 hf hko tB tW => ?_) (fun h2 hf hko tB tW _ => ?_)
      · exact gb_y_trial hp hq hc (fun _ => ⟨rfl, gb_in G0⟩) (fun z => (h2 z).elim) (fun z => (h2 z).elim) (fun z => (h2 z).elim)
      · exact gb_y_trial hp hq hc (fun z => (z h2).elim) (fun _ _ b' re' de' ke' hb' => ⟨rfl, gb_in (fin b' hb')⟩) (fun _ z => (hf z).elim) (fun _ z => (hf z).elim)
      · exact gb_y_trial hp hq hc (fun z => (z h2).elim) (fun _ z => (z hf).elim) (fun _ _ _ b' re' de' ke' hb' => ⟨rfl, gb_in (fin b' hb')⟩) (fun _ _ z => (z hko).elim)
      · exact gb_y_trial hp hq hc (fun z => (z h2).elim) (fun _ z => (z hf).elim) (fun _ _ z => (hko z).elim) (fun _ _ _ b' re' de' ke' hb' => ⟨rfl, gb_in (fin b' hb')⟩)
  · refine gb_x_attempt_bad (Or.inl hp) ?_
    unfold wpY_trial
    exact gb_y_noplayer hp (br_t rfl ⟨rfl, gb_in G0⟩)
/-- the state after a move done -/
theorem gb_moved {fA fF fL fB fW tB tW : Int64} {c x y : Nat} {oB oW : Nat → Int64} {oT : Nat → Int32} {b hi hF hS ca hi' b' : Nat → Int32} {p : Int32} {q x' y' P : Nat}
    (G : gb_G fA fF fL fB fW c x y oB oW oT b hi hF hS ca) (hp : p = 0 ∨ p = 1) (hq : q < 49) (hc : c < 40) (hbq : b q = 2) (hT : gb_BR tB tW (gb_b2 b p q))
    (hb' : ∀ i, i < 49 → b' i = gb_b2 b p q i) (h1 : ∀ i, i < 49 → hi' (49 * c + i) = b i) (h2 : ∀ j, j < 49 * c → hi' j = hi j)
    (hx : (P = 0 ∧ x' = x + gb_cn (gb_D b p q) 49 ∧ y' = y) ∨ (P = 1 ∧ x' = x ∧ y' = y + gb_cn (gb_D b p q) 49)) :
    gb_G fA fF fL tB tW (c + 1) x' y' (vp_updL oB c fB) (vp_updL oW c fW) (upd oT c (nI x * 1000 + nI y)) b' hi' (upd hF c (ca 0)) (upd hS c (ca 1)) (upd ca P (ca P + nI (gb_cn (gb_D b p q) 49))) := by
  have hn := gb_noted G h1 h2
  obtain ⟨hM, hb, e0, e1, hc, hbd, hE⟩ := G
  have hst := gb_st_move (b := b) hp hq hbq
  refine ⟨hM, gb_BR_ext hT hb', ?_, ?_, by omega, ?_, hn⟩
  · rcases hx with ⟨rfl, rfl, rfl⟩ | ⟨rfl, rfl, rfl⟩
    · rw [gb_b1_q, e0, nI_add]
    · rw [gb_b1_n (by omega), e0]
  · rcases hx with ⟨rfl, rfl, rfl⟩ | ⟨rfl, rfl, rfl⟩
    · rw [gb_b1_n (by omega), e1]
    · rw [gb_b1_q, e1, nI_add]
  · rw [gb_st_ext hb']
    omega
theorem i_vc_play {k : Nat} {u : SX} {v : SY} (I : i_Rel k u v) (hk : k + 3 ≤ 1536) (v1 : Int32) (v2 : Int32) : wpX_play (fun r u' => wpY_play (fun r' v' => r' = r ∧ i_Rel (k + 3) u' v') v v1 v2) u v1 v2 := by
  refine gb_el (P := fun u v => wpX_play (fun r u' => wpY_play (fun r' v' => r' = r ∧ i_Rel (k + 3) u' v') v v1 v2) u v1 v2) ?_ I
  intro fA fF fL fB fW c x y t1 t2 oB oW oT b hi hF hS ca re de ke G
  have fin : ∀ b', (∀ i, i < 49 → b' i = b i) → gb_G fA fF fL fB fW c x y oB oW oT b' hi hF hS ca := by
    intro b' hb'
    obtain ⟨hM, hb, e0, e1, hc, hbd, hE⟩ := G
    refine ⟨hM, gb_BR_ext hb hb', e0, e1, hc, ?_, hE⟩
    rw [gb_st_ext hb']
    exact hbd
  have G0 := G
  obtain ⟨hM, hb, e0, e1, hc, hbd, hE⟩ := G
  unfold wpX_play
  rcases Classical.em (v1 = 0 ∨ v1 = 1) with hp | hp
  · rcases or_assoc.mpr (pk_ix v2 (n := 49) (by decide)) with z | ⟨q, hq, rfl⟩
    · refine gb_x_attempt_bad (Or.inr z) (br_t rfl ?_)
      unfold wpY_play
      exact gb_y_player hp (br_f gb_n10 (gb_y_nopoint z (br_t rfl ⟨rfl, gb_in G0⟩)))
    · obtain ⟨P, hP, hP2⟩ : ∃ P : Nat, v1 = nI P ∧ P < 2 := hp.elim (fun e => ⟨0, e, by omega⟩) (fun e => ⟨1, e, by omega⟩)
      have hm := gb_cn_le (gb_D b v1 q) 49
      have hmn := gb_m_ne (m := gb_cn (gb_D b v1 q) 49) (by omega)
      refine gb_x_attempt hM hb hp hq hc (H := gb_H hi) (fun i z => (hE i z).1) (fun h2 => ?_) (fun h2 hf => ?_) (fun h2 hf hko tB tW => ?_) (fun h2 hf hko tB tW hT => ?_)
      · refine br_f (by decide) (br_t rfl ?_)
        exact gb_y_play hp hP hP2 hq hc (fun _ => ⟨rfl, gb_in G0⟩) (fun z => (h2 z).elim) (fun z => (h2 z).elim) (fun z => (h2 z).elim) (fun z => (h2 z).elim)
      · refine br_f (by decide) (br_f (by decide) (pk_eq c 40 (fun e => ?_) (fun e => br_f (by decide) ?_)))
        · exact gb_y_play hp hP hP2 hq hc (fun z => (z h2).elim) (fun _ _ => ⟨rfl, gb_in G0⟩) (fun _ z => absurd z (by omega)) (fun _ z => absurd z (by omega)) (fun _ z => absurd z (by omega))
        · exact gb_y_play hp hP hP2 hq hc (fun z => (z h2).elim) (fun _ z => (e z).elim) (fun _ _ _ b' re' de' ke' hb' => ⟨rfl, gb_in (fin b' hb')⟩) (fun _ _ z => (hf z).elim) (fun _ _ z => (hf z).elim)
      · refine br_f (by decide) (br_f (by decide) (pk_eq c 40 (fun e => ?_) (fun e => br_f (by decide) ?_)))
        · exact gb_y_play hp hP hP2 hq hc (fun z => (z h2).elim) (fun _ _ => ⟨rfl, gb_in G0⟩) (fun _ z => absurd z (by omega)) (fun _ z => absurd z (by omega)) (fun _ z => absurd z (by omega))
        · exact gb_y_play hp hP hP2 hq hc (fun z => (z h2).elim) (fun _ z => (e z).elim) (fun _ _ z => (z hf).elim) (fun _ _ _ _ b' re' de' ke' hb' => ⟨rfl, gb_in (fin b' hb')⟩) (fun _ _ _ z => (z hko).elim)
      · refine br_f hmn.1 (br_f hmn.2 (pk_eq c 40 (fun e => ?_) (fun e => br_t (nI_pos' (by omega)) ?_)))
        · exact gb_y_play hp hP hP2 hq hc (fun z => (z h2).elim) (fun _ _ => ⟨rfl, gb_in G0⟩) (fun _ z => absurd z (by omega)) (fun _ z => absurd z (by omega)) (fun _ z => absurd z (by omega))
        · refine gb_x_store (by omega) ?_
          rcases hp with rfl | rfl
          · refine br_t rfl (nm_r (nI_add _ _) ?_)
            refine gb_y_play (P := 0) (Or.inl rfl) rfl (by omega) hq hc (fun z => (z h2).elim) (fun _ z => (e z).elim) (fun _ _ z => (z hf).elim) (fun _ _ _ z => (hko z).elim) (fun _ hc' _ _ b' hi' re' de' ke' hb' h1 h3 => ⟨rfl, gb_in ?_⟩)
            exact gb_moved G0 (Or.inl rfl) hq hc' h2 hT hb' h1 h3 (Or.inl ⟨rfl, rfl, rfl⟩)
          · refine br_f gb_n10 (nm_r (nI_add _ _) ?_)
            refine gb_y_play (P := 1) (Or.inr rfl) rfl (by omega) hq hc (fun z => (z h2).elim) (fun _ z => (e z).elim) (fun _ _ z => (z hf).elim) (fun _ _ _ z => (hko z).elim) (fun _ hc' _ _ b' hi' re' de' ke' hb' h1 h3 => ⟨rfl, gb_in ?_⟩)
            exact gb_moved G0 (Or.inr rfl) hq hc' h2 hT hb' h1 h3 (Or.inr ⟨rfl, rfl, rfl⟩)
  · refine gb_x_attempt_bad (Or.inl hp) (br_t rfl ?_)
    unfold wpY_play
    exact gb_y_noplayer hp (br_t rfl ⟨rfl, gb_in G0⟩)
end
section
/-! moves -/
section
variable {fA fF fL fB fW : Int64} {fx fy : Int32} {oB oW : Nat → Int64} {oT : Nat → Int32}
theorem gb_x_moves14 {post : Int32 → SX → Prop} {c : Nat} {H : Nat → Nat → Int32} {b : Nat → Int32} {p : Int32} (hM : gb_M fA fF fL) (hb : gb_BR fB fW b)
    (hp : p = 0 ∨ p = 1) (hc : c ≤ 40) (hH : ∀ i, i < c → gb_BR (oB i) (oW i) (H i))
    (h : ∀ t1 t2, post (nI (gb_cn (gb_Z b p c H) 49)) (fA, fF, fL, fB, fW, nI c, fx, fy, t1, t2, oB, oW, oT)) :
    ∀ (n k : Nat) (t1 t2 : Int64), 50 ≤ n + k → k ≤ 49 → wX_moves_14 post p n (nI (gb_cn (gb_Z b p c H) k)) (nI k) fA fF fL fB fW (nI c) fx fy t1 t2 oB oW oT := by
  intro n
  induction n with
  | zero => intro k t1 t2 h1 h2; omega
  | succ n ih =>
    intro k t1 t2 hn hk
    rcases Nat.lt_or_ge k 49 with z | z
    · refine br_f (nI_ge (b := 49) z (by decide)) ?_
      have no : ¬ gb_Z b p c H k → ∀ t1 t2, wX_moves_14 post p n (nI (gb_cn (gb_Z b p c H) k)) (nI (k + 1)) fA fF fL fB fW (nI c) fx fy t1 t2 oB oW oT := by
        intro hz t1 t2
        rw [← gb_cn_f hz]
        exact ih (k + 1) t1 t2 (by omega) (by omega)
      refine gb_x_attempt hM hb hp z hc hH (fun h2 => ?_) (fun h2 hf => ?_) (fun h2 hf hko tB tW => ?_) (fun h2 hf hko tB tW hT => ?_)
      · exact br_t (by decide) (nm_r (nI_1 k) (no (fun y => h2 y.1) _ _))
      · exact br_t (by decide) (nm_r (nI_1 k) (no (fun y => hf y.2.1) _ _))
      · exact br_t (by decide) (nm_r (nI_1 k) (no (fun y => y.2.2 hko) _ _))
      · have hz : gb_Z b p c H k := ⟨h2, hf, hko⟩
        have hle := gb_cn_le (gb_D b p k) 49
        refine br_f (nI_pos (by omega)) (nm_r (nI_1 _) (nm_r (nI_1 k) ?_))
        rw [← gb_cn_t hz]
        exact ih (k + 1) tB tW (by omega) (by omega)
    · obtain rfl : k = 49 := by omega
      exact br_t (nI_le (a := 49) (b := 49) (by decide) (by decide)) (h t1 t2)
end
section
variable {hi hF hS ca : Nat → Int32}
theorem gb_y_moves14 {post : Int32 → SY → Prop} {b0 : Nat → Int32} {p : Int32} {c : Nat} (hp : p = 0 ∨ p = 1) (hc : c ≤ 40)
    (h : ∀ b re de ke, (∀ i, i < 49 → b i = b0 i) → post (nI (gb_cn (gb_Z b0 p c (gb_H hi)) 49)) (nI c, b, hi, hF, hS, ca, re, de, ke)) :
    ∀ (n k : Nat) (b re de ke : Nat → Int32), 50 ≤ n + k → k ≤ 49 → (∀ i, i < 49 → b i = b0 i) →
      wY_moves_14 post p n (nI (gb_cn (gb_Z b0 p c (gb_H hi)) k)) (nI k) (nI c) b hi hF hS ca re de ke := by
  intro n
  induction n with
  | zero => intro k b re de ke h1 h2; omega
  | succ n ih =>
    intro k b re de ke hn hk hI
    rcases Nat.lt_or_ge k 49 with z | z
    · refine br_f (nI_ge (b := 49) z (by decide)) ?_
      have hz := gb_Z_ext (H := gb_H hi) (c := c) hI p z
      have no : ¬ gb_Z b p c (gb_H hi) k → ∀ b' re' de' ke', (∀ i, i < 49 → b' i = b i) → wY_moves_14 post p n (nI (gb_cn (gb_Z b0 p c (gb_H hi)) k)) (nI (k + 1)) (nI c) b' hi hF hS ca re' de' ke' := by
        intro hn' b' re' de' ke' hb'
        rw [← gb_cn_f (fun y => hn' (hz.mpr y))]
        exact ih (k + 1) b' re' de' ke' (by omega) (by omega) (fun i y => (hb' i y).trans (hI i y))
      refine gb_y_trial hp z hc (fun h2 => ?_) (fun h2 hf b' re' de' ke' hb' => ?_) (fun h2 hf hko b' re' de' ke' hb' => ?_) (fun h2 hf hko b' re' de' ke' hb' => ?_)
      · exact br_t (by decide) (nm_r (nI_1 k) (no (fun y => h2 y.1) _ _ _ _ (fun _ _ => rfl)))
      · exact br_t (by decide) (nm_r (nI_1 k) (no (fun y => hf y.2.1) _ _ _ _ hb'))
      · exact br_t (by decide) (nm_r (nI_1 k) (no (fun y => y.2.2 hko) _ _ _ _ hb'))
      · have hz' : gb_Z b0 p c (gb_H hi) k := hz.mp ⟨h2, hf, hko⟩
        have hle := gb_cn_le (gb_D b p k) 49
        refine br_f (nI_pos (by omega)) (nm_r (nI_1 _) (nm_r (nI_1 k) ?_))
        rw [← gb_cn_t hz']
        exact ih (k + 1) b' re' de' ke' (by omega) (by omega) (fun i y => (hb' i y).trans (hI i y))
    · obtain rfl : k = 49 := by omega
      exact br_t (nI_le (a := 49) (b := 49) (by decide) (by decide)) (h b re de ke hI)
end
theorem i_vc_moves {k : Nat} {u : SX} {v : SY} (I : i_Rel k u v) (hk : k + 3 ≤ 1536) (v1 : Int32) : wpX_moves (fun r u' => wpY_moves (fun r' v' => r' = r ∧ i_Rel (k + 3) u' v') v v1) u v1 := by
  refine gb_el (P := fun u v => wpX_moves (fun r u' => wpY_moves (fun r' v' => r' = r ∧ i_Rel (k + 3) u' v') v v1) u v1) ?_ I
  intro fA fF fL fB fW c x y t1 t2 oB oW oT b hi hF hS ca re de ke G
  have fin : ∀ b', (∀ i, i < 49 → b' i = b i) → gb_G fA fF fL fB fW c x y oB oW oT b' hi hF hS ca := by
    intro b' hb'
    obtain ⟨hM, hb, e0, e1, hc, hbd, hE⟩ := G
    refine ⟨hM, gb_BR_ext hb hb', e0, e1, hc, ?_, hE⟩
    rw [gb_st_ext hb']
    exact hbd
  have G0 := G
  obtain ⟨hM, hb, e0, e1, hc, hbd, hE⟩ := G
  unfold wpX_moves
  rcases Classical.em (v1 = 0 ∨ v1 = 1) with hp | hp
  · refine gb_x_player hp (br_t rfl ⟨50, ?_⟩)
    refine gb_x_moves14 (H := gb_H hi) hM hb hp hc (fun i z => (hE i z).1) (fun t1 t2 => ?_) 50 0 t1 t2 (by omega) (by omega)
    unfold wpY_moves
    refine gb_y_player hp (br_f gb_n10 ⟨50, ?_⟩)
    exact gb_y_moves14 hp hc (fun b' re' de' ke' hb' => ⟨rfl, gb_in (fin b' hb')⟩) 50 0 b re de ke (by omega) (by omega) (fun _ _ => rfl)
  · refine gb_x_noplayer hp (br_f gb_n10 ?_)
    unfold wpY_moves
    exact gb_y_noplayer hp (br_t rfl ⟨rfl, gb_in G0⟩)
end
section
/-! groupSize, liberties, region, score -/
theorem gb_N_lib (b : Nat → Int32) (G : Nat → Prop) (i : Nat) : (gb_N G i ∧ gb_C b 2 i) ↔ gb_lib b G i := by
  constructor
  · rintro ⟨⟨_, j, hj, a⟩, hc⟩
    exact ⟨hc, j, gb_adj_sym a, hj⟩
  · rintro ⟨hc, s, a, hs⟩
    exact ⟨⟨hc.1, s, hs, gb_adj_sym a⟩, hc⟩
section
variable {fA fF fL fB fW : Int64} {fc fx fy : Int32} {t1 t2 : Int64} {oB oW : Nat → Int64} {oT : Nat → Int32}
theorem gb_x_groupAt {post : Int64 → Prop} {b : Nat → Int32} {q : Nat} (hM : gb_M fA fF fL) (hb : gb_BR fB fW b) (hq : q < 49) (hbq : ¬ b q = 2)
    (h : ∀ r, gb_S r (gb_R1 (gb_C b (b q)) q) → post r) : wpX_groupAt post (fA, fF, fL, fB, fW, fc, fx, fy, t1, t2, oB, oW, oT) (nI q) := by
  unfold wpX_groupAt
  have hbit := gb_S_bit (q := q) (by omega)
  intro x2 e2
  rw [← e2] at hbit
  have e0 := gb_S_eq0 (gb_S_and hb.1 hbit)
  rcases hb.2.2 q hq with z | z | z
  · refine br_f (fun y => e0.mp y q ⟨⟨hq, z⟩, rfl⟩) (gb_x_grown hM hbit hb.1 gb_C_lt (fun r hr => h r ?_))
    rw [z]; exact hr
  · refine br_t (e0.mpr ?_) (gb_x_grown hM hbit hb.2.1 gb_C_lt (fun r hr => h r ?_))
    · rintro i ⟨y, rfl⟩
      exact gb_n10 (z.symm.trans y.2)
    · rw [z]; exact hr
  · exact (hbq z).elim
end
theorem gb_b_m1 {x : Int32} (h : x = 0 ∨ x = 1 ∨ x = 2) : ¬ x = -1 := by
  rcases h with rfl | rfl | rfl <;> decide
theorem i_vc_groupSize {k : Nat} {u : SX} {v : SY} (I : i_Rel k u v) (hk : k + 3 ≤ 1536) (v1 : Int32) : wpX_groupSize (fun r => wpY_groupSize (fun r' v' => r' = r ∧ i_Rel (k + 3) u v') v v1) u v1 := by
  refine gb_el (P := fun u v => wpX_groupSize (fun r => wpY_groupSize (fun r' v' => r' = r ∧ i_Rel (k + 3) u v') v v1) u v1) ?_ I
  intro fA fF fL fB fW c x y t1 t2 oB oW oT b hi hF hS ca re de ke G
  unfold wpX_groupSize
  rcases or_assoc.mpr (pk_ix v1 (n := 49) (by decide)) with z | ⟨q, hq, rfl⟩
  · refine gb_x_at_bad z (br_t rfl (br_f (by decide) ?_))
    unfold wpY_groupSize
    exact gb_y_nopoint z (br_t rfl ⟨rfl, gb_in G⟩)
  · have hqin : vp_in (nI q) 49 := vp_in_nI hq (by decide)
    refine gb_x_at G.2.1 hq (br_f (gb_b_m1 (G.2.1.2.2 q hq)) (br_c (fun e => ?_) (fun e => ?_)))
    · refine br_t e ?_
      unfold wpY_groupSize
      refine gb_y_point hq (br_f gb_n10 ⟨hqin, ?_⟩)
      rw [nI_clamp (show q < 2 ^ 31 by omega)]
      exact br_t e ⟨rfl, gb_in G⟩
    · refine gb_x_groupAt G.1 G.2.1 hq e (fun r hr => gb_x_sizeOf hr ?_)
      unfold wpY_groupSize
      refine gb_y_point hq (br_f gb_n10 ⟨hqin, ?_⟩)
      rw [nI_clamp (show q < 2 ^ 31 by omega)]
      exact br_f e (gb_y_reach hq (fun re' _ => ⟨rfl, gb_in G⟩))
theorem i_vc_liberties {k : Nat} {u : SX} {v : SY} (I : i_Rel k u v) (hk : k + 3 ≤ 1536) (v1 : Int32) : wpX_liberties (fun r => wpY_liberties (fun r' v' => r' = r ∧ i_Rel (k + 3) u v') v v1) u v1 := by
  refine gb_el (P := fun u v => wpX_liberties (fun r => wpY_liberties (fun r' v' => r' = r ∧ i_Rel (k + 3) u v') v v1) u v1) ?_ I
  intro fA fF fL fB fW c x y t1 t2 oB oW oT b hi hF hS ca re de ke G
  unfold wpX_liberties
  rcases or_assoc.mpr (pk_ix v1 (n := 49) (by decide)) with z | ⟨q, hq, rfl⟩
  · refine gb_x_at_bad z (br_t rfl (br_f (by decide) ?_))
    unfold wpY_liberties
    exact gb_y_nopoint z (br_t rfl ⟨rfl, gb_in G⟩)
  · have hqin : vp_in (nI q) 49 := vp_in_nI hq (by decide)
    refine gb_x_at G.2.1 hq (br_f (gb_b_m1 (G.2.1.2.2 q hq)) (br_c (fun e => ?_) (fun e => ?_)))
    · refine br_t e ?_
      unfold wpY_liberties
      refine gb_y_point hq (br_f gb_n10 ⟨hqin, ?_⟩)
      rw [nI_clamp (show q < 2 ^ 31 by omega)]
      exact br_t e ⟨rfl, gb_in G⟩
    · refine gb_x_groupAt G.1 G.2.1 hq e (fun g hg => gb_x_empty G.1 G.2.1 (fun o ho => gb_x_around G.1 hg (fun i y => gb_C_lt i (gb_R_in y)) (fun r hr => ?_)))
      intro fr efr
      have hfr : gb_S fr (gb_lib b (gb_R1 (gb_C b (b q)) q)) := by
        rw [efr]
        exact gb_S_ext (gb_S_and hr ho) (gb_N_lib b _)
      refine gb_x_sizeOf hfr ?_
      unfold wpY_liberties
      refine gb_y_point hq (br_f gb_n10 ⟨hqin, ?_⟩)
      rw [nI_clamp (show q < 2 ^ 31 by omega)]
      refine br_f e (gb_y_reach hq (fun re' hre => gb_y_libs ?_))
      rw [hre]
      exact ⟨rfl, gb_in G⟩
theorem i_vc_region {k : Nat} {u : SX} {v : SY} (I : i_Rel k u v) (hk : k + 3 ≤ 1536) (v1 : Int32) : wpX_region (fun r => wpY_region (fun r' v' => r' = r ∧ i_Rel (k + 3) u v') v v1) u v1 := by
  refine gb_el (P := fun u v => wpX_region (fun r => wpY_region (fun r' v' => r' = r ∧ i_Rel (k + 3) u v') v v1) u v1) ?_ I
  intro fA fF fL fB fW c x y t1 t2 oB oW oT b hi hF hS ca re de ke G
  unfold wpX_region
  rcases or_assoc.mpr (pk_ix v1 (n := 49) (by decide)) with z | ⟨q, hq, rfl⟩
  · refine gb_x_nopoint z (br_f gb_n10 ?_)
    unfold wpY_region
    exact gb_y_nopoint z (br_t rfl ⟨rfl, gb_in G⟩)
  · have hqin : vp_in (nI q) 49 := vp_in_nI hq (by decide)
    refine gb_x_point hq (br_t rfl (gb_x_empty G.1 G.2.1 (fun o ho => ?_)))
    have hbit := gb_S_bit (q := q) (by omega)
    intro x4 e4
    rw [← e4] at hbit
    have e0 := gb_S_eq0 (gb_S_and ho hbit)
    refine br_c (fun e => ?_) (fun e => ?_)
    · have hbq : ¬ b q = 2 := fun y => e0.mp e q ⟨⟨hq, y⟩, rfl⟩
      unfold wpY_region
      refine gb_y_point hq (br_f gb_n10 ⟨hqin, ?_⟩)
      rw [nI_clamp (show q < 2 ^ 31 by omega)]
      exact br_f hbq ⟨rfl, gb_in G⟩
    · have hbq : b q = 2 := Classical.byContradiction (fun y => e (e0.mpr (fun i w => y (by have := w.1.2; rw [w.2] at this; exact this))))
      refine gb_x_grown G.1 hbit ho gb_C_lt (fun g hg => gb_x_sizeOf hg ?_)
      unfold wpY_region
      refine gb_y_point hq (br_f gb_n10 ⟨hqin, ?_⟩)
      rw [nI_clamp (show q < 2 ^ 31 by omega)]
      refine br_t hbq (gb_y_reach hq (fun re' _ => ?_))
      rw [hbq]
      exact ⟨rfl, gb_in G⟩
/-- the region of i touches c -/
def gb_tc (b : Nat → Int32) (c : Int32) (i : Nat) : Prop := ∃ o s, gb_C b c o ∧ gb_adj o s ∧ gb_R1 (gb_C b 2) i s
def gb_sc (b : Nat → Int32) (p : Int32) (i : Nat) : Prop := gb_C b p i ∨ (gb_C b 2 i ∧ gb_tc b p i ∧ ¬ gb_tc b (1 - p) i)
theorem gb_R_tc (b : Nat → Int32) (c : Int32) (i : Nat) : gb_R (gb_C b 2) (fun i => gb_N (gb_C b c) i ∧ gb_C b 2 i) i ↔ gb_C b 2 i ∧ gb_tc b c i := by
  rw [gb_R_ext (fun _ => Iff.rfl) (fun i => and_comm (a := gb_N (gb_C b c) i) (b := gb_C b 2 i)), gb_R_beside gb_C_lt]
  exact Iff.rfl
section
variable {fd : Int32} {b hi hF hS ca de ke : Nat → Int32}
theorem gb_y_touch2 {post : Int32 → Prop} {re : Nat → Int32} {c : Int32} (h1 : (∃ o s, gb_C b c o ∧ gb_adj o s ∧ gb_A re s) → post 1) (h0 : ¬ (∃ o s, gb_C b c o ∧ gb_adj o s ∧ gb_A re s) → post 0) :
    ∀ (n k : Nat), 50 ≤ n + k → k ≤ 49 → (∀ o s, gb_C b c o → gb_adj o s → gb_A re s → k ≤ s) → wY_touches_2 post c fd b hi hF hS ca re de ke n (nI k) := by
  intro n
  induction n with
  | zero => intro k h1 h2; omega
  | succ n ih =>
    intro k hn hk hI
    rcases Nat.lt_or_ge k 49 with z | z
    · have hin : vp_in (nI k) 49 := vp_in_nI z (by decide)
      refine br_f (nI_ge (b := 49) z (by decide)) ⟨hin, ?_⟩
      rw [nI_clamp (show k < 2 ^ 31 by omega)]
      have next : (∀ o, gb_C b c o → gb_adj o k → ¬ gb_A re k) → wY_touches_2 post c fd b hi hF hS ca re de ke n (nI (k + 1)) := by
        intro hno
        refine ih (k + 1) (by omega) (by omega) (fun o s ho a hs => ?_)
        have := hI o s ho a hs
        rcases Nat.decEq s k with y | y
        · omega
        · subst y; exact (hno o ho a hs).elim
      refine br_c (fun e => nm_r (nI_1 k) (next (fun o _ _ hA => hA.2 e))) (fun e => gb_y_besides z (fun hex => ?_) (fun hno => ?_))
      · obtain ⟨r, hr, a, hbr, _⟩ := hex
        exact br_f gb_n10 (h1 ⟨r, k, ⟨hr, hbr⟩, gb_adj_sym a, z, e⟩)
      · exact br_t rfl (nm_r (nI_1 k) (next (fun o ho a _ => hno ⟨o, ho.1, gb_adj_sym a, ho.2, Or.inl rfl⟩)))
    · obtain rfl : k = 49 := by omega
      refine br_t (nI_le (a := 49) (b := 49) (by decide) (by decide)) (h0 ?_)
      rintro ⟨o, s, ho, a, hs⟩
      have := hI o s ho a hs
      have := hs.1
      omega
theorem gb_y_touch {post : Int32 → Prop} {re : Nat → Int32} {c : Int32} (h1 : (∃ o s, gb_C b c o ∧ gb_adj o s ∧ gb_A re s) → post 1) (h0 : ¬ (∃ o s, gb_C b c o ∧ gb_adj o s ∧ gb_A re s) → post 0) :
    wpY_touches post (fd, b, hi, hF, hS, ca, re, de, ke) c := by
  unfold wpY_touches
  exact ⟨50, gb_y_touch2 h1 h0 50 0 (by omega) (by omega) (fun _ s _ _ _ => Nat.zero_le s)⟩
theorem gb_y_score33 {post : Int32 → SY → Prop} {J : Int32 → Int32 → Int32 → (Nat → Int32) → (Nat → Int32) → (Nat → Int32) → (Nat → Int32) → (Nat → Int32) → (Nat → Int32) → (Nat → Int32) → (Nat → Int32) → Prop}
    {re : Nat → Int32} {p : Int32} {k m : Nat} (hk : k < 49)
    (h : ∀ re' m', ((b k = 2 ∧ gb_tc b p k ∧ ¬ gb_tc b (1 - p) k) → m' = m + 1) → (¬ (b k = 2 ∧ gb_tc b p k ∧ ¬ gb_tc b (1 - p) k) → m' = m) → J (nI m') (nI (k + 1)) fd b hi hF hS ca re' de ke) :
    wY_score_33 post J p (nI m) (nI k) fd b hi hF hS ca re de ke := by
  unfold wY_score_33
  refine ⟨vp_in_nI hk (by decide), ?_⟩
  rw [nI_clamp (show k < 2 ^ 31 by omega)]
  refine br_c (fun e => ?_) (fun e => ?_)
  · refine gb_y_reach hk (fun re' hre => ?_)
    rw [e] at hre
    have t : ∀ c, (∃ o s, gb_C b c o ∧ gb_adj o s ∧ gb_A re' s) ↔ gb_tc b c k := by
      intro c
      rw [hre]
      exact Iff.rfl
    refine gb_y_touch (fun h1 => ?_) (fun h1 => ?_)
    · have h1 := (t p).mp h1
      refine br_f gb_n10 (gb_y_touch (fun h2 => ?_) (fun h2 => ?_))
      · have h2 := (t (1 - p)).mp h2
        exact br_f gb_n10 (nm_r (nI_1 k) (h re' m (fun z => (z.2.2 h2).elim) (fun _ => rfl)))
      · have h2 := fun z => h2 ((t (1 - p)).mpr z)
        exact br_t rfl (nm_r (nI_1 m) (nm_r (nI_1 k) (h re' (m + 1) (fun _ => rfl) (fun z => (z ⟨e, h1, h2⟩).elim))))
    · have h1 := fun z => h1 ((t p).mpr z)
      exact br_t rfl (nm_r (nI_1 k) (h re' m (fun z => (h1 z.2.1).elim) (fun _ => rfl)))
  · exact nm_r (nI_1 k) (h re m (fun z => (e z.1).elim) (fun _ => rfl))
theorem gb_y_score14 {post : Int32 → SY → Prop} {p : Int32} (hp : p = 0 ∨ p = 1) (h : ∀ re, post (nI (gb_cn (gb_sc b p) 49)) (fd, b, hi, hF, hS, ca, re, de, ke)) :
    ∀ (n k : Nat) (re : Nat → Int32), 50 ≤ n + k → k ≤ 49 → wY_score_14 post p n (nI (gb_cn (gb_sc b p) k)) (nI k) fd b hi hF hS ca re de ke := by
  have o := gb_opp hp
  intro n
  induction n with
  | zero => intro k re h1 h2; omega
  | succ n ih =>
    intro k re hn hk
    rcases Nat.lt_or_ge k 49 with z | z
    · refine br_f (nI_ge (b := 49) z (by decide)) ⟨vp_in_nI z (by decide), ?_⟩
      rw [nI_clamp (show k < 2 ^ 31 by omega)]
      refine br_c (fun e => nm_r (nI_1 _) ?_) (fun e => ?_)
      · refine gb_y_score33 z (fun re' m' h1 h2 => ?_)
        have hm := h2 (fun y => o.2.1 (e.symm.trans y.1))
        have hs : gb_sc b p k := Or.inl ⟨z, e⟩
        rw [hm, ← gb_cn_t hs]
        exact ih (k + 1) re' (by omega) (by omega)
      · refine gb_y_score33 z (fun re' m' h1 h2 => ?_)
        rcases Classical.em (b k = 2 ∧ gb_tc b p k ∧ ¬ gb_tc b (1 - p) k) with y | y
        · have hs : gb_sc b p k := Or.inr ⟨⟨z, y.1⟩, y.2⟩
          rw [h1 y, ← gb_cn_t hs]
          exact ih (k + 1) re' (by omega) (by omega)
        · have hs : ¬ gb_sc b p k := fun w => w.elim (fun w => e w.2) (fun w => y ⟨w.1.2, w.2⟩)
          rw [h2 y, ← gb_cn_f hs]
          exact ih (k + 1) re' (by omega) (by omega)
    · obtain rfl : k = 49 := by omega
      exact br_t (nI_le (a := 49) (b := 49) (by decide) (by decide)) (h re)
end
theorem i_vc_score {k : Nat} {u : SX} {v : SY} (I : i_Rel k u v) (hk : k + 3 ≤ 1536) (v1 : Int32) : wpX_score (fun r => wpY_score (fun r' v' => r' = r ∧ i_Rel (k + 3) u v') v v1) u v1 := by
  refine gb_el (P := fun u v => wpX_score (fun r => wpY_score (fun r' v' => r' = r ∧ i_Rel (k + 3) u v') v v1) u v1) ?_ I
  intro fA fF fL fB fW c x y t1 t2 oB oW oT b hi hF hS ca re de ke G
  unfold wpX_score
  rcases Classical.em (v1 = 0 ∨ v1 = 1) with hp | hp
  · have o := gb_opp hp
    refine gb_x_player hp (br_t rfl ?_)
    refine gb_x_stones G.2.1 hp (fun mi hmi => ?_)
    refine gb_x_stones G.2.1 o.2.2.2 (fun th hth => ?_)
    refine gb_x_empty G.1 G.2.1 (fun op hop => ?_)
    refine gb_x_around G.1 hth gb_C_lt (fun a1 ha1 => ?_)
    intro x8 e8
    refine gb_x_around G.1 hmi gb_C_lt (fun a2 ha2 => ?_)
    intro x10 e10
    have h8 := gb_S_and ha1 hop
    have h10 := gb_S_and ha2 hop
    rw [← e8] at h8
    rw [← e10] at h10
    refine gb_x_grown G.1 h8 hop gb_C_lt (fun g1 hg1 => ?_)
    refine gb_x_grown G.1 h10 hop gb_C_lt (fun g2 hg2 => ?_)
    have hs : gb_S (mi ||| (g2 &&& (g1 ^^^ (-1)))) (gb_sc b v1) := by
      refine gb_S_ext (gb_S_or hmi (gb_S_diff hg2 hg1)) (fun i => ?_)
      rw [gb_R_tc, gb_R_tc]
      unfold gb_sc
      exact or_congr Iff.rfl ⟨fun z => ⟨z.1.1, z.1.2, fun w => z.2 ⟨z.1.1, w⟩⟩, fun z => ⟨⟨z.1, z.2.1⟩, fun w => z.2.2 w.2⟩⟩
    refine gb_x_sizeOf hs ?_
    unfold wpY_score
    refine gb_y_player hp (br_f gb_n10 ⟨50, ?_⟩)
    exact gb_y_score14 hp (fun re' => ⟨rfl, gb_in G⟩) 50 0 re (by omega) (by omega)
  · refine gb_x_noplayer hp (br_f gb_n10 ?_)
    unfold wpY_score
    exact gb_y_noplayer hp (br_t rfl ⟨rfl, gb_in G⟩)
end
section
/-! groups, inAtari -/
theorem gb_least (P : Nat → Prop) (h : ∃ k, P k) : ∃ k, P k ∧ ∀ j, P j → k ≤ j := by
  obtain ⟨k, hk⟩ := h
  have key : ∀ n k, k < n → P k → ∃ k, P k ∧ ∀ j, P j → k ≤ j := by
    intro n
    induction n with
    | zero => intro k h; omega
    | succ n ih =>
      intro k hkn hk
      rcases Classical.em (∃ j, P j ∧ j < k) with ⟨j, hj, hl⟩ | z
      · exact ih j (by omega) hj
      · exact ⟨k, hk, fun j hj => Nat.le_of_not_lt (fun l => z ⟨j, hj, l⟩)⟩
  exact key (k + 1) k (by omega) hk
/-- the least point of its group -/
def gb_mi (W : Nat → Prop) (k : Nat) : Prop := W k ∧ ∀ i, gb_R1 W k i → k ≤ i
/-- in atari -/
def gb_at (b : Nat → Int32) (W : Nat → Prop) (k : Nat) : Prop := W k ∧ gb_cn (gb_lib b (gb_R1 W k)) 49 = 1
/-- a union of groups: the rest without the group of its least point is one -/
def gb_cl (W L : Nat → Prop) : Prop := (∀ i, L i → W i) ∧ ∀ i j, L i → gb_adj i j → W j → L j
theorem gb_cl_R {W L : Nat → Prop} (h : gb_cl W L) {q r : Nat} (hq : L q) (hr : gb_R1 W q r) : L r :=
  hr L (fun i e _ => by rw [e]; exact hq) (fun i j t a w => h.2 i j t a w)
theorem gb_cl_next {W L : Nat → Prop} (h : gb_cl W L) (q : Nat) : gb_cl W (fun i => L i ∧ ¬ gb_R1 W q i) :=
  ⟨fun i l => h.1 i l.1, fun i j l a w => ⟨h.2 i j l.1 a w, fun r => l.2 (gb_R_step r (gb_adj_sym a) (h.1 i l.1))⟩⟩
theorem gb_mi_next {W L : Nat → Prop} (h : gb_cl W L) {q : Nat} (hq : L q) (hl : ∀ i, L i → q ≤ i) (hq49 : q < 49) :
    gb_cn (fun k => gb_mi W k ∧ ¬ (L k ∧ ¬ gb_R1 W q k)) 49 = gb_cn (fun k => gb_mi W k ∧ ¬ L k) 49 + 1 := by
  rw [← gb_cn_one q hq49, ← gb_cn_or (P := fun k => gb_mi W k ∧ ¬ L k) (Q := fun k => k = q) (fun k _ m e => m.2 (by rw [e]; exact hq))]
  apply gb_cn_eq
  intro k _
  constructor
  · rintro ⟨m, n⟩
    rcases Classical.em (L k) with l | l
    · have r : gb_R1 W q k := Classical.byContradiction (fun z => n ⟨l, z⟩)
      have := m.2 q (gb_R1_sym r)
      have := hl k l
      exact Or.inr (by omega)
    · exact Or.inl ⟨m, l⟩
  · rintro (m | e)
    · exact ⟨m.1, fun z => m.2 z.1⟩
    · rw [e]
      exact ⟨⟨h.1 q hq, fun i r => hl i (gb_cl_R h hq r)⟩, fun z => z.2 (gb_R1_base (h.1 q hq))⟩
theorem gb_at_same {b : Nat → Int32} {W : Nat → Prop} {q k : Nat} (h : gb_R1 W q k) : gb_at b W q ↔ gb_at b W k := by
  unfold gb_at
  rw [gb_R1_same h]
  exact ⟨fun z => ⟨gb_R_in h, z.2⟩, fun z => ⟨gb_R1_src h, z.2⟩⟩
theorem gb_at_yes {b : Nat → Int32} {W L : Nat → Prop} (h : gb_cl W L) {q : Nat} (hq : L q) (ha : gb_at b W q) :
    gb_cn (fun k => gb_at b W k ∧ ¬ (L k ∧ ¬ gb_R1 W q k)) 49 = gb_cn (fun k => gb_at b W k ∧ ¬ L k) 49 + gb_cn (gb_R1 W q) 49 := by
  rw [← gb_cn_or (P := fun k => gb_at b W k ∧ ¬ L k) (Q := gb_R1 W q) (fun k _ m r => m.2 (gb_cl_R h hq r))]
  apply gb_cn_eq
  intro k _
  constructor
  · rintro ⟨m, n⟩
    rcases Classical.em (L k) with l | l
    · exact Or.inr (Classical.byContradiction (fun z => n ⟨l, z⟩))
    · exact Or.inl ⟨m, l⟩
  · rintro (m | r)
    · exact ⟨m.1, fun z => m.2 z.1⟩
    · exact ⟨(gb_at_same r).mp ha, fun z => z.2 r⟩
theorem gb_at_no {b : Nat → Int32} {W L : Nat → Prop} {q : Nat} (ha : ¬ gb_at b W q) :
    gb_cn (fun k => gb_at b W k ∧ ¬ (L k ∧ ¬ gb_R1 W q k)) 49 = gb_cn (fun k => gb_at b W k ∧ ¬ L k) 49 := by
  apply gb_cn_eq
  intro k _
  constructor
  · rintro ⟨m, n⟩
    refine ⟨m, fun l => ?_⟩
    have r : gb_R1 W q k := Classical.byContradiction (fun z => n ⟨l, z⟩)
    exact ha ((gb_at_same r).mpr m)
  · rintro ⟨m, n⟩
    exact ⟨m, fun z => n z.1⟩
section
variable {fA fF fL fB fW : Int64} {fc fx fy : Int32} {t1 t2 : Int64} {oB oW : Nat → Int64} {oT : Nat → Int32}
theorem gb_x_groups22 {post : Int32 → Prop} {W : Nat → Prop} (hM : gb_M fA fF fL) (hW : ∀ i, W i → i < 49) (h : post (nI (gb_cn (gb_mi W) 49))) :
    ∀ (n m : Nat) (x : Int64) (L : Nat → Prop), 50 ≤ n + m → gb_S x L → gb_cl W L → gb_cn (fun k => gb_mi W k ∧ ¬ L k) 49 = m →
      wX_groups_22 post fA fF fL fB fW fc fx fy t1 t2 oB oW oT n x (nI m) (nI m) := by
  intro n
  induction n with
  | zero => intro m x L hn hx hL hm; have := gb_cn_le (fun k => gb_mi W k ∧ ¬ L k) 49; omega
  | succ n ih =>
    intro m x L hn hx hL hm
    have hle := gb_cn_le (fun k => gb_mi W k ∧ ¬ L k) 49
    have fin : (∀ k, k < 49 → ¬ L k) → post (nI m) := by
      intro hno
      have e : gb_cn (fun k => gb_mi W k ∧ ¬ L k) 49 = gb_cn (gb_mi W) 49 := gb_cn_eq (fun k hk => ⟨fun z => z.1, fun z => ⟨z, hno k hk⟩⟩)
      rw [← hm, e]
      exact h
    refine pk_le 49 m (fun hl => ?_) (fun hl => ?_)
    · exact fin (fun k hk => (gb_cn_full (P := fun k => gb_mi W k ∧ ¬ L k) (N := 49) (by omega) k hk).2)
    · refine br_c (fun e => fin (fun k _ => (gb_S_eq0 hx).mp e k)) (fun e => ?_)
      have hex : ∃ k, L k := Classical.byContradiction (fun z => e ((gb_S_eq0 hx).mpr (fun i l => z ⟨i, l⟩)))
      obtain ⟨q, hq, hlq⟩ := gb_least L hex
      have hlow := gb_S_low hx hq hlq
      unfold wpX_lowest
      refine gb_x_grown hM hlow hx (fun i l => hW i (hL.1 i l)) (fun g hg => ?_)
      have hg : gb_S g (gb_R1 W q) := gb_S_ext hg (fun i => gb_R1_part hL.1 hL.2 hq i)
      refine nm_e (nm_r (nI_1 m) (nm_r (nI_1 m) ?_))
      refine ih (m + 1) _ _ (by omega) (gb_S_diff hx hg) (gb_cl_next hL q) ?_
      rw [gb_mi_next hL hq hlq (hW q (hL.1 q hq)), hm]
theorem gb_x_atari28 {post : Int32 → Prop} {W : Nat → Prop} {b : Nat → Int32} {op : Int64} (hM : gb_M fA fF fL) (hW : ∀ i, W i → i < 49) (hop : gb_S op (gb_C b 2)) (h : post (nI (gb_cn (gb_at b W) 49))) :
    ∀ (n j : Nat) (x : Int64) (L : Nat → Prop), 50 ≤ n + j → gb_S x L → gb_cl W L → j ≤ gb_cn (fun k => W k ∧ ¬ L k) 49 →
      wX_inAtari_28 post op fA fF fL fB fW fc fx fy t1 t2 oB oW oT n x (nI (gb_cn (fun k => gb_at b W k ∧ ¬ L k) 49)) (nI j) := by
  intro n
  induction n with
  | zero => intro j x L hn hx hL hm; have := gb_cn_le (fun k => W k ∧ ¬ L k) 49; omega
  | succ n ih =>
    intro j x L hn hx hL hm
    have hle := gb_cn_le (fun k => W k ∧ ¬ L k) 49
    have fin : (∀ k, k < 49 → ¬ L k) → post (nI (gb_cn (fun k => gb_at b W k ∧ ¬ L k) 49)) := by
      intro hno
      have e : gb_cn (fun k => gb_at b W k ∧ ¬ L k) 49 = gb_cn (gb_at b W) 49 := gb_cn_eq (fun k hk => ⟨fun z => z.1, fun z => ⟨z, hno k hk⟩⟩)
      rw [e]
      exact h
    refine pk_le 49 j (fun hl => ?_) (fun hl => ?_)
    · exact fin (fun k hk => (gb_cn_full (P := fun k => W k ∧ ¬ L k) (N := 49) (by omega) k hk).2)
    · refine br_c (fun e => fin (fun k _ => (gb_S_eq0 hx).mp e k)) (fun e => ?_)
      have hex : ∃ k, L k := Classical.byContradiction (fun z => e ((gb_S_eq0 hx).mpr (fun i l => z ⟨i, l⟩)))
      obtain ⟨q, hq, hlq⟩ := gb_least L hex
      have hlow := gb_S_low hx hq hlq
      have hwq := hL.1 q hq
      unfold wpX_lowest
      refine gb_x_grown hM hlow hx (fun i l => hW i (hL.1 i l)) (fun g hg => ?_)
      have hg : gb_S g (gb_R1 W q) := gb_S_ext hg (fun i => gb_R1_part hL.1 hL.2 hq i)
      refine gb_x_around hM hg (fun i r => hW i (gb_R_in r)) (fun r hr => ?_)
      intro fr efr
      have hfr : gb_S fr (gb_lib b (gb_R1 W q)) := by
        rw [efr]
        exact gb_S_ext (gb_S_and hr hop) (gb_N_lib b _)
      have hcnt : j + 1 ≤ gb_cn (fun k => W k ∧ ¬ (L k ∧ ¬ gb_R1 W q k)) 49 := by
        have := gb_cn_lt (P := fun k => W k ∧ ¬ L k) (Q := fun k => W k ∧ ¬ (L k ∧ ¬ gb_R1 W q k)) (N := 49) (a := q) (fun k _ z => ⟨z.1, fun w => z.2 w.1⟩) (hW q hwq) (fun z => z.2 hq) ⟨hwq, fun z => z.2 (gb_R1_base hwq)⟩
        omega
      have hat : gb_at b W q ↔ (¬ fr = 0 ∧ (fr &&& (fr - 1)) = 0) := by
        rw [gb_S_eq0 hfr, gb_S_single hfr]
        constructor
        · intro ha
          obtain ⟨a, ha49, hla, huq⟩ := gb_cn_1.mp ha.2
          exact ⟨fun z => z a hla, fun i j hi hj => (huq i hi.1.1 hi).trans (huq j hj.1.1 hj).symm⟩
        · rintro ⟨hne, huq⟩
          refine ⟨hwq, gb_cn_1.mpr ?_⟩
          obtain ⟨a, hla⟩ : ∃ a, gb_lib b (gb_R1 W q) a := Classical.byContradiction (fun z => hne (fun i l => z ⟨i, l⟩))
          exact ⟨a, hla.1.1, hla, fun k _ l => huq k a l hla⟩
      have no : ¬ gb_at b W q → wX_inAtari_104 post (wX_inAtari_28 post op fA fF fL fB fW fc fx fy t1 t2 oB oW oT n) op x (nI (gb_cn (fun k => gb_at b W k ∧ ¬ L k) 49)) (nI j) g fA fF fL fB fW fc fx fy t1 t2 oB oW oT := by
        intro ha
        unfold wX_inAtari_104
        refine nm_e (nm_r (nI_1 j) ?_)
        rw [← gb_at_no (L := L) ha]
        exact ih (j + 1) _ _ (by omega) (gb_S_diff hx hg) (gb_cl_next hL q) hcnt
      refine br_c (fun e0 => no (fun ha => (hat.mp ha).1 e0)) (fun e0 => br_c (fun e1 => ?_) (fun e1 => no (fun ha => e1 (hat.mp ha).2)))
      have ha := hat.mpr ⟨e0, e1⟩
      refine gb_x_sizeOf hg (nm_r (nI_add _ _) ?_)
      unfold wX_inAtari_104
      refine nm_e (nm_r (nI_1 j) ?_)
      rw [← gb_at_yes hL hq ha]
      exact ih (j + 1) _ _ (by omega) (gb_S_diff hx hg) (gb_cl_next hL q) hcnt
end
section
variable {fd : Int32} {b hi hF hS ca de ke : Nat → Int32}
theorem gb_y_first6 {post : Int32 → Prop} {re : Nat → Int32} {k : Nat} (hk : gb_A re k) (h : ∀ f, gb_A re f → (∀ i, gb_A re i → f ≤ i) → post (nI f)) :
    ∀ (j f : Nat), j ≤ 49 → f < 49 → (∀ i, j ≤ i → gb_A re i → f ≤ i) → (gb_A re f ∨ ∀ i, j ≤ i → ¬ gb_A re i) →
      wY_firstReached_6 post fd b hi hF hS ca re de ke (j + 1) (nI f) (nI j + (-1)) := by
  intro j
  induction j with
  | zero =>
    intro f _ hf h1 h2
    refine br_t (by decide) (h f ?_ (fun i hi => h1 i (Nat.zero_le i) hi))
    exact h2.elim id (fun z => (z k (Nat.zero_le k) hk).elim)
  | succ j ih =>
    intro f hj hf h1 h2
    rw [pk_m1]
    refine br_f (nI_pos (by omega)) ⟨vp_in_nI (by omega) (by decide), ?_⟩
    rw [nI_clamp (show j < 2 ^ 31 by omega)]
    refine br_c (fun e => nm_e ?_) (fun e => nm_e ?_)
    · have hn : ¬ gb_A re j := fun z => z.2 e
      refine ih f (by omega) hf (fun i hi hA => ?_) (h2.elim Or.inl (fun z => Or.inr (fun i hi => ?_)))
      · rcases Nat.decEq i j with y | y
        · exact h1 i (by omega) hA
        · subst y; exact (hn hA).elim
      · rcases Nat.decEq i j with y | y
        · exact z i (by omega)
        · subst y; exact hn
    · exact ih j (by omega) (by omega) (fun i hi hA => hi) (Or.inl ⟨by omega, e⟩)
theorem gb_y_first {post : Int32 → Prop} {re : Nat → Int32} {k : Nat} (hk : gb_A re k) (h : ∀ f, gb_A re f → (∀ i, gb_A re i → f ≤ i) → post (nI f)) :
    wpY_firstReached post (fd, b, hi, hF, hS, ca, re, de, ke) := by
  unfold wpY_firstReached
  exact ⟨50, gb_y_first6 hk h 49 48 (by omega) (by omega) (fun i hi hA => absurd hA.1 (by omega)) (Or.inr (fun i hi hA => absurd hA.1 (by omega)))⟩
theorem gb_y_groups14 {post : Int32 → SY → Prop} {p : Int32} (h : ∀ re, post (nI (gb_cn (gb_mi (gb_C b p)) 49)) (fd, b, hi, hF, hS, ca, re, de, ke)) :
    ∀ (n k : Nat) (re : Nat → Int32), 50 ≤ n + k → k ≤ 49 → wY_groups_14 post p n (nI (gb_cn (gb_mi (gb_C b p)) k)) (nI k) fd b hi hF hS ca re de ke := by
  intro n
  induction n with
  | zero => intro k re h1 h2; omega
  | succ n ih =>
    intro k re hn hk
    rcases Nat.lt_or_ge k 49 with z | z
    · refine br_f (nI_ge (b := 49) z (by decide)) ⟨vp_in_nI z (by decide), ?_⟩
      rw [nI_clamp (show k < 2 ^ 31 by omega)]
      refine br_c (fun e => ?_) (fun e => ?_)
      · refine gb_y_reach z (fun re' hre => ?_)
        rw [e] at hre
        have hC : gb_C b p k := ⟨z, e⟩
        refine gb_y_first (k := k) (by rw [hre]; exact gb_R1_base hC) (fun f hf hl => ?_)
        have hf49 := hf.1
        rw [hre] at hf hl
        refine pk_eq f k (fun ef => ?_) (fun ef => ?_)
        · have hm : gb_mi (gb_C b p) k := ⟨hC, fun i r => by rw [← ef]; exact hl i r⟩
          refine nm_r (nI_1 _) (nm_r (nI_1 k) ?_)
          rw [← gb_cn_t hm]
          exact ih (k + 1) re' (by omega) (by omega)
        · have hm : ¬ gb_mi (gb_C b p) k := fun m => by
            have := m.2 f hf
            have := hl k (gb_R1_base hC)
            omega
          refine nm_r (nI_1 k) ?_
          rw [← gb_cn_f hm]
          exact ih (k + 1) re' (by omega) (by omega)
      · have hm : ¬ gb_mi (gb_C b p) k := fun m => e m.1.2
        refine nm_r (nI_1 k) ?_
        rw [← gb_cn_f hm]
        exact ih (k + 1) re (by omega) (by omega)
    · obtain rfl : k = 49 := by omega
      exact br_t (nI_le (a := 49) (b := 49) (by decide) (by decide)) (h re)
theorem gb_y_atari14 {post : Int32 → SY → Prop} {p : Int32} (h : ∀ re, post (nI (gb_cn (gb_at b (gb_C b p)) 49)) (fd, b, hi, hF, hS, ca, re, de, ke)) :
    ∀ (n k : Nat) (re : Nat → Int32), 50 ≤ n + k → k ≤ 49 → wY_inAtari_14 post p n (nI (gb_cn (gb_at b (gb_C b p)) k)) (nI k) fd b hi hF hS ca re de ke := by
  intro n
  induction n with
  | zero => intro k re h1 h2; omega
  | succ n ih =>
    intro k re hn hk
    rcases Nat.lt_or_ge k 49 with z | z
    · refine br_f (nI_ge (b := 49) z (by decide)) ⟨vp_in_nI z (by decide), ?_⟩
      rw [nI_clamp (show k < 2 ^ 31 by omega)]
      refine br_c (fun e => ?_) (fun e => ?_)
      · refine gb_y_reach z (fun re' hre => gb_y_libs ?_)
        rw [hre, e]
        have hC : gb_C b p k := ⟨z, e⟩
        have hle := gb_cn_le (gb_lib b (gb_R1 (gb_C b p) k)) 49
        refine pk_eq (gb_cn (gb_lib b (gb_R1 (gb_C b p) k)) 49) 1 (fun ef => ?_) (fun ef => ?_)
        · have hm : gb_at b (gb_C b p) k := ⟨hC, ef⟩
          refine nm_r (nI_1 _) (nm_r (nI_1 k) ?_)
          rw [← gb_cn_t hm]
          exact ih (k + 1) re' (by omega) (by omega)
        · have hm : ¬ gb_at b (gb_C b p) k := fun m => ef m.2
          refine nm_r (nI_1 k) ?_
          rw [← gb_cn_f hm]
          exact ih (k + 1) re' (by omega) (by omega)
      · have hm : ¬ gb_at b (gb_C b p) k := fun m => e m.1.2
        refine nm_r (nI_1 k) ?_
        rw [← gb_cn_f hm]
        exact ih (k + 1) re (by omega) (by omega)
    · obtain rfl : k = 49 := by omega
      exact br_t (nI_le (a := 49) (b := 49) (by decide) (by decide)) (h re)
end
end
section
theorem i_vc_groups {k : Nat} {u : SX} {v : SY} (I : i_Rel k u v) (hk : k + 3 ≤ 1536) (v1 : Int32) : wpX_groups (fun r => wpY_groups (fun r' v' => r' = r ∧ i_Rel (k + 3) u v') v v1) u v1 := by
  refine gb_el (P := fun u v => wpX_groups (fun r => wpY_groups (fun r' v' => r' = r ∧ i_Rel (k + 3) u v') v v1) u v1) ?_ I
  intro fA fF fL fB fW c x y t1 t2 oB oW oT b hi hF hS ca re de ke G
  unfold wpX_groups
  rcases Classical.em (v1 = 0 ∨ v1 = 1) with hp | hp
  · refine gb_x_player hp (br_t rfl (gb_x_stones G.2.1 hp (fun m hm => ⟨50, ?_⟩)))
    have hcl : gb_cl (gb_C b v1) (gb_C b v1) := ⟨fun _ z => z, fun _ _ _ _ w => w⟩
    refine gb_x_groups22 (W := gb_C b v1) G.1 gb_C_lt ?_ 50 0 m (gb_C b v1) (by omega) hm hcl (gb_cn_none (fun k _ z => z.2 z.1.1))
    unfold wpY_groups
    exact gb_y_player hp (br_f gb_n10 ⟨50, gb_y_groups14 (fun re' => ⟨rfl, gb_in G⟩) 50 0 re (by omega) (by omega)⟩)
  · refine gb_x_noplayer hp (br_f gb_n10 ?_)
    unfold wpY_groups
    exact gb_y_noplayer hp (br_t rfl ⟨rfl, gb_in G⟩)
theorem i_vc_inAtari {k : Nat} {u : SX} {v : SY} (I : i_Rel k u v) (hk : k + 3 ≤ 1536) (v1 : Int32) : wpX_inAtari (fun r => wpY_inAtari (fun r' v' => r' = r ∧ i_Rel (k + 3) u v') v v1) u v1 := by
  refine gb_el (P := fun u v => wpX_inAtari (fun r => wpY_inAtari (fun r' v' => r' = r ∧ i_Rel (k + 3) u v') v v1) u v1) ?_ I
  intro fA fF fL fB fW c x y t1 t2 oB oW oT b hi hF hS ca re de ke G
  unfold wpX_inAtari
  rcases Classical.em (v1 = 0 ∨ v1 = 1) with hp | hp
  · refine gb_x_player hp (br_t rfl (gb_x_empty G.1 G.2.1 (fun op hop => gb_x_stones G.2.1 hp (fun m hm => ⟨50, ?_⟩))))
    have hcl : gb_cl (gb_C b v1) (gb_C b v1) := ⟨fun _ z => z, fun _ _ _ _ w => w⟩
    have e0 : gb_cn (fun k => gb_at b (gb_C b v1) k ∧ ¬ gb_C b v1 k) 49 = 0 := gb_cn_none (fun k _ z => z.2 z.1.1)
    have key := gb_x_atari28 (fB := fB) (fW := fW) (fc := nI c) (fx := nI x) (fy := nI y) (t1 := t1) (t2 := t2) (oB := oB) (oW := oW) (oT := oT)
      (post := fun r => wpY_inAtari (fun r' v' => r' = r ∧ i_Rel (k + 3) (fA, fF, fL, fB, fW, nI c, nI x, nI y, t1, t2, oB, oW, oT) v') (nI c, b, hi, hF, hS, ca, re, de, ke) v1)
      (W := gb_C b v1) G.1 gb_C_lt hop ?_ 50 0 m (gb_C b v1) (by omega) hm hcl (Nat.zero_le _)
    · rw [e0] at key
      exact key
    · show wpY_inAtari _ _ _
      unfold wpY_inAtari
      exact gb_y_player hp (br_f gb_n10 ⟨50, gb_y_atari14 (fun re' => ⟨rfl, gb_in G⟩) 50 0 re (by omega) (by omega)⟩)
  · refine gb_x_noplayer hp (br_f gb_n10 ?_)
    unfold wpY_inAtari
    exact gb_y_noplayer hp (br_t rfl ⟨rfl, gb_in G⟩)
end
