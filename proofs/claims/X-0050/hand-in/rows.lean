section
/-! rows of the kit to paste: numbers, branches, stores; bits; counts (of a worked example) -/
theorem pk_loop {σ : Type} (W : Nat → Nat → σ → Prop) (I : Nat → σ → Prop) (e i0 : Nat) (s : σ) (hi : i0 ≤ e) (h0 : I i0 s) (hx : ∀ n s, I e s → W (n + 1) e s)
    (hs : ∀ n i s, i < e → I i s → (∀ s', I (i + 1) s' → W n (i + 1) s') → W (n + 1) i s) : ∃ n, W n i0 s :=
  ⟨e + 1, loop_i W I e hx hs (e + 1) i0 s hi (by omega) h0⟩
theorem pk_loopD {σ : Type} (W : Nat → Nat → σ → Prop) (I : Nat → σ → Prop) (hx : ∀ n s, I 0 s → W (n + 1) 0 s)
    (hs : ∀ n i s, I (i + 1) s → (∀ s', I i s' → W n i s') → W (n + 1) (i + 1) s) : ∀ (e : Nat) (s : σ), I e s → W (e + 1) e s := by
  intro e
  induction e with
  | zero => exact fun s h => hx 0 s h
  | succ e ih => exact fun s h => hs (e + 1) e s h (fun s' h' => ih s' h')
theorem pk_us {f : Nat → Int32} {k : Nat} {x : Int32} : upd f k x k = x := if_pos rfl
theorem pk_un {f : Nat → Int32} {k j : Nat} {x : Int32} (h : j ≠ k) : upd f k x j = f j := if_neg h
theorem pk_sub {a b : Nat} (h : b ≤ a) : nI a - nI b = nI (a - b) := by
  obtain ⟨c, rfl⟩ : ∃ c, a = c + b := ⟨a - b, by omega⟩
  rw [← nI_add, Int32.add_sub_cancel, Nat.add_sub_cancel]
theorem pk_m1 (n : Nat) : nI (n + 1) + (-1) = nI n := by
  rw [← nI_1, Int32.add_assoc, show (1 : Int32) + (-1) = 0 from rfl, Int32.add_zero]
theorem pk_mul (a b : Nat) : nI a * nI b = nI (a * b) := (Int32.ofNat_mul a b).symm
theorem pk_div {a d : Nat} (ha : a < 2 ^ 31) (h0 : 0 < d) (hd : d < 2 ^ 31) : nI a / nI d = nI (a / d) := by
  apply Int32.toInt_inj.mp
  rw [lg_idiv_nonneg (by rw [nI_toInt ha]; omega) (by rw [nI_toInt hd]; omega), nI_toInt ha, nI_toInt hd, nI_toInt (Nat.lt_of_le_of_lt (Nat.div_le_self a d) ha)]
  first | rfl | exact (Int.natCast_ediv _ _).symm
theorem pk_rem {a d : Nat} (ha : a < 2 ^ 31) (h0 : 0 < d) (hd : d < 2 ^ 31) : nI a - nI a / nI d * nI d = nI (a % d) := by
  rw [pk_div ha h0 hd, pk_mul, pk_sub (Nat.div_mul_le_self a d)]
  exact congrArg nI (by have := Nat.div_add_mod' a d; omega)
theorem pk_ix (x : Int32) {n : Nat} (hn : n < 2 ^ 31) : x < 0 ∨ nI n ≤ x ∨ ∃ j : Nat, j < n ∧ x = nI j := by
  by_cases h : x < 0
  · exact Or.inl h
  · obtain ⟨j, hj, rfl⟩ := nI_of h
    by_cases h2 : j < n
    · exact Or.inr (Or.inr ⟨j, h2, rfl⟩)
    · exact Or.inr (Or.inl (nI_le (by omega) hj))
theorem pk_le {x y : Int32} {A B : Prop} (a b : Nat) (f : a ≤ b → A) (g : b < a → B) (hx : x = nI a := by rfl) (hy : y = nI b := by rfl) (ha : a < 2 ^ 31 := by omega) (hb : b < 2 ^ 31 := by omega) : (x ≤ y → A) ∧ (¬ x ≤ y → B) := by
  subst hx hy
  rw [nI_leI ha hb]
  exact ⟨f, fun z => g (by omega)⟩
theorem pk_lt {x y : Int32} {A B : Prop} (a b : Nat) (f : a < b → A) (g : b ≤ a → B) (hx : x = nI a := by rfl) (hy : y = nI b := by rfl) (ha : a < 2 ^ 31 := by omega) (hb : b < 2 ^ 31 := by omega) : (x < y → A) ∧ (¬ x < y → B) := by
  subst hx hy
  rw [nI_ltI ha hb]
  exact ⟨f, fun z => g (by omega)⟩
theorem pk_eq {x y : Int32} {A B : Prop} (a b : Nat) (f : a = b → A) (g : a ≠ b → B) (hx : x = nI a := by rfl) (hy : y = nI b := by rfl) (ha : a < 2 ^ 31 := by omega) (hb : b < 2 ^ 31 := by omega) : (x = y → A) ∧ (¬ x = y → B) := by
  subst hx hy
  rw [nI_eq ha hb]
  exact ⟨f, g⟩
theorem pk_in {x : Int32} (n N : Nat) (h : n < N) (hx : x = nI n := by rfl) (hN : N < 2 ^ 31 := by omega) : vp_in x N := by
  subst hx
  exact vp_in_nI h hN
theorem pk_cl {x : Int32} (n : Nat) (hx : x = nI n := by rfl) (h : n < 2 ^ 31 := by omega) : x.toNatClampNeg = n := by
  subst hx
  exact nI_clamp h
def bt (x : Int32) (i : Nat) : Bool := x.toBitVec.getLsbD i
theorem b_ext {x y : Int32} (h : ∀ i, i < 32 → bt x i = bt y i) : x = y := Int32.toBitVec_inj.mp (BitVec.eq_of_getLsbD_eq (fun i hi => h i hi))
theorem b_or (x y : Int32) (i : Nat) : bt (x ||| y) i = (bt x i || bt y i) := by unfold bt; rw [Int32.toBitVec_or, BitVec.getLsbD_or]
theorem b_and (x y : Int32) (i : Nat) : bt (x &&& y) i = (bt x i && bt y i) := by unfold bt; rw [Int32.toBitVec_and, BitVec.getLsbD_and]
theorem b_xor (x y : Int32) (i : Nat) : bt (x ^^^ y) i = (bt x i ^^ bt y i) := by unfold bt; rw [Int32.toBitVec_xor, BitVec.getLsbD_xor]
theorem b_big {x : Int32} {i : Nat} (h : 32 ≤ i) : bt x i = false := BitVec.getLsbD_of_ge _ _ h
theorem b_m1 : ∀ i, i < 32 → bt (-1) i = true := by decide +kernel
theorem b_0 (i : Nat) : bt 0 i = false := BitVec.getLsbD_zero
theorem s_l : ∀ n, n < 32 → ((nI n &&& 31).toBitVec.smod 32).toNat = n := by decide +kernel
theorem s_u : ∀ n, n < 32 → (((nI n).toUInt32 &&& Int32.toUInt32 31).toBitVec % 32).toNat = n := by decide +kernel
theorem b_shl (n : Nat) (hn : n < 32) (x : Int32) {i : Nat} (hi : i < 32) : bt (x <<< (nI n &&& 31)) i = (decide (n ≤ i) && bt x (i - n)) := by
  unfold bt
  rw [Int32.toBitVec_shiftLeft]
  show (x.toBitVec <<< ((nI n &&& 31).toBitVec.smod 32).toNat).getLsbD i = _
  rw [s_l n hn, BitVec.getLsbD_shiftLeft]
  rcases Nat.lt_or_ge i n with h | h
  · simp [h, Nat.not_le.mpr h]
  · simp [hi, h, Nat.not_lt.mpr h]
theorem b_ushr (n : Nat) (hn : n < 32) (x : Int32) (i : Nat) : bt ((x.toUInt32 >>> ((nI n).toUInt32 &&& Int32.toUInt32 31)).toInt32) i = bt x (n + i) := by
  show (x.toUInt32 >>> ((nI n).toUInt32 &&& Int32.toUInt32 31)).toBitVec.getLsbD i = x.toUInt32.toBitVec.getLsbD (n + i)
  rw [UInt32.toBitVec_shiftRight]
  show (x.toUInt32.toBitVec >>> (((nI n).toUInt32 &&& Int32.toUInt32 31).toBitVec % 32).toNat).getLsbD i = _
  rw [s_u n hn, BitVec.getLsbD_ushiftRight]
noncomputable def b01 (P : Prop) : Nat := @ite Nat P (Classical.propDecidable P) 1 0
theorem b01_t {P : Prop} (h : P) : b01 P = 1 := by unfold b01; rw [if_pos h]
theorem b01_f {P : Prop} (h : ¬ P) : b01 P = 0 := by unfold b01; rw [if_neg h]
theorem b01_le (P : Prop) : b01 P ≤ 1 := by
  rcases Classical.em P with h | h
  · rw [b01_t h]; omega
  · rw [b01_f h]; omega
theorem b01_mono {P Q : Prop} (h : P → Q) : b01 P ≤ b01 Q := by
  rcases Classical.em P with hp | hp
  · rw [b01_t hp, b01_t (h hp)]; omega
  · rw [b01_f hp]; omega
noncomputable def cn (P : Nat → Prop) : Nat → Nat
  | 0 => 0
  | k + 1 => cn P k + b01 (P k)
theorem cn_mono {P Q : Nat → Prop} : ∀ {N : Nat}, (∀ k, k < N → P k → Q k) → cn P N ≤ cn Q N
  | 0, _ => Nat.le_refl _
  | N + 1, h => by
    have a := cn_mono (P := P) (Q := Q) (N := N) (fun k hk => h k (by omega))
    have b := b01_mono (h N (by omega))
    simp only [cn]; omega
theorem cn_lt {P Q : Nat → Prop} {a : Nat} (hp : ¬ P a) (hq : Q a) : ∀ {N : Nat}, (∀ k, k < N → P k → Q k) → a < N → cn P N < cn Q N
  | 0, _, h => by omega
  | N + 1, h, ha => by
    simp only [cn]
    rcases Nat.lt_or_ge a N with z | z
    · have x := cn_lt hp hq (N := N) (fun k hk => h k (by omega)) z
      have b := b01_mono (h N (by omega))
      omega
    · have e : a = N := by omega
      subst e
      have x := cn_mono (P := P) (Q := Q) (N := a) (fun k hk => h k (by omega))
      rw [b01_t hq, b01_f hp]; omega
theorem cn_le (P : Nat → Prop) : ∀ N, cn P N ≤ N
  | 0 => Nat.le_refl _
  | N + 1 => by have := cn_le P N; have := b01_le (P N); simp only [cn]; omega
theorem cn_eq {P Q : Nat → Prop} {N : Nat} (h : ∀ k, k < N → (P k ↔ Q k)) : cn P N = cn Q N :=
  Nat.le_antisymm (cn_mono fun k hk => (h k hk).mp) (cn_mono fun k hk => (h k hk).mpr)
theorem cn_add {P : Nat → Prop} {a : Nat} (hp : ¬ P a) : ∀ {N : Nat}, a < N → cn (fun k => P k ∨ k = a) N = cn P N + 1
  | 0, h => by omega
  | N + 1, h => by
    simp only [cn]
    rcases Nat.lt_or_ge a N with z | z
    · rw [cn_add hp z]
      have : b01 (P N ∨ N = a) = b01 (P N) := Nat.le_antisymm (b01_mono fun q => q.elim id (fun e => by omega)) (b01_mono Or.inl)
      omega
    · have e : a = N := by omega
      subst e
      rw [cn_eq (P := fun k => P k ∨ k = a) (Q := P) (fun k hk => ⟨fun q => q.elim id (fun e => by omega), Or.inl⟩), b01_t (Or.inr rfl), b01_f hp]
/-! masks as sets -/
def zb_mk (m : Int32) (P : Nat → Prop) : Prop := ∀ i, i < 32 → (bt m i = true ↔ P i)
theorem zb_iff {m : Int32} {P Q : Nat → Prop} (h : zb_mk m P) (e : ∀ i, i < 32 → (P i ↔ Q i)) : zb_mk m Q := fun i hi => (h i hi).trans (e i hi)
theorem zb_0 : zb_mk 0 (fun _ => False) := fun i _ => by rw [b_0]; simp
theorem zb_or {m m' : Int32} {P Q : Nat → Prop} (h : zb_mk m P) (h' : zb_mk m' Q) : zb_mk (m ||| m') (fun i => P i ∨ Q i) := fun i hi => by
  rw [b_or, Bool.or_eq_true, h i hi, h' i hi]
theorem zb_and {m m' : Int32} {P Q : Nat → Prop} (h : zb_mk m P) (h' : zb_mk m' Q) : zb_mk (m &&& m') (fun i => P i ∧ Q i) := fun i hi => by
  rw [b_and, Bool.and_eq_true, h i hi, h' i hi]
theorem zb_not {m : Int32} {P : Nat → Prop} (h : zb_mk m P) : zb_mk (m ^^^ (-1)) (fun i => ¬ P i) := fun i hi => by
  show _ ↔ ¬ P i
  rw [b_xor, b_m1 i hi, ← h i hi]; cases bt m i <;> simp
theorem zb_bit0 : ∀ k, k < 32 → ∀ i, i < 32 → bt ((1 : Int32) <<< (nI k &&& 31)) i = decide (i = k) := by decide +kernel
theorem zb_bit {k : Nat} (hk : k < 32) : zb_mk ((1 : Int32) <<< (nI k &&& 31)) (fun i => i = k) := fun i hi => by
  rw [zb_bit0 k hk i hi, decide_eq_true_eq]
theorem zb_low0 : ∀ k, k < 16 → ∀ i, i < 32 → bt (((1 : Int32) <<< (nI k &&& 31)) - 1) i = decide (i < k) := by decide +kernel
theorem zb_low {k : Nat} (hk : k < 16) : zb_mk (((1 : Int32) <<< (nI k &&& 31)) - 1) (fun i => i < k) := fun i hi => by
  rw [zb_low0 k hk i hi, decide_eq_true_eq]
theorem zb_one0 : ∀ i, i < 32 → bt 1 i = decide (i = 0) := by decide +kernel
theorem zb_one : zb_mk 1 (fun i => i = 0) := fun i hi => by rw [zb_one0 i hi, decide_eq_true_eq]
theorem zb_z {m : Int32} {P : Nat → Prop} (h : zb_mk m P) : m = 0 ↔ ∀ i, i < 32 → ¬ P i := by
  constructor
  · intro e i hi p
    have q := (h i hi).mpr p
    rw [e, b_0] at q
    cases q
  · intro hn
    apply b_ext
    intro i hi
    rw [b_0]
    cases hb : bt m i
    · rfl
    · exact absurd ((h i hi).mp hb) (hn i hi)
theorem zb_has (m : Int32) {i : Nat} (hi : i < 32) : (((m.toUInt32 >>> ((nI i).toUInt32 &&& Int32.toUInt32 31)).toInt32) &&& 1) = 0 ↔ ¬ bt m i = true := by
  have e := b_ushr i hi m 0
  rw [Nat.add_zero] at e
  have h1 : zb_mk (((m.toUInt32 >>> ((nI i).toUInt32 &&& Int32.toUInt32 31)).toInt32) &&& 1) (fun j => bt ((m.toUInt32 >>> ((nI i).toUInt32 &&& Int32.toUInt32 31)).toInt32) j = true ∧ j = 0) := zb_and (fun j _ => Iff.rfl) zb_one
  rw [zb_z h1]
  constructor
  · intro h z
    exact h 0 (by omega) ⟨e.trans z, rfl⟩
  · intro h j hj z
    obtain ⟨z1, z2⟩ := z
    subst z2
    exact h (e.symm.trans z1)
theorem zb_cb {m : Int32} {P : Nat → Prop} (hm : zb_mk m P) {i : Nat} (hi : i < 32) : (((m.toUInt32 >>> ((nI i).toUInt32 &&& Int32.toUInt32 31)).toInt32) &&& 1) = nI (b01 (P i)) := by
  rcases Classical.em (P i) with p | p
  · rw [b01_t p]
    have e := b_ushr i hi m 0
    rw [Nat.add_zero, (hm i hi).mpr p] at e
    apply b_ext
    intro j hj
    show _ = bt 1 j
    rw [b_and]
    cases h : bt 1 j
    · simp
    · have : j = 0 := (zb_one j hj).mp h
      subst this
      rw [e]; rfl
  · rw [b01_f p]
    exact (zb_has m hi).mpr (fun z => p ((hm i hi).mp z))
theorem zb_add {m : Int32} {Q S : Nat → Prop} {i : Nat} (h : zb_mk m (fun r => Q r ∨ (r < i ∧ S r))) (hi : i < 32) (hs : S i) : zb_mk (m ||| ((1 : Int32) <<< (nI i &&& 31))) (fun r => Q r ∨ (r < i + 1 ∧ S r)) :=
  zb_iff (zb_or h (zb_bit hi)) fun r _ => by
    constructor
    · rintro ((q | ⟨q, s⟩) | e)
      · exact Or.inl q
      · exact Or.inr ⟨by omega, s⟩
      · subst e; exact Or.inr ⟨by omega, hs⟩
    · rintro (q | ⟨q, s⟩)
      · exact Or.inl (Or.inl q)
      · rcases Nat.lt_or_ge r i with z | z
        · exact Or.inl (Or.inr ⟨z, s⟩)
        · exact Or.inr (by omega)
theorem zb_ski {m : Int32} {Q S : Nat → Prop} {i : Nat} (h : zb_mk m (fun r => Q r ∨ (r < i ∧ S r))) (hs : ¬ S i) : zb_mk m (fun r => Q r ∨ (r < i + 1 ∧ S r)) :=
  zb_iff h fun r _ => by
    constructor
    · rintro (q | ⟨q, s⟩)
      · exact Or.inl q
      · exact Or.inr ⟨by omega, s⟩
    · rintro (q | ⟨q, s⟩)
      · exact Or.inl q
      · rcases Nat.lt_or_ge r i with z | z
        · exact Or.inr ⟨z, s⟩
        · have : r = i := by omega
          subst this
          exact absurd s hs
theorem zb_st {m : Int32} {S : Nat → Prop} (h : zb_mk m (fun _ => False)) : zb_mk m (fun r => False ∨ (r < 0 ∧ S r)) := zb_iff h fun r _ => ⟨fun z => z.elim, fun z => z.elim id fun q => absurd q.1 (by omega)⟩
theorem zb_en {m : Int32} {S : Nat → Prop} {n : Nat} (h : zb_mk m (fun r => False ∨ (r < n ∧ S r))) : zb_mk m (fun r => r < n ∧ S r) := zb_iff h fun r _ => ⟨fun z => z.elim (fun q => q.elim) id, Or.inr⟩
theorem zb_v1 : vp_nar .boolean 1 = 1 := rfl
theorem zb_v0 : vp_nar .boolean 0 = 0 := rfl
theorem zb_n1 : ¬ (1 : Int32) = 0 := by decide
theorem zb_nin {x : Int32} {n : Nat} (h : vp_in x n) (hn : n < 2 ^ 31) : x = nI x.toNatClampNeg ∧ x.toNatClampNeg < n := by
  obtain ⟨j, hj, rfl⟩ := vp_in_of h hn
  rw [nI_clamp (by omega)]
  exact ⟨rfl, hj⟩
theorem zb_ix (a b w : Nat) : nI a * nI w + nI b = nI (a * w + b) := by rw [pk_mul, nI_add]
theorem zb_ixl {c q w n : Nat} (hc : c < n) (hq : q < w) : c * w + q < n * w := by
  have : (c + 1) * w ≤ n * w := Nat.mul_le_mul_right w hc
  rw [Nat.add_mul] at this
  omega
theorem zb_ixj {c q c' q' w : Nat} (hq : q < w) (hq' : q' < w) (h : c * w + q = c' * w + q') : c = c' ∧ q = q' := by
  have h1 : (c * w + q) / w = c := by rw [Nat.mul_comm, Nat.mul_add_div (by omega), Nat.div_eq_of_lt hq]; omega
  have h2 : (c' * w + q') / w = c' := by rw [Nat.mul_comm, Nat.mul_add_div (by omega), Nat.div_eq_of_lt hq']; omega
  have e : c = c' := by rw [← h1, ← h2, h]
  subst e
  exact ⟨rfl, by omega⟩
/-! counts -/
theorem zb_cnF {P : Nat → Prop} : ∀ {N : Nat}, (∀ k, k < N → ¬ P k) → cn P N = 0
  | 0, _ => rfl
  | N + 1, h => by
    simp only [cn]
    rw [zb_cnF (P := P) (N := N) (fun k hk => h k (by omega)), b01_f (h N (by omega))]
theorem zb_cnx {P : Nat → Prop} {N : Nat} : ∀ d, (∀ k, N ≤ k → ¬ P k) → cn P (N + d) = cn P N
  | 0, _ => rfl
  | d + 1, h => by
    show cn P (N + d) + b01 (P (N + d)) = _
    rw [zb_cnx d h, b01_f (h _ (by omega)), Nat.add_zero]
theorem zb_cnt {P : Nat → Prop} {N : Nat} (h : P N) : cn P (N + 1) = cn P N + 1 := by
  show cn P N + b01 (P N) = _
  rw [b01_t h]
theorem zb_cnf {P : Nat → Prop} {N : Nat} (h : ¬ P N) : cn P (N + 1) = cn P N := by
  show cn P N + b01 (P N) = _
  rw [b01_f h, Nat.add_zero]
theorem zb_cnall {P : Nat → Prop} {N : Nat} (h : N ≤ cn P N) : ∀ k, k < N → P k := by
  intro k hk
  apply Classical.byContradiction
  intro hn
  have h1 := cn_lt (P := P) (Q := fun _ => True) (a := k) hn trivial (N := N) (fun _ _ _ => trivial) hk
  have h2 := cn_le (fun _ => True) N
  omega
end
section
/-! least closed sets, Warshall's stages -/
def zq_Cl (M : Nat → Prop) (G : Nat → Nat → Prop) (a : Nat) (S : Nat → Prop) : Prop := ∀ f t, G f t → (f = a ∨ (S f ∧ M f)) → S t
def zq_T (M : Nat → Prop) (G : Nat → Nat → Prop) (a b : Nat) : Prop := ∀ S : Nat → Prop, zq_Cl M G a S → S b
def zq_W (M : Nat → Prop) (G : Nat → Nat → Prop) : Nat → Nat → Nat → Prop
  | 0 => fun a b => G a b
  | k + 1 => fun a b => zq_W M G k a b ∨ (M k ∧ zq_W M G k a k ∧ zq_W M G k k b)
section ZQ1
variable {M : Nat → Prop} {G : Nat → Nat → Prop}
theorem zq_T_cl (a : Nat) : zq_Cl M G a (zq_T M G a) := fun f t g h S hS => hS f t g (h.elim Or.inl fun q => Or.inr ⟨q.1 S hS, q.2⟩)
theorem zq_T_e {a b : Nat} (g : G a b) : zq_T M G a b := fun S hS => hS a b g (Or.inl rfl)
theorem zq_T_tr {a b c : Nat} (h1 : zq_T M G a c) (hm : M c) (h2 : zq_T M G c b) : zq_T M G a b := by
  refine h2 (zq_T M G a) ?_
  intro f t g h
  refine zq_T_cl a f t g ?_
  rcases h with e | h
  · subst e; exact Or.inr ⟨h1, hm⟩
  · exact Or.inr h
theorem zq_W_s : ∀ k a b, zq_W M G k a b → zq_T M G a b
  | 0, _, _, h => zq_T_e h
  | k + 1, a, b, h => by
    rcases h with h | ⟨m, h1, h2⟩
    · exact zq_W_s k a b h
    · exact zq_T_tr (zq_W_s k a k h1) m (zq_W_s k k b h2)
theorem zq_W_tr : ∀ k a c b, c < k → M c → zq_W M G k a c → zq_W M G k c b → zq_W M G k a b
  | 0, a, c, b, h, _, _, _ => by omega
  | k + 1, a, c, b, h, m, x, y => by
    rcases Nat.lt_or_ge c k with z | z
    · rcases x with x | ⟨x0, x1, x2⟩ <;> rcases y with y | ⟨y0, y1, y2⟩
      · exact Or.inl (zq_W_tr k a c b z m x y)
      · exact Or.inr ⟨y0, zq_W_tr k a c k z m x y1, y2⟩
      · exact Or.inr ⟨x0, x1, zq_W_tr k k c b z m x2 y⟩
      · exact Or.inr ⟨x0, x1, y2⟩
    · have : c = k := by omega
      subst this
      have x' : zq_W M G c a c := x.elim id fun q => q.2.1
      have y' : zq_W M G c c b := y.elim id fun q => q.2.2
      exact Or.inr ⟨m, x', y'⟩
theorem zq_W_le : ∀ k a b, G a b → zq_W M G k a b
  | 0, _, _, h => h
  | k + 1, a, b, h => Or.inl (zq_W_le k a b h)
theorem zq_W_c {n : Nat} (hG : ∀ f t, G f t → f < n) {a b : Nat} (h : zq_T M G a b) : zq_W M G n a b := by
  refine h (zq_W M G n a) ?_
  intro f t g q
  rcases q with e | ⟨s, m⟩
  · subst e; exact zq_W_le n f t g
  · exact zq_W_tr n a f t (hG f t g) m s (zq_W_le n f t g)
theorem zq_W_iff {n : Nat} (hG : ∀ f t, G f t → f < n) (a b : Nat) : zq_W M G n a b ↔ zq_T M G a b := ⟨zq_W_s n a b, zq_W_c hG⟩
theorem zq_W_kk {k b : Nat} : zq_W M G (k + 1) k b ↔ zq_W M G k k b := ⟨fun h => h.elim id fun q => q.2.2, Or.inl⟩
theorem zq_T_t {n : Nat} (hG : ∀ f t, G f t → t < n) {a b : Nat} (h : zq_T M G a b) : b < n := h (fun b => b < n) (fun f t g _ => hG f t g)
end ZQ1
/-! the core: what the applied patches hold; lines by their state -/
def zq_G (E : Nat → Nat → Nat → Prop) (a b : Nat) : Prop := ∃ e, E e a b
def zq_Tc (E : Nat → Nat → Nat → Prop) (a e : Nat) : Prop := ∃ b, E e a b ∨ E e b a
def zq_H (D : Nat → Nat → Prop) (a : Nat) : Prop := ∃ d, D d a
def zq_ZW (E : Nat → Nat → Nat → Prop) (N : Nat → Nat → Prop) (d a : Nat) : Prop := ∃ e, zq_Tc E a e ∧ e ≠ d ∧ ¬ N d e ∧ ¬ N e d
def zq_Zi (E : Nat → Nat → Nat → Prop) (D N : Nat → Nat → Prop) (a : Nat) : Prop := ∃ d, D d a ∧ zq_ZW E N d a
def zq_Lv (D : Nat → Nat → Prop) (P : Nat → Prop) (a : Nat) : Prop := P a ∧ ¬ zq_H D a
def zq_Zo (E : Nat → Nat → Nat → Prop) (D N : Nat → Nat → Prop) (P : Nat → Prop) (a : Nat) : Prop := P a ∧ zq_Zi E D N a
def zq_Gh (E : Nat → Nat → Nat → Prop) (D N : Nat → Nat → Prop) (P : Nat → Prop) (a : Nat) : Prop := P a ∧ zq_H D a ∧ ¬ zq_Zi E D N a
def zq_Dd (D : Nat → Nat → Prop) (P : Nat → Prop) (a : Nat) : Prop := P a ∧ zq_H D a
def zq_R (E : Nat → Nat → Nat → Prop) (a b : Nat) : Prop := zq_T (fun _ => True) (zq_G E) a b
def zq_V (E : Nat → Nat → Nat → Prop) (D : Nat → Nat → Prop) (P : Nat → Prop) (a b : Nat) : Prop := zq_T (zq_Dd D P) (zq_G E) a b
theorem zq_Dd_iff {E : Nat → Nat → Nat → Prop} {D N : Nat → Nat → Prop} {P : Nat → Prop} {a : Nat} : zq_Dd D P a ↔ zq_Gh E D N P a ∨ zq_Zo E D N P a := by
  constructor
  · intro h
    rcases Classical.em (zq_Zi E D N a) with z | z
    · exact Or.inr ⟨h.1, z⟩
    · exact Or.inl ⟨h.1, h.2, z⟩
  · rintro (h | ⟨h, d, hd, _⟩)
    · exact ⟨h.1, h.2.1⟩
    · exact ⟨h, d, hd⟩
/-! components and heads over lines L and paths R -/
def zq_C (L : Nat → Prop) (R : Nat → Nat → Prop) (h b : Nat) : Prop := L b ∧ (b = h ∨ (R h b ∧ R b h))
def zq_I (L : Nat → Prop) (R : Nat → Nat → Prop) (h : Nat) : Prop := L h ∧ ∀ b, b < h → ¬ zq_C L R h b
section ZQ2
variable {L : Nat → Prop} {R : Nat → Nat → Prop}
theorem zq_C_sym {a b : Nat} (ha : L a) (h : zq_C L R a b) : zq_C L R b a := by
  rcases h.2 with e | e
  · exact ⟨ha, Or.inl e.symm⟩
  · exact ⟨ha, Or.inr ⟨e.2, e.1⟩⟩
theorem zq_C_tr (hR : ∀ a b c, R a b → R b c → R a c) {a b c : Nat} (h : zq_C L R a b) (h' : zq_C L R b c) : zq_C L R a c := by
  refine ⟨h'.1, ?_⟩
  rcases h.2 with e | e
  · subst e; exact h'.2
  · rcases h'.2 with e' | e'
    · subst e'; exact Or.inr e
    · exact Or.inr ⟨hR _ _ _ e.1 e'.1, hR _ _ _ e'.2 e.2⟩
theorem zq_I_u (hR : ∀ a b c, R a b → R b c → R a c) {g h b : Nat} (hg : zq_I L R g) (hh : zq_I L R h) (h1 : zq_C L R g b) (h2 : zq_C L R h b) : g = h := by
  have c1 : zq_C L R g h := zq_C_tr hR h1 (zq_C_sym hh.1 h2)
  have c2 : zq_C L R h g := zq_C_sym hg.1 c1
  rcases Nat.lt_trichotomy g h with z | z | z
  · exact absurd c2 (hh.2 g z)
  · exact z
  · exact absurd c1 (hg.2 h z)
end ZQ2
/-! the least number below n with Q, n if there is none -/
noncomputable def zq_pk (Q : Nat → Prop) : Nat → Nat
  | 0 => 0
  | n + 1 => if zq_pk Q n < n then zq_pk Q n else n + (1 - b01 (Q n))
theorem zq_pk_s (Q : Nat → Prop) : ∀ n, (zq_pk Q n = n ∧ ∀ j, j < n → ¬ Q j) ∨ (zq_pk Q n < n ∧ Q (zq_pk Q n) ∧ ∀ j, j < zq_pk Q n → ¬ Q j)
  | 0 => Or.inl ⟨rfl, fun j h => by omega⟩
  | n + 1 => by
    rcases zq_pk_s Q n with ⟨e, h⟩ | ⟨e, q, h⟩
    · have h1 : ¬ zq_pk Q n < n := by omega
      have e1 : zq_pk Q (n + 1) = n + (1 - b01 (Q n)) := if_neg h1
      rcases Classical.em (Q n) with z | z
      · rw [b01_t z] at e1
        have e2 : zq_pk Q (n + 1) = n := e1
        rw [e2]
        exact Or.inr ⟨by omega, z, h⟩
      · rw [b01_f z] at e1
        refine Or.inl ⟨e1, fun j hj => ?_⟩
        rcases Nat.lt_or_ge j n with k | k
        · exact h j k
        · have : j = n := by omega
          subst this; exact z
    · have e1 : zq_pk Q (n + 1) = zq_pk Q n := if_pos e
      rw [e1]
      exact Or.inr ⟨by omega, q, h⟩
theorem zq_pk_y {Q : Nat → Prop} {n i : Nat} (hi : i < n) (q : Q i) (h : ∀ j, j < i → ¬ Q j) : zq_pk Q n = i := by
  rcases zq_pk_s Q n with ⟨e, h'⟩ | ⟨e, q', h'⟩
  · exact absurd q (h' i hi)
  · rcases Nat.lt_trichotomy (zq_pk Q n) i with z | z | z
    · exact absurd q' (h _ z)
    · exact z
    · exact absurd q (h' _ z)
theorem zq_pk_n {Q : Nat → Prop} {n : Nat} (h : ∀ j, j < n → ¬ Q j) : zq_pk Q n = n := by
  rcases zq_pk_s Q n with ⟨e, h'⟩ | ⟨e, q', h'⟩
  · exact e
  · exact absurd q' (h _ e)
/-! the numbers below n with P -/
noncomputable def zq_fl (P : Nat → Prop) : Nat → List Nat
  | 0 => []
  | n + 1 => if b01 (P n) = 1 then zq_fl P n ++ [n] else zq_fl P n
theorem zq_fl_t {P : Nat → Prop} {n : Nat} (h : P n) : zq_fl P (n + 1) = zq_fl P n ++ [n] := if_pos (b01_t h)
theorem zq_fl_f {P : Nat → Prop} {n : Nat} (h : ¬ P n) : zq_fl P (n + 1) = zq_fl P n := if_neg (by rw [b01_f h]; decide)
theorem zq_fl_m (P : Nat → Prop) (x : Nat) : ∀ n, x ∈ zq_fl P n ↔ x < n ∧ P x
  | 0 => by
    show x ∈ ([] : List Nat) ↔ _
    simp
  | n + 1 => by
    rcases Classical.em (P n) with h | h
    · rw [zq_fl_t h, List.mem_append, zq_fl_m P x n, List.mem_singleton]
      constructor
      · rintro (q | e)
        · exact ⟨by omega, q.2⟩
        · subst e; exact ⟨by omega, h⟩
      · intro q
        rcases Nat.lt_or_ge x n with z | z
        · exact Or.inl ⟨z, q.2⟩
        · exact Or.inr (by omega)
    · rw [zq_fl_f h, zq_fl_m P x n]
      constructor
      · intro q; exact ⟨by omega, q.2⟩
      · intro q
        rcases Nat.lt_or_ge x n with z | z
        · exact ⟨z, q.2⟩
        · have : x = n := by omega
          subst this; exact absurd q.2 h
theorem zq_fl_p (P : Nat → Prop) (n : Nat) : ∀ d, ∃ s, zq_fl P (n + d) = zq_fl P n ++ s
  | 0 => ⟨[], by simp⟩
  | d + 1 => by
    obtain ⟨s, e⟩ := zq_fl_p P n d
    rcases Classical.em (P (n + d)) with h | h
    · exact ⟨s ++ [n + d], by rw [← Nat.add_assoc, zq_fl_t h, e, List.append_assoc]⟩
    · exact ⟨s, by rw [← Nat.add_assoc, zq_fl_f h, e]⟩
/-! the row -/
def zq_rd (L : Nat → Prop) (R : Nat → Nat → Prop) (l : List Nat) (h : Nat) : Prop := zq_I L R h ∧ ¬ h ∈ l ∧ ∀ b, b < 16 → L b → R b h → ¬ zq_C L R h b → b ∈ l
noncomputable def zq_nx (L : Nat → Prop) (R : Nat → Nat → Prop) (l : List Nat) : List Nat :=
  if zq_pk (zq_rd L R l) 16 = 16 then l else l ++ zq_fl (zq_C L R (zq_pk (zq_rd L R l) 16)) 16
noncomputable def zq_rw (L : Nat → Prop) (R : Nat → Nat → Prop) : Nat → List Nat
  | 0 => []
  | t + 1 => zq_nx L R (zq_rw L R t)
/-- a list of lines, each once, closed under components -/
def zq_RO (L : Nat → Prop) (R : Nat → Nat → Prop) (l : List Nat) : Prop := l.length = cn (fun b => b ∈ l) 16 ∧ (∀ b, b ∈ l → L b) ∧ ∀ b c, b ∈ l → zq_C L R b c → c ∈ l
theorem zq_len {l : List Nat} {a : Nat} (h : l.length = cn (fun b => b ∈ l) 16) (ha : a < 16) (hn : ¬ a ∈ l) : l.length < 16 ∧ (l ++ [a]).length = cn (fun b => b ∈ l ++ [a]) 16 := by
  have e : cn (fun b => b ∈ l ++ [a]) 16 = cn (fun b => b ∈ l) 16 + 1 := by
    rw [← cn_add (P := fun b => b ∈ l) hn ha]
    exact cn_eq fun k _ => by rw [List.mem_append, List.mem_singleton]
  have h2 := cn_le (fun b => b ∈ l ++ [a]) 16
  rw [List.length_append, List.length_singleton, e, h]
  exact ⟨by omega, rfl⟩
section ZQ3
variable {L : Nat → Prop} {R : Nat → Nat → Prop}
theorem zq_RO_0 : zq_RO L R [] := ⟨by rw [zb_cnF (fun k _ => by simp)]; rfl, fun b h => by simp at h, fun b c h => by simp at h⟩
theorem zq_RO_n {l : List Nat} (H : zq_RO L R l) {h c : Nat} (hL : L h) (hn : ¬ h ∈ l) (hc : zq_C L R h c) : ¬ c ∈ l := fun q => hn (H.2.2 c h q (zq_C_sym hL hc))
/-- the part of a component below a behind the list -/
theorem zq_RO_p {l : List Nat} (H : zq_RO L R l) {h : Nat} (hL : L h) (hn : ¬ h ∈ l) : ∀ a, a ≤ 16 → (l ++ zq_fl (zq_C L R h) a).length = cn (fun b => b ∈ l ++ zq_fl (zq_C L R h) a) 16
  | 0, _ => by
    show (l ++ []).length = cn (fun b => b ∈ l ++ []) 16
    rw [List.append_nil]; exact H.1
  | a + 1, ha => by
    have ih := zq_RO_p H hL hn a (by omega)
    rcases Classical.em (zq_C L R h a) with z | z
    · rw [zq_fl_t z, ← List.append_assoc]
      refine (zq_len ih (by omega) ?_).2
      rw [List.mem_append, zq_fl_m]
      rintro (q | q)
      · exact zq_RO_n H hL hn z q
      · omega
    · rw [zq_fl_f z]; exact ih
theorem zq_RO_l {l : List Nat} (H : zq_RO L R l) {h : Nat} (hL : L h) (hn : ¬ h ∈ l) {a : Nat} (ha : a < 16) (z : zq_C L R h a) : (l ++ zq_fl (zq_C L R h) a).length < 16 := by
  refine (zq_len (a := a) (zq_RO_p H hL hn a (by omega)) ha ?_).1
  rw [List.mem_append, zq_fl_m]
  rintro (q | q)
  · exact zq_RO_n H hL hn z q
  · omega
theorem zq_RO_s (hR : ∀ a b c, R a b → R b c → R a c) (h16 : ∀ a, L a → a < 16) {l : List Nat} (H : zq_RO L R l) {h : Nat} (hL : L h) (hn : ¬ h ∈ l) : zq_RO L R (l ++ zq_fl (zq_C L R h) 16) := by
  refine ⟨zq_RO_p H hL hn 16 (by omega), ?_, ?_⟩
  · intro b hb
    rw [List.mem_append, zq_fl_m] at hb
    rcases hb with q | q
    · exact H.2.1 b q
    · exact q.2.1
  · intro b c hb hc
    rw [List.mem_append, zq_fl_m] at hb
    rw [List.mem_append, zq_fl_m]
    rcases hb with q | q
    · exact Or.inl (H.2.2 b c q hc)
    · exact Or.inr ⟨h16 c hc.1, zq_C_tr hR q.2 hc⟩
theorem zq_nx_n {l : List Nat} (h : ∀ j, j < 16 → ¬ zq_rd L R l j) : zq_nx L R l = l := if_pos (zq_pk_n h)
theorem zq_nx_y {l : List Nat} {i : Nat} (hi : i < 16) (q : zq_rd L R l i) (h : ∀ j, j < i → ¬ zq_rd L R l j) : zq_nx L R l = l ++ zq_fl (zq_C L R i) 16 := by
  have e := zq_pk_y hi q h
  unfold zq_nx
  rw [e, if_neg (by omega)]
theorem zq_RO_x (hR : ∀ a b c, R a b → R b c → R a c) (h16 : ∀ a, L a → a < 16) {l : List Nat} (H : zq_RO L R l) : zq_RO L R (zq_nx L R l) := by
  rcases zq_pk_s (zq_rd L R l) 16 with ⟨e, h⟩ | ⟨e, q, h⟩
  · rw [zq_nx_n h]; exact H
  · rw [zq_nx_y e q h]; exact zq_RO_s hR h16 H q.1.1 q.2.1
theorem zq_RO_r (hR : ∀ a b c, R a b → R b c → R a c) (h16 : ∀ a, L a → a < 16) : ∀ t, zq_RO L R (zq_rw L R t)
  | 0 => zq_RO_0
  | t + 1 => zq_RO_x hR h16 (zq_RO_r hR h16 t)
theorem zq_nx_p (l : List Nat) : ∃ s, zq_nx L R l = l ++ s := by
  unfold zq_nx
  split
  · exact ⟨[], by simp⟩
  · exact ⟨_, rfl⟩
theorem zq_rw_p (t : Nat) : ∀ d, ∃ s, zq_rw L R (t + d) = zq_rw L R t ++ s
  | 0 => ⟨[], by simp⟩
  | d + 1 => by
    obtain ⟨s, e⟩ := zq_rw_p t d
    obtain ⟨s', e'⟩ := zq_nx_p (L := L) (R := R) (zq_rw L R (t + d))
    exact ⟨s ++ s', by rw [← Nat.add_assoc]; show zq_nx L R (zq_rw L R (t + d)) = _; rw [e', e, List.append_assoc]⟩
theorem zq_rw_e (h : ∀ a, ¬ L a) : ∀ t, zq_rw L R t = []
  | 0 => rfl
  | t + 1 => by
    show zq_nx L R (zq_rw L R t) = []
    rw [zq_rw_e h t]
    exact zq_nx_n fun j _ q => h j q.1.1
end ZQ3
end
section
/-! lists in arrays -/
theorem zq_gl {l s : List Nat} {i : Nat} (h : i < l.length) : (l ++ s).getD i 0 = l.getD i 0 := by
  rw [List.getD_eq_getElem?_getD, List.getD_eq_getElem?_getD, List.getElem?_append_left h]
theorem zq_gr {l s : List Nat} {x : Nat} : (l ++ x :: s).getD l.length 0 = x := by
  rw [List.getD_eq_getElem?_getD, List.getElem?_append_right (Nat.le_refl _), Nat.sub_self]; rfl
def zq_LS (l : List Nat) (n : Int32) (f : Nat → Int32) : Prop := n = nI l.length ∧ ∀ i, i < l.length → f i = nI (l.getD i 0)
theorem zq_LS_0 {f : Nat → Int32} : zq_LS [] 0 f := ⟨rfl, fun i h => absurd h (by simp)⟩
theorem zq_LS_p {l : List Nat} {n : Int32} {f : Nat → Int32} {x : Nat} (h : zq_LS l n f) : zq_LS (l ++ [x]) (n + 1) (upd f l.length (nI x)) := by
  refine ⟨by rw [h.1, nI_1, List.length_append]; rfl, fun i hi => ?_⟩
  rw [List.length_append, List.length_singleton] at hi
  rcases Nat.lt_or_ge i l.length with z | z
  · rw [pk_un (by omega), zq_gl z, h.2 i z]
  · have : i = l.length := by omega
    subst this
    rw [pk_us, zq_gr]
/-! the conflict list: every (kind, line, number) has a place c -/
def zq_ok (L : Nat → Prop) (R : Nat → Nat → Prop) (Z : Nat → Prop) (dc : Nat → Nat) (k x y : Nat) : Prop :=
  (k = 1 ∧ x < y ∧ y < 16 ∧ zq_I L R x ∧ zq_I L R y ∧ ¬ R x y ∧ ¬ R y x) ∨ (k = 2 ∧ 2 ≤ y ∧ zq_I L R x ∧ y = cn (zq_C L R x) 16) ∨ (k = 4 ∧ Z x ∧ y = dc x)
noncomputable def zq_cd (L : Nat → Prop) (R : Nat → Nat → Prop) (Z : Nat → Prop) (dc : Nat → Nat) (c : Nat) : Nat := b01 (zq_ok L R Z dc (c / 272) (c / 17 % 16) (c % 17)) * (c / 272 * 10000 + c / 17 % 16 * 100 + c % 17)
def zq_ls (cd : Nat → Nat) : Nat → List Nat
  | 0 => []
  | n + 1 => if cd n = 0 then zq_ls cd n else zq_ls cd n ++ [cd n]
def zq_kd (cd : Nat → Nat) : Nat → Int32
  | 0 => 0
  | n + 1 => zq_kd cd n ||| nI (cd n / 10000)
theorem zq_ls_z {cd : Nat → Nat} {n : Nat} (h : cd n = 0) : zq_ls cd (n + 1) = zq_ls cd n ∧ zq_kd cd (n + 1) = zq_kd cd n := by
  refine ⟨if_pos h, ?_⟩
  show zq_kd cd n ||| nI (cd n / 10000) = _
  rw [h]
  show zq_kd cd n ||| 0 = _
  exact Int32.or_zero
theorem zq_ls_x {cd : Nat → Nat} {n x : Nat} (h : cd n = x) (hx : x ≠ 0) : zq_ls cd (n + 1) = zq_ls cd n ++ [x] ∧ zq_kd cd (n + 1) = zq_kd cd n ||| nI (x / 10000) := by
  subst h
  exact ⟨if_neg hx, rfl⟩
/-- the list so far, in the component's fields -/
def zq_CS (cd : Nat → Nat) (c : Nat) (cc ck : Int32) (cf : Nat → Int32) : Prop := zq_LS (zq_ls cd c) cc cf ∧ ck = zq_kd cd c
theorem zq_CS_k {cd : Nat → Nat} {cc ck : Int32} {cf : Nat → Int32} {a : Nat} : ∀ d, (∀ c, a ≤ c → c < a + d → cd c = 0) → zq_CS cd a cc ck cf → zq_CS cd (a + d) cc ck cf ∧ (zq_ls cd (a + d)).length = (zq_ls cd a).length
  | 0, _, h => ⟨h, rfl⟩
  | d + 1, hz, h => by
    have ih := zq_CS_k d (fun c h1 h2 => hz c h1 (by omega)) h
    have e := zq_ls_z (hz (a + d) (by omega) (by omega))
    rw [← Nat.add_assoc]
    unfold zq_CS
    rw [e.1, e.2]
    exact ih
theorem zq_CS_x {cd : Nat → Nat} {c x : Nat} {cc ck : Int32} {cf : Nat → Int32} (h : zq_CS cd c cc ck cf) (e : cd c = x) (hx : x ≠ 0) : zq_CS cd (c + 1) (cc + 1) (ck ||| nI (x / 10000)) (upd cf (zq_ls cd c).length (nI x)) ∧ (zq_ls cd (c + 1)).length = (zq_ls cd c).length + 1 := by
  have q := zq_ls_x e hx
  unfold zq_CS
  rw [q.1, q.2, List.length_append]
  exact ⟨⟨zq_LS_p h.1, by rw [h.2]⟩, rfl⟩
section ZQ4
variable {L : Nat → Prop} {R : Nat → Nat → Prop} {Z : Nat → Prop} {dc : Nat → Nat}
theorem zq_cdv {k x y : Nat} (hx : x < 16) (hy : y < 17) : zq_cd L R Z dc (272 * k + 17 * x + y) = b01 (zq_ok L R Z dc k x y) * (k * 10000 + x * 100 + y) := by
  have e1 : (272 * k + 17 * x + y) / 272 = k := by omega
  have e2 : (272 * k + 17 * x + y) / 17 % 16 = x := by omega
  have e3 : (272 * k + 17 * x + y) % 17 = y := by omega
  unfold zq_cd
  rw [e1, e2, e3]
theorem zq_cd_t {k x y : Nat} (hx : x < 16) (hy : y < 17) (h : zq_ok L R Z dc k x y) : zq_cd L R Z dc (272 * k + 17 * x + y) = k * 10000 + x * 100 + y := by
  rw [zq_cdv hx hy, b01_t h, Nat.one_mul]
theorem zq_cd_f {k x y : Nat} (hx : x < 16) (hy : y < 17) (h : ¬ zq_ok L R Z dc k x y) : zq_cd L R Z dc (272 * k + 17 * x + y) = 0 := by
  rw [zq_cdv hx hy, b01_f h, Nat.zero_mul]
theorem zq_cd_s (c : Nat) : ∃ k x y, x < 16 ∧ y < 17 ∧ c = 272 * k + 17 * x + y := ⟨c / 272, c / 17 % 16, c % 17, by omega, by omega, by omega⟩
/-- a whole row without a conflict -/
theorem zq_cd_row {k x : Nat} (hx : x < 16) (h : ∀ y, y < 17 → ¬ zq_ok L R Z dc k x y) : ∀ c, 272 * k + 17 * x ≤ c → c < 272 * k + 17 * x + 17 → zq_cd L R Z dc c = 0 := by
  intro c h1 h2
  obtain ⟨y, rfl⟩ : ∃ y, c = 272 * k + 17 * x + y := ⟨c - (272 * k + 17 * x), by omega⟩
  exact zq_cd_f hx (by omega) (h y (by omega))
theorem zq_cd_kind {k : Nat} (h : ∀ x y, ¬ zq_ok L R Z dc k x y) : ∀ c, 272 * k ≤ c → c < 272 * k + 272 → zq_cd L R Z dc c = 0 := by
  intro c h1 h2
  obtain ⟨k', x, y, hx, hy, rfl⟩ := zq_cd_s c
  have : k' = k := by omega
  subst this
  exact zq_cd_f hx hy (h x y)
theorem zq_cd_n {c : Nat} : zq_cd L R Z dc c = 0 ∨ (zq_cd L R Z dc c / 10000 = 1 ∨ zq_cd L R Z dc c / 10000 = 2 ∨ zq_cd L R Z dc c / 10000 = 4) := by
  obtain ⟨k, x, y, hx, hy, rfl⟩ := zq_cd_s c
  rcases Classical.em (zq_ok L R Z dc k x y) with h | h
  · right
    rw [zq_cd_t hx hy h]
    rcases h with h | h | h
    · left; have := h.1; omega
    · right; left; have := h.1; omega
    · right; right; have := h.1; omega
  · left; exact zq_cd_f hx hy h
theorem zq_or0 {x y : Int32} : (x ||| y) = 0 ↔ x = 0 ∧ y = 0 := by
  have h : zb_mk (x ||| y) (fun i => bt x i = true ∨ bt y i = true) := zb_or (fun _ _ => Iff.rfl) (fun _ _ => Iff.rfl)
  have hx : zb_mk x (fun i => bt x i = true) := fun _ _ => Iff.rfl
  have hy : zb_mk y (fun i => bt y i = true) := fun _ _ => Iff.rfl
  rw [zb_z h, zb_z hx, zb_z hy]
  constructor
  · intro q; exact ⟨fun i hi z => q i hi (Or.inl z), fun i hi z => q i hi (Or.inr z)⟩
  · intro q i hi z; exact z.elim (q.1 i hi) (q.2 i hi)
theorem zq_kd0 : ∀ n, zq_kd (zq_cd L R Z dc) n = 0 ↔ (zq_ls (zq_cd L R Z dc) n).length = 0
  | 0 => by
    show (0 : Int32) = 0 ↔ ([] : List Nat).length = 0
    simp
  | n + 1 => by
    have ih := zq_kd0 n
    rcases zq_cd_n (L := L) (R := R) (Z := Z) (dc := dc) (c := n) with h | h
    · have e := zq_ls_z h
      rw [e.1, e.2]; exact ih
    · have hx : zq_cd L R Z dc n ≠ 0 := by omega
      have e := zq_ls_x rfl hx
      rw [e.1, e.2, List.length_append, zq_or0]
      constructor
      · rintro ⟨_, q⟩
        exfalso
        have hq : nI (zq_cd L R Z dc n / 10000) = nI 0 := q
        rw [nI_eq (by omega) (by omega)] at hq
        omega
      · intro q; simp at q
theorem zq_ls_e (h1 : ∀ a, ¬ L a) (h2 : ∀ a, ¬ Z a) : ∀ n, zq_ls (zq_cd L R Z dc) n = [] ∧ zq_kd (zq_cd L R Z dc) n = 0
  | 0 => ⟨rfl, rfl⟩
  | n + 1 => by
    obtain ⟨k, x, y, hx, hy, e⟩ := zq_cd_s n
    have hz : zq_cd L R Z dc n = 0 := by
      rw [e]
      refine zq_cd_f hx hy ?_
      rintro (q | q | q)
      · exact h1 x q.2.2.2.1.1
      · exact h1 x q.2.2.1.1
      · exact h2 x q.2.1
    have q := zq_ls_z hz
    rw [q.1, q.2]
    exact zq_ls_e h1 h2 n
end ZQ4
/-- the number of pairs whose first line lies below h -/
def zq_tr : Nat → Nat
  | 0 => 0
  | h + 1 => zq_tr h + (15 - h)
theorem zq_tr_le : ∀ h, h < 17 → zq_tr h ≤ 120 := by decide
end
section
/-! the core out of the reference's arrays -/
def zq_E (ne : Nat) (ef et eo ab : Nat → Int32) (e a b : Nat) : Prop := ∃ k, k < ne ∧ ¬ ab e = 0 ∧ (eo k).toNatClampNeg = e ∧ (ef k).toNatClampNeg = a ∧ (et k).toNatClampNeg = b
def zq_D (dl ab : Nat → Int32) (d a : Nat) : Prop := a < 16 ∧ ¬ ab d = 0 ∧ ¬ dl (d * 16 + a) = 0
def zq_N (nd ab : Nat → Int32) (d e : Nat) : Prop := ¬ ab d = 0 ∧ ¬ ab e = 0 ∧ ¬ nd (d * 12 + e) = 0
def zq_P (nl : Nat) (it ab : Nat → Int32) (a : Nat) : Prop := a < nl ∧ ¬ ab (it a).toNatClampNeg = 0
/-- recorded data: the component's masks are the reference's tables -/
def zq_RD (nL nP nE nc nl ne : Nat) (ap : Int32) (nm dm it ef et eo dl nd ab : Nat → Int32) : Prop :=
  (nL ≤ 16 ∧ nP ≤ 12 ∧ nE ≤ 48 ∧ nc ≤ nP ∧ nl ≤ nL ∧ ne ≤ nE) ∧
  (zb_mk ap (fun p => ¬ ab p = 0) ∧ ∀ p, ¬ ab p = 0 → p < nc) ∧
  (∀ p, p < 12 → zb_mk (nm p) (fun q => q < 12 ∧ ¬ nd (p * 12 + q) = 0)) ∧
  ((∀ p q, p < 12 → q < 12 → ¬ nd (p * 12 + q) = 0 → q < nc) ∧ ∀ a, a < nl → (it a).toNatClampNeg ≤ nc) ∧
  (∀ p, p < 12 → zb_mk (dm p) (fun a => a < 16 ∧ ¬ dl (p * 16 + a) = 0)) ∧
  (∀ a, a < nl → vp_in (it a) 12) ∧ (∀ k, k < ne → vp_in (eo k) 12 ∧ vp_in (ef k) 16 ∧ vp_in (et k) 16)
/-- the bounds of a core -/
def zq_CK (E : Nat → Nat → Nat → Prop) (D : Nat → Nat → Prop) (P : Nat → Prop) : Prop := (∀ e a b, E e a b → e < 12 ∧ a < 16 ∧ b < 16) ∧ (∀ d a, D d a → d < 12 ∧ a < 16) ∧ ∀ a, P a → a < 16
noncomputable def zq_dc (D : Nat → Nat → Prop) (a : Nat) : Nat := cn (fun d => D d a) 16
noncomputable def zq_co (E : Nat → Nat → Nat → Prop) (D N : Nat → Nat → Prop) (P : Nat → Prop) : Nat → Nat := zq_cd (zq_Lv D P) (zq_R E) (zq_Zo E D N P) (zq_dc D)
/-- the component's view of the file -/
def zq_VW (E : Nat → Nat → Nat → Prop) (D N : Nat → Nat → Prop) (P : Nat → Prop) (lv gh zo cc ck rl : Int32) (rc dv cf ro : Nat → Int32) : Prop :=
  zb_mk lv (zq_Lv D P) ∧ zb_mk gh (zq_Gh E D N P) ∧ zb_mk zo (zq_Zo E D N P) ∧ (∀ a, a < 16 → zb_mk (rc a) (zq_R E a)) ∧ (∀ a, a < 16 → zb_mk (dv a) (zq_V E D P a)) ∧
  (zq_CS (zq_co E D N P) 1360 cc ck cf ∧ (zq_ls (zq_co E D N P) 1360).length ≤ 160) ∧ (zq_LS (zq_rw (zq_Lv D P) (zq_R E) 16) rl ro)
theorem zq_RD_ck {nL nP nE nc nl ne : Nat} {ap : Int32} {nm dm it ef et eo dl nd ab : Nat → Int32} (h : zq_RD nL nP nE nc nl ne ap nm dm it ef et eo dl nd ab) : zq_CK (zq_E ne ef et eo ab) (zq_D dl ab) (zq_P nl it ab) := by
  obtain ⟨⟨h1, h2, h3, h4, h5, h6⟩, ⟨_, ha⟩, _, _, _, _, he⟩ := h
  refine ⟨?_, ?_, ?_⟩
  · rintro e a b ⟨k, hk, _, rfl, rfl, rfl⟩
    obtain ⟨v1, v2, v3⟩ := he k hk
    exact ⟨(zb_nin v1 (by decide)).2, (zb_nin v2 (by decide)).2, (zb_nin v3 (by decide)).2⟩
  · rintro d a ⟨q, q', _⟩
    have := ha d q'
    exact ⟨by omega, q⟩
  · rintro a ⟨q, _⟩
    omega
theorem zq_R_tr {E : Nat → Nat → Nat → Prop} : ∀ a b c, zq_R E a b → zq_R E b c → zq_R E a c := fun _ _ _ h h' => zq_T_tr h trivial h'
theorem zq_Lv16 {E : Nat → Nat → Nat → Prop} {D : Nat → Nat → Prop} {P : Nat → Prop} (h : zq_CK E D P) : ∀ a, zq_Lv D P a → a < 16 := fun a q => h.2.2 a q.1
theorem zq_row16 {E : Nat → Nat → Nat → Prop} {D : Nat → Nat → Prop} {P : Nat → Prop} (h : zq_CK E D P) (t : Nat) : (zq_rw (zq_Lv D P) (zq_R E) t).length ≤ 16 := by
  rw [(zq_RO_r zq_R_tr (zq_Lv16 h) t).1]
  exact cn_le _ 16
/-- the relation -/
def i_Rel (_ : Nat) (u : SX) (v : SY) : Prop := ∃ (nL nP nE nc nl ne : Nat) (ap lv gh zo cc ck rl : Int32) (nm dm it tx ef et eo re nx tc de rc dv be co cf ro dl nd ab st hed pa dy pl : Nat → Int32),
  u = (nI nL, nI nP, nI nE, nI nc, nI nl, nI ne, ap, lv, gh, zo, cc, ck, rl, nm, dm, it, tx, ef, et, eo, re, nx, tc, de, rc, dv, be, co, cf, ro) ∧ v = (nI nL, nI nP, nI nE, nI nc, nI nl, nI ne, tx, it, ef, et, eo, dl, nd, ab, st, hed, pa, dy, pl) ∧
  zq_RD nL nP nE nc nl ne ap nm dm it ef et eo dl nd ab ∧ zq_VW (zq_E ne ef et eo ab) (zq_D dl ab) (zq_N nd ab) (zq_P nl it ab) lv gh zo cc ck rl rc dv cf ro
theorem i_up {k : Nat} {u : SX} {v : SY} (h : i_Rel k u v) : i_Rel (k + 3) u v := h
theorem zq_mk {k nL nP nE nc nl ne : Nat} {ap lv gh zo cc ck rl : Int32} {nm dm it tx ef et eo re nx tc de rc dv be co cf ro dl nd ab st hed pa dy pl : Nat → Int32}
  (h1 : zq_RD nL nP nE nc nl ne ap nm dm it ef et eo dl nd ab) (h2 : zq_VW (zq_E ne ef et eo ab) (zq_D dl ab) (zq_N nd ab) (zq_P nl it ab) lv gh zo cc ck rl rc dv cf ro) :
  i_Rel k (nI nL, nI nP, nI nE, nI nc, nI nl, nI ne, ap, lv, gh, zo, cc, ck, rl, nm, dm, it, tx, ef, et, eo, re, nx, tc, de, rc, dv, be, co, cf, ro) (nI nL, nI nP, nI nE, nI nc, nI nl, nI ne, tx, it, ef, et, eo, dl, nd, ab, st, hed, pa, dy, pl) :=
  ⟨nL, nP, nE, nc, nl, ne, ap, lv, gh, zo, cc, ck, rl, nm, dm, it, tx, ef, et, eo, re, nx, tc, de, rc, dv, be, co, cf, ro, dl, nd, ab, st, hed, pa, dy, pl, rfl, rfl, h1, h2⟩
theorem zq_el {k : Nat} {u : SX} {v : SY} {Q : SX → SY → Prop} (h : ∀ (nL nP nE nc nl ne : Nat) (ap lv gh zo cc ck rl : Int32) (nm dm it tx ef et eo re nx tc de rc dv be co cf ro dl nd ab st hed pa dy pl : Nat → Int32),
  zq_RD nL nP nE nc nl ne ap nm dm it ef et eo dl nd ab → zq_VW (zq_E ne ef et eo ab) (zq_D dl ab) (zq_N nd ab) (zq_P nl it ab) lv gh zo cc ck rl rc dv cf ro → Q (nI nL, nI nP, nI nE, nI nc, nI nl, nI ne, ap, lv, gh, zo, cc, ck, rl, nm, dm, it, tx, ef, et, eo, re, nx, tc, de, rc, dv, be, co, cf, ro) (nI nL, nI nP, nI nE, nI nc, nI nl, nI ne, tx, it, ef, et, eo, dl, nd, ab, st, hed, pa, dy, pl)) (I : i_Rel k u v) : Q u v :=
  Exists.elim I fun nL I => Exists.elim I fun nP I => Exists.elim I fun nE I => Exists.elim I fun nc I => Exists.elim I fun nl I => Exists.elim I fun ne I => Exists.elim I fun ap I => Exists.elim I fun lv I => Exists.elim I fun gh I => Exists.elim I fun zo I => Exists.elim I fun cc I => Exists.elim I fun ck I => Exists.elim I fun rl I => Exists.elim I fun nm I => Exists.elim I fun dm I => Exists.elim I fun it I => Exists.elim I fun tx I => Exists.elim I fun ef I => Exists.elim I fun et I => Exists.elim I fun eo I => Exists.elim I fun re I => Exists.elim I fun nx I => Exists.elim I fun tc I => Exists.elim I fun de I => Exists.elim I fun rc I => Exists.elim I fun dv I => Exists.elim I fun be I => Exists.elim I fun co I => Exists.elim I fun cf I => Exists.elim I fun ro I => Exists.elim I fun dl I => Exists.elim I fun nd I => Exists.elim I fun ab I => Exists.elim I fun st I => Exists.elim I fun hed I => Exists.elim I fun pa I => Exists.elim I fun dy I => Exists.elim I fun pl I =>
    by
      obtain ⟨hu, hv, h1, h2⟩ := I
      rw [hu, hv]
      exact h nL nP nE nc nl ne ap lv gh zo cc ck rl nm dm it tx ef et eo re nx tc de rc dv be co cf ro dl nd ab st hed pa dy pl h1 h2
theorem zq_ap {nL nP nE nc nl ne : Nat} {ap : Int32} {nm dm it ef et eo dl nd ab : Nat → Int32} (h : zq_RD nL nP nE nc nl ne ap nm dm it ef et eo dl nd ab) : ab nc = 0 := by
  apply Classical.byContradiction
  intro q
  have := h.2.1.2 nc q
  omega
end
section
/-! the component's small methods -/
theorem zx_has {post : Int32 → Prop} {u : SX} {m : Int32} {i : Nat} {P : Nat → Prop} (hm : zb_mk m P) (hi : i < 32) (h1 : P i → post 1) (h0 : ¬ P i → post 0) : wpX_has post u m (nI i) := by
  obtain ⟨LL, PL, EL, cl, lc, ec, ap, lv, gh, zo, cc, ck, rl, nm, dm, it, tx, ef, et, eo, re, nx, tc, de, rc, dv, be, co, cf, ro⟩ := u
  exact And.intro (fun z => h0 (fun p => (zb_has m hi).mp z ((hm i hi).mpr p))) (fun z => h1 (Classical.byContradiction fun p => z ((zb_has m hi).mpr (fun q => p ((hm i hi).mp q)))))
theorem zx_hasb {A B : Prop} {u : SX} {m : Int32} {i : Nat} {P : Nat → Prop} (hm : zb_mk m P) (hi : i < 32) (hB : P i → B) (hA : ¬ P i → A) : wpX_has (fun r => (r = 0 → A) ∧ (¬ r = 0 → B)) u m (nI i) :=
  zx_has hm hi (fun p => br_f zb_n1 (hB p)) (fun p => br_t rfl (hA p))
theorem zx_cb {post : Int32 → Prop} {u : SX} {m : Int32} {P : Nat → Prop} (hm : zb_mk m P) (h : post (nI (cn P 16))) : wpX_countBits post u m := by
  obtain ⟨LL, PL, EL, cl, lc, ec, ap, lv, gh, zo, cc, ck, rl, nm, dm, it, tx, ef, et, eo, re, nx, tc, de, rc, dv, be, co, cf, ro⟩ := u
  refine loop_0 (fun n i (s : Int32) => wX_countBits_4 post m LL PL EL cl lc ec ap lv gh zo cc ck rl nm dm it tx ef et eo re nx tc de rc dv be co cf ro n s (nI i)) (fun i s => s = nI (cn P i)) 16 (0 : Int32) rfl ?_ ?_
  · intro n s hs
    subst hs
    exact br_t (nI_le (a := 16) (Nat.le_refl _) (by decide)) h
  · intro n i s hi hs ih
    refine br_f (nI_ge (b := 16) hi (by decide)) (nm_r (e' := nI (cn P (i + 1))) ?_ (nm_r (nI_1 i) (ih _ rfl)))
    rw [zb_cb hm (by omega), hs, nI_add]
    rfl
section ZX1
variable {LL PL EL cl lc ec ap lv gh zo cc ck rl : Int32} {nm dm it tx ef et eo re nx tc de rc dv be co cf ro : Nat → Int32}
theorem zx_hd {A B : Prop} {p c : Nat} (hp : p < 2 ^ 31) (hc : c < 2 ^ 31) (hB : c < p → B) (hA : p ≤ c → A) : wpX_hasDraft (fun r => (r = 0 → A) ∧ (¬ r = 0 → B)) (LL, nI p, EL, nI c, lc, ec, ap, lv, gh, zo, cc, ck, rl, nm, dm, it, tx, ef, et, eo, re, nx, tc, de, rc, dv, be, co, cf, ro) :=
  pk_le p c (fun h => br_t rfl (hA h)) (fun h => br_f zb_n1 (hB h))
theorem zx_exN {post : Int32 → Prop} {l : Nat} {v : Int32} (h : v < 0 ∨ nI l ≤ v) (hp : post 0) : wpX_exists post (LL, PL, EL, cl, nI l, ec, ap, lv, gh, zo, cc, ck, rl, nm, dm, it, tx, ef, et, eo, re, nx, tc, de, rc, dv, be, co, cf, ro) v := br_c (fun _ => hp) (fun z => br_t (h.resolve_left z) hp)
theorem zx_exY {post : Int32 → Prop} {l j : Nat} (hj : j < l) (hl : l < 2 ^ 31) (hp : post 1) : wpX_exists post (LL, PL, EL, cl, nI l, ec, ap, lv, gh, zo, cc, ck, rl, nm, dm, it, tx, ef, et, eo, re, nx, tc, de, rc, dv, be, co, cf, ro) (nI j) := br_f (nI_pos (by omega)) (br_f (nI_ge hj hl) hp)
theorem zx_icN {post : Int32 → Prop} {l : Nat} {v : Int32} (h : v < 0 ∨ nI l ≤ v) (hp : post 0) : wpX_isClosed post (LL, PL, EL, nI l, lc, ec, ap, lv, gh, zo, cc, ck, rl, nm, dm, it, tx, ef, et, eo, re, nx, tc, de, rc, dv, be, co, cf, ro) v := br_c (fun _ => hp) (fun z => br_t (h.resolve_left z) hp)
theorem zx_icY {post : Int32 → Prop} {l j : Nat} (hj : j < l) (hl : l < 2 ^ 31) (hp : post 1) : wpX_isClosed post (LL, PL, EL, nI l, lc, ec, ap, lv, gh, zo, cc, ck, rl, nm, dm, it, tx, ef, et, eo, re, nx, tc, de, rc, dv, be, co, cf, ro) (nI j) := br_f (nI_pos (by omega)) (br_f (nI_ge hj hl) hp)
theorem zx_dh {post : Int32 → Prop} {ne : Nat} (hne : ne ≤ 48) {a b : Int32} (h0 : (∀ k, k < ne → ¬ (eo k = cl ∧ ef k = a ∧ et k = b)) → post 0) (h1 : (∃ k, k < ne ∧ (eo k = cl ∧ ef k = a ∧ et k = b)) → post 1) : wpX_draftHolds post (LL, PL, EL, cl, lc, nI ne, ap, lv, gh, zo, cc, ck, rl, nm, dm, it, tx, ef, et, eo, re, nx, tc, de, rc, dv, be, co, cf, ro) a b := by
  refine loop_0 (fun n i (_ : Unit) => wX_draftHolds_2 post a b LL PL EL cl lc (nI ne) ap lv gh zo cc ck rl nm dm it tx ef et eo re nx tc de rc dv be co cf ro n (nI i)) (fun i _ => ∀ k, k < i → ¬ (eo k = cl ∧ ef k = a ∧ et k = b)) ne () (fun k h => absurd h (by omega)) ?_ ?_
  · intro n s h
    exact br_t (nI_le (Nat.le_refl _) (by omega)) (h0 h)
  · intro n i s hi h ih
    have c := nI_clamp (n := i) (by omega)
    have hv : vp_in (nI i) 48 := vp_in_nI (by omega) (by decide)
    have nx : ¬ (eo i = cl ∧ ef i = a ∧ et i = b) → wX_draftHolds_2 post a b LL PL EL cl lc (nI ne) ap lv gh zo cc ck rl nm dm it tx ef et eo re nx tc de rc dv be co cf ro n (nI (i + 1)) := fun q => ih () (fun k hk => by
      rcases Nat.lt_or_ge k i with z | z
      · exact h k z
      · have : k = i := by omega
        subst this; exact q)
    refine br_f (nI_ge hi (by omega)) (And.intro hv ?_)
    rw [c]
    refine br_c (fun e1 => And.intro hv (br_c (fun e2 => And.intro hv (br_c (fun e3 => h1 ⟨i, hi, e1, e2, e3⟩) (fun e3 => nm_r (nI_1 i) (nx fun q => e3 q.2.2)))) (fun e2 => nm_r (nI_1 i) (nx fun q => e2 q.2.1)))) (fun e1 => nm_r (nI_1 i) (nx fun q => e1 q.1))
theorem zx_an {post : Int32 → Prop} {nc p : Nat} {A : Nat → Prop} {N : Nat → Nat → Prop} (hc : nc ≤ 12) (hp : p < 32) (ha : zb_mk ap A) (hn : ∀ r, r < 12 → zb_mk (nm r) (N r)) (h : ∀ m, zb_mk m (fun r => r < nc ∧ (A r ∧ N r p)) → post m) : wpX_appliedNeeding post (LL, PL, EL, nI nc, lc, ec, ap, lv, gh, zo, cc, ck, rl, nm, dm, it, tx, ef, et, eo, re, nx, tc, de, rc, dv, be, co, cf, ro) (nI p) := by
  refine loop_0 (fun n i (s : Int32) => wX_appliedNeeding_4 post (nI p) LL PL EL (nI nc) lc ec ap lv gh zo cc ck rl nm dm it tx ef et eo re nx tc de rc dv be co cf ro n s (nI i)) (fun i s => zb_mk s (fun r => False ∨ (r < i ∧ (A r ∧ N r p)))) nc (0 : Int32) (zb_st zb_0) ?_ ?_
  · intro n s hs
    exact br_t (nI_le (Nat.le_refl _) (by omega)) (h s (zb_en hs))
  · intro n i s hi hs ih
    have c := nI_clamp (n := i) (by omega)
    refine br_f (nI_ge hi (by omega)) ?_
    refine zx_hasb ha (by omega) (fun q => And.intro (vp_in_nI (by omega) (by decide)) ?_) (fun q => nm_r (nI_1 i) (ih _ (zb_ski hs fun z => q z.1)))
    rw [c]
    exact zx_hasb (hn i (by omega)) hp (fun q' => nm_e (nm_r (nI_1 i) (ih _ (zb_add hs (by omega) ⟨q, q'⟩)))) (fun q' => nm_r (nI_1 i) (ih _ (zb_ski hs fun z => q' z.2)))
end ZX1
end
section
/-! rebuild, the first passes: relations, edges, deleters, states of lines -/
section ZX2
variable {LL PL EL cl lc ec ap lv gh zo cc ck rl : Int32} {nm dm it tx ef et eo re nx tc de rc dv be co cf ro : Nat → Int32}
theorem zx_cr21 {post : SX → Prop} {J : Int32 → (Nat → Int32) → (Nat → Int32) → (Nat → Int32) → (Nat → Int32) → (Nat → Int32) → (Nat → Int32) → (Nat → Int32) → (Nat → Int32) → (Nat → Int32) → (Nat → Int32) → (Nat → Int32) → (Nat → Int32) → (Nat → Int32) → (Nat → Int32) → (Nat → Int32) → (Nat → Int32) → (Nat → Int32) → Prop} {p : Nat} {N : Nat → Nat → Prop} (hp : p < 12) (hn : ∀ r, r < 12 → zb_mk (nm r) (N r)) {m0 : Int32} (h0 : zb_mk m0 (fun r => N p r ∨ r = p))
  (h : ∀ m, zb_mk m (fun r => (N p r ∨ r = p) ∨ (r < 12 ∧ N r p)) → J (nI (p + 1)) nm dm it tx ef et eo (upd re p m) nx tc de rc dv be co cf ro) : ∃ n, wX_collectRelations_21 post J (nI p) LL PL EL cl lc ec ap lv gh zo cc ck rl nm dm it tx ef et eo re nx tc de rc dv be co cf ro n m0 0 := by
  have cp := nI_clamp (n := p) (by omega)
  refine loop_0 (fun n i (s : Int32) => wX_collectRelations_21 post J (nI p) LL PL EL cl lc ec ap lv gh zo cc ck rl nm dm it tx ef et eo re nx tc de rc dv be co cf ro n s (nI i)) (fun i s => zb_mk s (fun r => (N p r ∨ r = p) ∨ (r < i ∧ N r p))) 12 m0 (zb_iff h0 fun r _ => ⟨Or.inl, fun z => z.elim id fun q => absurd q.1 (by omega)⟩) ?_ ?_
  · intro n s hs
    refine br_t (nI_le (a := 12) (Nat.le_refl _) (by decide)) (And.intro (vp_in_nI hp (by decide)) ?_)
    rw [cp]
    exact nm_e (nm_r (nI_1 p) (h s hs))
  · intro n i s hi hs ih
    refine br_f (nI_ge (b := 12) hi (by decide)) (And.intro (vp_in_nI hi (by decide)) ?_)
    rw [nI_clamp (n := i) (by omega)]
    exact zx_hasb (hn i hi) (by omega) (fun q => nm_e (nm_r (nI_1 i) (ih _ (zb_add hs (by omega) q)))) (fun q => nm_r (nI_1 i) (ih _ (zb_ski hs q)))
theorem zx_cr {post : SX → Prop} {N : Nat → Nat → Prop} (hn : ∀ r, r < 12 → zb_mk (nm r) (N r))
  (h : ∀ re', (∀ p, p < 12 → zb_mk (re' p) (fun r => (N p r ∨ r = p) ∨ (r < 12 ∧ N r p))) → post (LL, PL, EL, cl, lc, ec, ap, lv, gh, zo, cc, ck, rl, nm, dm, it, tx, ef, et, eo, re', nx, tc, de, rc, dv, be, co, cf, ro)) : wpX_collectRelations post (LL, PL, EL, cl, lc, ec, ap, lv, gh, zo, cc, ck, rl, nm, dm, it, tx, ef, et, eo, re, nx, tc, de, rc, dv, be, co, cf, ro) := by
  refine loop_0 (fun n i (s : Nat → Int32) => wX_collectRelations_2 post LL PL EL cl lc ec ap lv gh zo cc ck rl n (nI i) nm dm it tx ef et eo s nx tc de rc dv be co cf ro) (fun i s => ∀ p, p < i → zb_mk (s p) (fun r => (N p r ∨ r = p) ∨ (r < 12 ∧ N r p))) 12 re (fun p hp => absurd hp (by omega)) ?_ ?_
  · intro n s hs
    exact br_t (nI_le (a := 12) (Nat.le_refl _) (by decide)) (h s hs)
  · intro n i s hi hs ih
    refine br_f (nI_ge (b := 12) hi (by decide)) (And.intro (vp_in_nI hi (by decide)) (nm_e ?_))
    rw [nI_clamp (n := i) (by omega)]
    refine zx_cr21 hi hn (zb_or (hn i hi) (zb_bit (by omega))) ?_
    intro m hm
    refine ih _ (fun p hp => ?_)
    rcases Nat.lt_or_ge p i with z | z
    · rw [pk_un (by omega)]; exact hs p z
    · have : p = i := by omega
      subst this
      rw [pk_us]; exact hm
end ZX2
/-! edges -/
theorem zq_E_s {k : Nat} {ef et eo ab : Nat → Int32} {e a b : Nat} : zq_E (k + 1) ef et eo ab e a b ↔ zq_E k ef et eo ab e a b ∨ (¬ ab e = 0 ∧ (eo k).toNatClampNeg = e ∧ (ef k).toNatClampNeg = a ∧ (et k).toNatClampNeg = b) := by
  constructor
  · rintro ⟨j, hj, q⟩
    rcases Nat.lt_or_ge j k with z | z
    · exact Or.inl ⟨j, z, q⟩
    · have : j = k := by omega
      subst this
      exact Or.inr q
  · rintro (⟨j, hj, q⟩ | q)
    · exact ⟨j, by omega, q⟩
    · exact ⟨k, by omega, q⟩
def zq_EI (E : Nat → Nat → Nat → Prop) (nx tc : Nat → Int32) : Prop := ∀ a, a < 16 → zb_mk (nx a) (zq_G E a) ∧ zb_mk (tc a) (zq_Tc E a)
theorem zq_EI_iff {E E' : Nat → Nat → Nat → Prop} {nx tc : Nat → Int32} (h : zq_EI E nx tc) (q : ∀ e a b, E e a b ↔ E' e a b) : zq_EI E' nx tc := fun a ha =>
  ⟨zb_iff (h a ha).1 fun b _ => ⟨fun ⟨e, z⟩ => ⟨e, (q e a b).mp z⟩, fun ⟨e, z⟩ => ⟨e, (q e a b).mpr z⟩⟩,
   zb_iff (h a ha).2 fun e _ => ⟨fun ⟨b, z⟩ => ⟨b, z.imp (q e a b).mp (q e b a).mp⟩, fun ⟨b, z⟩ => ⟨b, z.imp (q e a b).mpr (q e b a).mpr⟩⟩⟩
theorem zq_EI_a {E E' : Nat → Nat → Nat → Prop} {nx tc : Nat → Int32} (h : zq_EI E nx tc) {o f t : Nat} (ho : o < 32) (ht : t < 32) (q : ∀ e a b, E' e a b ↔ E e a b ∨ (e = o ∧ a = f ∧ b = t)) :
  zq_EI E' (upd nx f (nx f ||| ((1 : Int32) <<< (nI t &&& 31)))) (upd (upd tc f (tc f ||| ((1 : Int32) <<< (nI o &&& 31)))) t ((upd tc f (tc f ||| ((1 : Int32) <<< (nI o &&& 31)))) t ||| ((1 : Int32) <<< (nI o &&& 31)))) := by
  have h1 : ∀ a, a < 16 → zb_mk (upd tc f (tc f ||| ((1 : Int32) <<< (nI o &&& 31))) a) (fun e => zq_Tc E a e ∨ (a = f ∧ e = o)) := by
    intro a ha
    rcases Classical.em (a = f) with z | z
    · subst z
      rw [pk_us]
      exact zb_iff (zb_or (h a ha).2 (zb_bit ho)) fun e _ => ⟨fun y => y.imp id fun y => ⟨rfl, y⟩, fun y => y.imp id fun y => y.2⟩
    · rw [pk_un z]
      exact zb_iff (h a ha).2 fun e _ => ⟨Or.inl, fun y => y.elim id fun y => absurd y.1 z⟩
  intro a ha
  refine ⟨?_, ?_⟩
  · rcases Classical.em (a = f) with z | z
    · subst z
      rw [pk_us]
      refine zb_iff (zb_or (h a ha).1 (zb_bit ht)) fun b _ => ?_
      constructor
      · rintro (⟨e, y⟩ | y)
        · exact ⟨e, (q e a b).mpr (Or.inl y)⟩
        · exact ⟨o, (q o a b).mpr (Or.inr ⟨rfl, rfl, y⟩)⟩
      · rintro ⟨e, y⟩
        rcases (q e a b).mp y with y | y
        · exact Or.inl ⟨e, y⟩
        · exact Or.inr y.2.2
    · rw [pk_un z]
      refine zb_iff (h a ha).1 fun b _ => ?_
      constructor
      · rintro ⟨e, y⟩; exact ⟨e, (q e a b).mpr (Or.inl y)⟩
      · rintro ⟨e, y⟩
        rcases (q e a b).mp y with y | y
        · exact ⟨e, y⟩
        · exact absurd y.2.1 z
  · have key : ∀ e, zq_Tc E' a e ↔ (zq_Tc E a e ∨ (a = f ∧ e = o)) ∨ (a = t ∧ e = o) := by
      intro e
      constructor
      · rintro ⟨b, y | y⟩
        · rcases (q e a b).mp y with y | y
          · exact Or.inl (Or.inl ⟨b, Or.inl y⟩)
          · exact Or.inl (Or.inr ⟨y.2.1, y.1⟩)
        · rcases (q e b a).mp y with y | y
          · exact Or.inl (Or.inl ⟨b, Or.inr y⟩)
          · exact Or.inr ⟨y.2.2, y.1⟩
      · rintro ((⟨b, y⟩ | ⟨y1, y2⟩) | ⟨y1, y2⟩)
        · exact ⟨b, y.imp (fun y => (q e a b).mpr (Or.inl y)) (fun y => (q e b a).mpr (Or.inl y))⟩
        · exact ⟨t, Or.inl ((q e a t).mpr (Or.inr ⟨y2, y1, rfl⟩))⟩
        · exact ⟨f, Or.inr ((q e f a).mpr (Or.inr ⟨y2, rfl, y1⟩))⟩
    rcases Classical.em (a = t) with z | z
    · subst z
      rw [pk_us]
      exact zb_iff (zb_or (h1 a ha) (zb_bit ho)) fun e _ => ⟨fun y => (key e).mpr (y.imp id fun y => ⟨rfl, y⟩), fun y => ((key e).mp y).imp id fun y => y.2⟩
    · rw [pk_un z]
      exact zb_iff (h1 a ha) fun e _ => ⟨fun y => (key e).mpr (Or.inl y), fun y => ((key e).mp y).elim id fun y => absurd y.1 z⟩
section ZX3
variable {LL PL EL cl lc ec ap lv gh zo cc ck rl : Int32} {nm dm it tx ef et eo re nx tc de rc dv be co cf ro : Nat → Int32}
theorem zx_ce30 {post : SX → Prop} {ne : Nat} {ab : Nat → Int32} (hne : ne ≤ 48) (ha : zb_mk ap (fun p => ¬ ab p = 0)) (he : ∀ k, k < ne → vp_in (eo k) 12 ∧ vp_in (ef k) 16 ∧ vp_in (et k) 16)
  (h : ∀ nx tc, zq_EI (zq_E ne ef et eo ab) nx tc → post (LL, PL, EL, cl, lc, nI ne, ap, lv, gh, zo, cc, ck, rl, nm, dm, it, tx, ef, et, eo, re, nx, tc, de, rc, dv, be, co, cf, ro)) (h0 : zq_EI (fun _ _ _ => False) nx tc) : ∃ n, wX_collectEdges_30 post LL PL EL cl lc (nI ne) ap lv gh zo cc ck rl n 0 nm dm it tx ef et eo re nx tc de rc dv be co cf ro := by
  refine loop_0 (fun n i (s : (Nat → Int32) × (Nat → Int32)) => wX_collectEdges_30 post LL PL EL cl lc (nI ne) ap lv gh zo cc ck rl n (nI i) nm dm it tx ef et eo re s.1 s.2 de rc dv be co cf ro) (fun i s => zq_EI (zq_E i ef et eo ab) s.1 s.2) ne (nx, tc) (zq_EI_iff h0 fun e a b => ⟨fun z => z.elim, fun ⟨k, hk, _⟩ => absurd hk (by omega)⟩) ?_ ?_
  · intro n s hs
    exact br_t (nI_le (Nat.le_refl _) (by omega)) (h s.1 s.2 hs)
  · intro n i s hi hs ih
    obtain ⟨v1, v2, v3⟩ := he i hi
    obtain ⟨e1, l1⟩ := zb_nin v1 (by decide)
    obtain ⟨e2, l2⟩ := zb_nin v2 (by decide)
    obtain ⟨e3, l3⟩ := zb_nin v3 (by decide)
    have hv : vp_in (nI i) 48 := vp_in_nI (by omega) (by decide)
    have c := nI_clamp (n := i) (by omega)
    generalize ho : (eo i).toNatClampNeg = o at *
    generalize hf : (ef i).toNatClampNeg = f at *
    generalize ht : (et i).toNatClampNeg = t at *
    refine br_f (nI_ge hi (by omega)) (And.intro hv (nm_r (e' := nI o) (by rw [c, e1]) ?_))
    refine zx_hasb ha (by omega) (fun q => And.intro hv (nm_r (e' := nI f) (by rw [c, e2]) (And.intro hv (nm_r (e' := nI t) (by rw [c, e3]) ?_)))) (fun q => nm_r (nI_1 i) (ih s (zq_EI_iff hs fun e a b => ?_)))
    · have w2 : vp_in (nI f) 16 := vp_in_nI l2 (by decide)
      have w3 : vp_in (nI t) 16 := vp_in_nI l3 (by decide)
      rw [nI_clamp (n := f) (by omega), nI_clamp (n := t) (by omega)]
      refine And.intro w2 (And.intro w2 (nm_e (And.intro w2 (And.intro w2 (nm_e (And.intro w3 (And.intro w3 (nm_e (nm_r (nI_1 i) (ih (_, _) (zq_EI_a hs (by omega) (by omega) ?_))))))))))) 
      intro e a b
      rw [zq_E_s, ho, hf, ht]
      constructor
      · rintro (z | ⟨_, z1, z2, z3⟩)
        · exact Or.inl z
        · exact Or.inr ⟨z1.symm, z2.symm, z3.symm⟩
      · rintro (z | ⟨z1, z2, z3⟩)
        · exact Or.inl z
        · exact Or.inr ⟨by rw [z1]; exact q, z1.symm, z2.symm, z3.symm⟩
    · rw [zq_E_s, ho]
      constructor
      · exact Or.inl
      · rintro (z | ⟨z0, z1, _⟩)
        · exact z
        · rw [← z1] at z0; exact absurd z0 q
theorem zx_ce {post : SX → Prop} {ne : Nat} {ab : Nat → Int32} (hne : ne ≤ 48) (ha : zb_mk ap (fun p => ¬ ab p = 0)) (he : ∀ k, k < ne → vp_in (eo k) 12 ∧ vp_in (ef k) 16 ∧ vp_in (et k) 16)
  (h : ∀ nx tc, zq_EI (zq_E ne ef et eo ab) nx tc → post (LL, PL, EL, cl, lc, nI ne, ap, lv, gh, zo, cc, ck, rl, nm, dm, it, tx, ef, et, eo, re, nx, tc, de, rc, dv, be, co, cf, ro)) : wpX_collectEdges post (LL, PL, EL, cl, lc, nI ne, ap, lv, gh, zo, cc, ck, rl, nm, dm, it, tx, ef, et, eo, re, nx, tc, de, rc, dv, be, co, cf, ro) := by
  refine loop_0 (fun n i (s : (Nat → Int32) × (Nat → Int32)) => wX_collectEdges_2 post LL PL EL cl lc (nI ne) ap lv gh zo cc ck rl n (nI i) nm dm it tx ef et eo re s.1 s.2 de rc dv be co cf ro) (fun i s => ∀ a, a < i → s.1 a = 0 ∧ s.2 a = 0) 16 (nx, tc) (fun a z => absurd z (by omega)) ?_ ?_
  · intro n s hs
    refine br_t (nI_le (a := 16) (Nat.le_refl _) (by decide)) (zx_ce30 hne ha he h ?_)
    intro a hA
    rw [(hs a hA).1, (hs a hA).2]
    exact ⟨zb_iff zb_0 fun b _ => ⟨fun z => z.elim, fun ⟨_, z⟩ => z⟩, zb_iff zb_0 fun b _ => ⟨fun z => z.elim, fun ⟨_, z⟩ => z.elim id id⟩⟩
  · intro n i s hi hs ih
    have hv : vp_in (nI i) 16 := vp_in_nI hi (by decide)
    refine br_f (nI_ge (b := 16) hi (by decide)) ?_
    rw [nI_clamp (n := i) (by omega)]
    refine And.intro hv (nm_e (And.intro hv (nm_e (nm_r (nI_1 i) (ih (upd s.1 i 0, upd s.2 i 0) ?_)))))
    intro a hA
    dsimp only
    rcases Nat.lt_or_ge a i with z | z
    · rw [pk_un (by omega), pk_un (by omega)]; exact hs a z
    · have : a = i := by omega
      subst this
      rw [pk_us, pk_us]; exact ⟨rfl, rfl⟩
end ZX3
end
section
/-! rebuild: deleters, states of lines -/
section ZX4
variable {LL PL EL cl lc ec ap lv gh zo cc ck rl : Int32} {nm dm it tx ef et eo re nx tc de rc dv be co cf ro : Nat → Int32}
theorem zx_cd12 {post : SX → Prop} {J : Int32 → (Nat → Int32) → (Nat → Int32) → (Nat → Int32) → (Nat → Int32) → (Nat → Int32) → (Nat → Int32) → (Nat → Int32) → (Nat → Int32) → (Nat → Int32) → (Nat → Int32) → (Nat → Int32) → (Nat → Int32) → (Nat → Int32) → (Nat → Int32) → (Nat → Int32) → (Nat → Int32) → (Nat → Int32) → Prop} {a : Nat} {A : Nat → Prop} {Dm : Nat → Nat → Prop} (hA : a < 16) (ha : zb_mk ap A) (hd : ∀ p, p < 12 → zb_mk (dm p) (Dm p))
  (h : ∀ m, zb_mk m (fun d => d < 12 ∧ (A d ∧ Dm d a)) → J (nI (a + 1)) nm dm it tx ef et eo re nx tc (upd de a m) rc dv be co cf ro) : ∃ n, wX_collectDeleters_12 post J (nI a) LL PL EL cl lc ec ap lv gh zo cc ck rl nm dm it tx ef et eo re nx tc de rc dv be co cf ro n 0 0 := by
  refine loop_0 (fun n i (s : Int32) => wX_collectDeleters_12 post J (nI a) LL PL EL cl lc ec ap lv gh zo cc ck rl nm dm it tx ef et eo re nx tc de rc dv be co cf ro n s (nI i)) (fun i s => zb_mk s (fun d => False ∨ (d < i ∧ (A d ∧ Dm d a)))) 12 (0 : Int32) (zb_st zb_0) ?_ ?_
  · intro n s hs
    refine br_t (nI_le (a := 12) (Nat.le_refl _) (by decide)) (And.intro (vp_in_nI hA (by decide)) ?_)
    rw [nI_clamp (n := a) (by omega)]
    exact nm_e (nm_r (nI_1 a) (h s (zb_en hs)))
  · intro n i s hi hs ih
    refine br_f (nI_ge (b := 12) hi (by decide)) ?_
    refine zx_hasb ha (by omega) (fun q => And.intro (vp_in_nI hi (by decide)) ?_) (fun q => nm_r (nI_1 i) (ih _ (zb_ski hs fun z => q z.1)))
    rw [nI_clamp (n := i) (by omega)]
    exact zx_hasb (hd i hi) (by omega) (fun q' => nm_e (nm_r (nI_1 i) (ih _ (zb_add hs (by omega) ⟨q, q'⟩)))) (fun q' => nm_r (nI_1 i) (ih _ (zb_ski hs fun z => q' z.2)))
theorem zx_cd {post : SX → Prop} {A : Nat → Prop} {Dm : Nat → Nat → Prop} (ha : zb_mk ap A) (hd : ∀ p, p < 12 → zb_mk (dm p) (Dm p))
  (h : ∀ de, (∀ a, a < 16 → zb_mk (de a) (fun d => d < 12 ∧ (A d ∧ Dm d a))) → post (LL, PL, EL, cl, lc, ec, ap, lv, gh, zo, cc, ck, rl, nm, dm, it, tx, ef, et, eo, re, nx, tc, de, rc, dv, be, co, cf, ro)) : wpX_collectDeleters post (LL, PL, EL, cl, lc, ec, ap, lv, gh, zo, cc, ck, rl, nm, dm, it, tx, ef, et, eo, re, nx, tc, de, rc, dv, be, co, cf, ro) := by
  refine loop_0 (fun n i (s : Nat → Int32) => wX_collectDeleters_2 post LL PL EL cl lc ec ap lv gh zo cc ck rl n (nI i) nm dm it tx ef et eo re nx tc s rc dv be co cf ro) (fun i s => ∀ a, a < i → zb_mk (s a) (fun d => d < 12 ∧ (A d ∧ Dm d a))) 16 de (fun p hp => absurd hp (by omega)) ?_ ?_
  · intro n s hs
    exact br_t (nI_le (a := 16) (Nat.le_refl _) (by decide)) (h s hs)
  · intro n i s hi hs ih
    refine br_f (nI_ge (b := 16) hi (by decide)) (zx_cd12 hi ha hd ?_)
    intro m hm
    refine ih _ (fun p hp => ?_)
    rcases Nat.lt_or_ge p i with z | z
    · rw [pk_un (by omega)]; exact hs p z
    · have : p = i := by omega
      subst this
      rw [pk_us]; exact hm
theorem zx_ti {post : Int32 → Prop} {a : Nat} {Dl Te : Nat → Prop} {Rl : Nat → Nat → Prop} (hA : a < 16) (hd : zb_mk (de a) Dl) (ht : zb_mk (tc a) Te) (hr : ∀ d, d < 12 → zb_mk (re d) (Rl d))
  (h0 : (∀ d, d < 12 → ¬ (Dl d ∧ ∃ e, e < 32 ∧ Te e ∧ ¬ Rl d e)) → post 0) (h1 : (∃ d, d < 12 ∧ Dl d ∧ ∃ e, e < 32 ∧ Te e ∧ ¬ Rl d e) → post 1) : wpX_touchedIndependently post (LL, PL, EL, cl, lc, ec, ap, lv, gh, zo, cc, ck, rl, nm, dm, it, tx, ef, et, eo, re, nx, tc, de, rc, dv, be, co, cf, ro) (nI a) := by
  have hv : vp_in (nI a) 16 := vp_in_nI hA (by decide)
  refine loop_0 (fun n i (_ : Unit) => wX_touchedIndependently_2 post (nI a) LL PL EL cl lc ec ap lv gh zo cc ck rl nm dm it tx ef et eo re nx tc de rc dv be co cf ro n (nI i)) (fun i _ => ∀ d, d < i → ¬ (Dl d ∧ ∃ e, e < 32 ∧ Te e ∧ ¬ Rl d e)) 12 () (fun d z => absurd z (by omega)) ?_ ?_
  · intro n s hs
    exact br_t (nI_le (a := 12) (Nat.le_refl _) (by decide)) (h0 hs)
  · intro n i s hi hs ih
    have nx : ¬ (Dl i ∧ ∃ e, e < 32 ∧ Te e ∧ ¬ Rl i e) → wX_touchedIndependently_2 post (nI a) LL PL EL cl lc ec ap lv gh zo cc ck rl nm dm it tx ef et eo re nx tc de rc dv be co cf ro n (nI (i + 1)) := fun q => ih () (fun d hd => by
      rcases Nat.lt_or_ge d i with z | z
      · exact hs d z
      · have : d = i := by omega
        subst this; exact q)
    refine br_f (nI_ge (b := 12) hi (by decide)) (And.intro hv ?_)
    rw [nI_clamp (n := a) (by omega), nI_clamp (n := i) (by omega)]
    refine zx_hasb hd (by omega) (fun q => And.intro hv (And.intro (vp_in_nI hi (by decide)) ?_)) (fun q => nm_r (nI_1 i) (nx fun z => q z.1))
    have hm := zb_and ht (zb_not (hr i hi))
    refine br_c (fun z => nm_r (nI_1 i) (nx ?_)) (fun z => h1 ?_)
    · rintro ⟨_, e, he, y1, y2⟩
      exact (zb_z hm).mp z e he ⟨y1, y2⟩
    · refine ⟨i, hi, q, ?_⟩
      apply Classical.byContradiction
      intro y
      exact z ((zb_z hm).mpr fun e he y' => y ⟨e, he, y'⟩)
/-- the facts that a line's state rests on -/
theorem zx_cl {post : SX → Prop} {a : Nat} {E : Nat → Nat → Nat → Prop} {D N : Nat → Nat → Prop} {Rl : Nat → Nat → Prop} (hA : a < 16) (hd : zb_mk (de a) (fun d => D d a)) (hD : ∀ d, D d a → d < 12) (ht : zb_mk (tc a) (zq_Tc E a)) (hr : ∀ d, d < 12 → zb_mk (re d) (Rl d))
  (hq : ∀ d, D d a → ((∃ e, e < 32 ∧ zq_Tc E a e ∧ ¬ Rl d e) ↔ zq_ZW E N d a))
  (hL : ¬ zq_H D a → post (LL, PL, EL, cl, lc, ec, ap, lv ||| ((1 : Int32) <<< (nI a &&& 31)), gh, zo, cc, ck, rl, nm, dm, it, tx, ef, et, eo, re, nx, tc, de, rc, dv, be, co, cf, ro)) (hG : zq_H D a → ¬ zq_Zi E D N a → post (LL, PL, EL, cl, lc, ec, ap, lv, gh ||| ((1 : Int32) <<< (nI a &&& 31)), zo, cc, ck, rl, nm, dm, it, tx, ef, et, eo, re, nx, tc, de, rc, dv, be, co, cf, ro)) (hZ : zq_H D a → zq_Zi E D N a → post (LL, PL, EL, cl, lc, ec, ap, lv, gh, zo ||| ((1 : Int32) <<< (nI a &&& 31)), cc, ck, rl, nm, dm, it, tx, ef, et, eo, re, nx, tc, de, rc, dv, be, co, cf, ro)) : wpX_classify post (LL, PL, EL, cl, lc, ec, ap, lv, gh, zo, cc, ck, rl, nm, dm, it, tx, ef, et, eo, re, nx, tc, de, rc, dv, be, co, cf, ro) (nI a) := by
  refine nm_e (And.intro (vp_in_nI hA (by decide)) ?_)
  rw [nI_clamp (n := a) (by omega)]
  refine br_c (fun z => nm_e (hL ?_)) (fun z => ?_)
  · rintro ⟨d, y⟩
    have := hD d y
    exact (zb_z hd).mp z d (by omega) y
  · have hh : zq_H D a := by
      apply Classical.byContradiction
      intro y
      exact z ((zb_z hd).mpr fun d _ y' => y ⟨d, y'⟩)
    refine zx_ti hA hd ht hr (fun q => br_t rfl (nm_e (hG hh ?_))) (fun q => br_f zb_n1 (nm_e (hZ hh ?_)))
    · rintro ⟨d, y, w⟩
      exact q d (hD d y) ⟨y, (hq d y).mpr w⟩
    · obtain ⟨d, _, y, w⟩ := q
      exact ⟨d, y, (hq d y).mp w⟩
theorem zx_cln {post : SX → Prop} {nl : Nat} {ab : Nat → Int32} {E : Nat → Nat → Nat → Prop} {D N : Nat → Nat → Prop} {Rl : Nat → Nat → Prop} (hl : nl ≤ 16) (ha : zb_mk ap (fun p => ¬ ab p = 0)) (hi : ∀ a, a < nl → vp_in (it a) 12)
  (hd : ∀ a, a < 16 → zb_mk (de a) (fun d => D d a)) (hD : ∀ a d, D d a → d < 12) (ht : ∀ a, a < 16 → zb_mk (tc a) (zq_Tc E a)) (hr : ∀ d, d < 12 → zb_mk (re d) (Rl d))
  (hq : ∀ a d, D d a → ((∃ e, e < 32 ∧ zq_Tc E a e ∧ ¬ Rl d e) ↔ zq_ZW E N d a))
  (h : ∀ lv gh zo, zb_mk lv (zq_Lv D (zq_P nl it ab)) → zb_mk gh (zq_Gh E D N (zq_P nl it ab)) → zb_mk zo (zq_Zo E D N (zq_P nl it ab)) → post (LL, PL, EL, cl, nI nl, ec, ap, lv, gh, zo, cc, ck, rl, nm, dm, it, tx, ef, et, eo, re, nx, tc, de, rc, dv, be, co, cf, ro)) : wpX_classifyLines post (LL, PL, EL, cl, nI nl, ec, ap, lv, gh, zo, cc, ck, rl, nm, dm, it, tx, ef, et, eo, re, nx, tc, de, rc, dv, be, co, cf, ro) := by
  refine loop_0 (fun n i (s : Int32 × Int32 × Int32) => wX_classifyLines_17 post n (nI i) LL PL EL cl (nI nl) ec ap s.1 s.2.1 s.2.2 cc ck rl nm dm it tx ef et eo re nx tc de rc dv be co cf ro)
    (fun i s => zb_mk s.1 (fun x => False ∨ (x < i ∧ zq_Lv D (zq_P nl it ab) x)) ∧ zb_mk s.2.1 (fun x => False ∨ (x < i ∧ zq_Gh E D N (zq_P nl it ab) x)) ∧ zb_mk s.2.2 (fun x => False ∨ (x < i ∧ zq_Zo E D N (zq_P nl it ab) x))) nl ((0 : Int32), (0 : Int32), (0 : Int32)) ⟨zb_st zb_0, zb_st zb_0, zb_st zb_0⟩ ?_ ?_
  · intro n s hs
    refine br_t (nI_le (Nat.le_refl _) (by omega)) (h s.1 s.2.1 s.2.2 ?_ ?_ ?_)
    · exact zb_iff (zb_en hs.1) fun x _ => ⟨fun z => z.2, fun z => ⟨z.1.1, z⟩⟩
    · exact zb_iff (zb_en hs.2.1) fun x _ => ⟨fun z => z.2, fun z => ⟨z.1.1, z⟩⟩
    · exact zb_iff (zb_en hs.2.2) fun x _ => ⟨fun z => z.2, fun z => ⟨z.1.1, z⟩⟩
  · intro n i s hin hs ih
    obtain ⟨e1, l1⟩ := zb_nin (hi i hin) (by decide)
    refine br_f (nI_ge hin (by omega)) (And.intro (vp_in_nI (by omega) (by decide)) ?_)
    rw [nI_clamp (n := i) (by omega), e1]
    refine zx_hasb ha (by omega) (fun q => ?_) (fun q => nm_r (nI_1 i) (ih s ⟨zb_ski hs.1 fun z => q z.1.2, zb_ski hs.2.1 fun z => q z.1.2, zb_ski hs.2.2 fun z => q z.1.2⟩))
    have hp : zq_P nl it ab i := ⟨hin, q⟩
    refine zx_cl (E := E) (D := D) (N := N) (by omega) (hd i (by omega)) (hD i) (ht i (by omega)) hr (hq i) (fun y => nm_r (nI_1 i) (ih (s.1 ||| ((1 : Int32) <<< (nI i &&& 31)), s.2.1, s.2.2) ⟨zb_add hs.1 (by omega) ⟨hp, y⟩, zb_ski hs.2.1 fun z => y z.2.1, zb_ski hs.2.2 ?_⟩)) (fun y y' => nm_r (nI_1 i) (ih (s.1, s.2.1 ||| ((1 : Int32) <<< (nI i &&& 31)), s.2.2) ⟨zb_ski hs.1 fun z => z.2 y, zb_add hs.2.1 (by omega) ⟨hp, y, y'⟩, zb_ski hs.2.2 fun z => y' z.2⟩)) (fun y y' => nm_r (nI_1 i) (ih (s.1, s.2.1, s.2.2 ||| ((1 : Int32) <<< (nI i &&& 31))) ⟨zb_ski hs.1 fun z => z.2 y, zb_ski hs.2.1 fun z => z.2.2 y', zb_add hs.2.2 (by omega) ⟨hp, y'⟩⟩))
    rintro ⟨_, d, y1, _⟩
    exact y ⟨d, y1⟩
end ZX4
end
section
/-! rebuild: paths, earlier lines, components, heads -/
section ZX5
variable {LL PL EL cl lc ec ap lv gh zo cc ck rl : Int32} {nm dm it tx ef et eo re nx tc de rc dv be co cf ro : Nat → Int32}
theorem zx_pt {post : SX → Prop} {k : Nat} {M : Nat → Prop} {G : Nat → Nat → Prop} (hk : k < 16) (hM : M k) (h0 : ∀ a, a < 16 → zb_mk (rc a) (zq_W M G k a))
  (h : ∀ rc', (∀ a, a < 16 → zb_mk (rc' a) (zq_W M G (k + 1) a)) → post (LL, PL, EL, cl, lc, ec, ap, lv, gh, zo, cc, ck, rl, nm, dm, it, tx, ef, et, eo, re, nx, tc, de, rc', dv, be, co, cf, ro)) : wpX_passThrough post (LL, PL, EL, cl, lc, ec, ap, lv, gh, zo, cc, ck, rl, nm, dm, it, tx, ef, et, eo, re, nx, tc, de, rc, dv, be, co, cf, ro) (nI k) := by
  refine loop_0 (fun n i (s : Nat → Int32) => wX_passThrough_2 post (nI k) LL PL EL cl lc ec ap lv gh zo cc ck rl n (nI i) nm dm it tx ef et eo re nx tc de s dv be co cf ro) (fun i s => ∀ a, a < 16 → (a < i → zb_mk (s a) (zq_W M G (k + 1) a)) ∧ (i ≤ a → zb_mk (s a) (zq_W M G k a))) 16 rc (fun a z => ⟨fun y => absurd y (by omega), fun _ => h0 a z⟩) ?_ ?_
  · intro n s hs
    exact br_t (nI_le (a := 16) (Nat.le_refl _) (by decide)) (h s fun a z => (hs a z).1 z)
  · intro n i s hi hs ih
    have hv : vp_in (nI i) 16 := vp_in_nI hi (by decide)
    have hw : vp_in (nI k) 16 := vp_in_nI hk (by decide)
    have m1 : zb_mk (s i) (zq_W M G k i) := (hs i hi).2 (Nat.le_refl _)
    have m2 : zb_mk (s k) (zq_W M G k k) := by
      rcases Nat.lt_or_ge k i with z | z
      · exact zb_iff ((hs k hk).1 z) fun b _ => zq_W_kk
      · exact (hs k hk).2 z
    refine br_f (nI_ge (b := 16) hi (by decide)) (And.intro hv ?_)
    rw [nI_clamp (n := i) (by omega), nI_clamp (n := k) (by omega)]
    refine zx_hasb m1 (by omega) (fun q => And.intro hv (And.intro hw (And.intro hv (nm_e (nm_r (nI_1 i) (ih _ ?_)))))) (fun q => nm_r (nI_1 i) (ih _ ?_))
    · intro a ha
      rcases Classical.em (a = i) with z | z
      · subst z
        rw [pk_us]
        refine ⟨fun _ => zb_iff (zb_or m1 m2) fun b _ => ?_, fun y => absurd y (by omega)⟩
        exact ⟨fun y => y.imp id fun y => ⟨hM, q, y⟩, fun y => y.imp id fun y => y.2.2⟩
      · rw [pk_un z]
        exact ⟨fun y => (hs a ha).1 (by omega), fun y => (hs a ha).2 (by omega)⟩
    · intro a ha
      rcases Classical.em (a = i) with z | z
      · subst z
        refine ⟨fun _ => zb_iff m1 fun b _ => ?_, fun y => absurd y (by omega)⟩
        exact ⟨Or.inl, fun y => y.elim id fun y => absurd y.2.1 q⟩
      · exact ⟨fun y => (hs a ha).1 (by omega), fun y => (hs a ha).2 (by omega)⟩
theorem zx_pd {post : SX → Prop} {k : Nat} {M : Nat → Prop} {G : Nat → Nat → Prop} (hk : k < 16) (hM : M k) (h0 : ∀ a, a < 16 → zb_mk (dv a) (zq_W M G k a))
  (h : ∀ rc', (∀ a, a < 16 → zb_mk (rc' a) (zq_W M G (k + 1) a)) → post (LL, PL, EL, cl, lc, ec, ap, lv, gh, zo, cc, ck, rl, nm, dm, it, tx, ef, et, eo, re, nx, tc, de, rc, rc', be, co, cf, ro)) : wpX_passThroughDeleted post (LL, PL, EL, cl, lc, ec, ap, lv, gh, zo, cc, ck, rl, nm, dm, it, tx, ef, et, eo, re, nx, tc, de, rc, dv, be, co, cf, ro) (nI k) := by
  refine loop_0 (fun n i (s : Nat → Int32) => wX_passThroughDeleted_2 post (nI k) LL PL EL cl lc ec ap lv gh zo cc ck rl n (nI i) nm dm it tx ef et eo re nx tc de rc s be co cf ro) (fun i s => ∀ a, a < 16 → (a < i → zb_mk (s a) (zq_W M G (k + 1) a)) ∧ (i ≤ a → zb_mk (s a) (zq_W M G k a))) 16 dv (fun a z => ⟨fun y => absurd y (by omega), fun _ => h0 a z⟩) ?_ ?_
  · intro n s hs
    exact br_t (nI_le (a := 16) (Nat.le_refl _) (by decide)) (h s fun a z => (hs a z).1 z)
  · intro n i s hi hs ih
    have hv : vp_in (nI i) 16 := vp_in_nI hi (by decide)
    have hw : vp_in (nI k) 16 := vp_in_nI hk (by decide)
    have m1 : zb_mk (s i) (zq_W M G k i) := (hs i hi).2 (Nat.le_refl _)
    have m2 : zb_mk (s k) (zq_W M G k k) := by
      rcases Nat.lt_or_ge k i with z | z
      · exact zb_iff ((hs k hk).1 z) fun b _ => zq_W_kk
      · exact (hs k hk).2 z
    refine br_f (nI_ge (b := 16) hi (by decide)) (And.intro hv ?_)
    rw [nI_clamp (n := i) (by omega), nI_clamp (n := k) (by omega)]
    refine zx_hasb m1 (by omega) (fun q => And.intro hv (And.intro hw (And.intro hv (nm_e (nm_r (nI_1 i) (ih _ ?_)))))) (fun q => nm_r (nI_1 i) (ih _ ?_))
    · intro a ha
      rcases Classical.em (a = i) with z | z
      · subst z
        rw [pk_us]
        refine ⟨fun _ => zb_iff (zb_or m1 m2) fun b _ => ?_, fun y => absurd y (by omega)⟩
        exact ⟨fun y => y.imp id fun y => ⟨hM, q, y⟩, fun y => y.imp id fun y => y.2.2⟩
      · rw [pk_un z]
        exact ⟨fun y => (hs a ha).1 (by omega), fun y => (hs a ha).2 (by omega)⟩
    · intro a ha
      rcases Classical.em (a = i) with z | z
      · subst z
        refine ⟨fun _ => zb_iff m1 fun b _ => ?_, fun y => absurd y (by omega)⟩
        exact ⟨Or.inl, fun y => y.elim id fun y => absurd y.2.1 q⟩
      · exact ⟨fun y => (hs a ha).1 (by omega), fun y => (hs a ha).2 (by omega)⟩
theorem zx_cp50 {post : SX → Prop} {Dd : Nat → Prop} {G : Nat → Nat → Prop} {dd : Int32} (hd : zb_mk dd Dd) (h0 : ∀ a, a < 16 → zb_mk (rc a) (G a) ∧ zb_mk (dv a) (G a))
  (h : ∀ rc dv, (∀ a, a < 16 → zb_mk (rc a) (zq_W (fun _ => True) G 16 a)) → (∀ a, a < 16 → zb_mk (dv a) (zq_W Dd G 16 a)) → post (LL, PL, EL, cl, lc, ec, ap, lv, gh, zo, cc, ck, rl, nm, dm, it, tx, ef, et, eo, re, nx, tc, de, rc, dv, be, co, cf, ro)) : ∃ n, wX_closePaths_50 post dd n 0 LL PL EL cl lc ec ap lv gh zo cc ck rl nm dm it tx ef et eo re nx tc de rc dv be co cf ro := by
  refine loop_0 (fun n i (s : (Nat → Int32) × (Nat → Int32)) => wX_closePaths_50 post dd n (nI i) LL PL EL cl lc ec ap lv gh zo cc ck rl nm dm it tx ef et eo re nx tc de s.1 s.2 be co cf ro) (fun i s => (∀ a, a < 16 → zb_mk (s.1 a) (zq_W (fun _ => True) G i a)) ∧ (∀ a, a < 16 → zb_mk (s.2 a) (zq_W Dd G i a))) 16 (rc, dv) ⟨fun a ha => (h0 a ha).1, fun a ha => (h0 a ha).2⟩ ?_ ?_
  · intro n s hs
    exact br_t (nI_le (a := 16) (Nat.le_refl _) (by decide)) (h s.1 s.2 hs.1 hs.2)
  · intro n i s hi hs ih
    refine br_f (nI_ge (b := 16) hi (by decide)) (zx_pt (M := fun _ => True) (G := G) hi trivial hs.1 (fun rc' h1 => ?_))
    refine zx_hasb hd (by omega) (fun q => zx_pd (M := Dd) (G := G) hi q hs.2 (fun dv' h2 => nm_r (nI_1 i) (ih (rc', dv') ⟨h1, h2⟩))) (fun q => nm_r (nI_1 i) (ih (rc', s.2) ⟨h1, fun a ha => zb_iff (hs.2 a ha) fun b _ => ?_⟩))
    exact ⟨Or.inl, fun y => y.elim id fun y => absurd y.1 q⟩
theorem zx_cp {post : SX → Prop} {E : Nat → Nat → Nat → Prop} {D N : Nat → Nat → Prop} {P : Nat → Prop} (hE : ∀ e a b, E e a b → a < 16) (hg : zb_mk gh (zq_Gh E D N P)) (hz : zb_mk zo (zq_Zo E D N P)) (hn : ∀ a, a < 16 → zb_mk (nx a) (zq_G E a))
  (h : ∀ rc dv, (∀ a, a < 16 → zb_mk (rc a) (zq_R E a)) → (∀ a, a < 16 → zb_mk (dv a) (zq_V E D P a)) → post (LL, PL, EL, cl, lc, ec, ap, lv, gh, zo, cc, ck, rl, nm, dm, it, tx, ef, et, eo, re, nx, tc, de, rc, dv, be, co, cf, ro)) : wpX_closePaths post (LL, PL, EL, cl, lc, ec, ap, lv, gh, zo, cc, ck, rl, nm, dm, it, tx, ef, et, eo, re, nx, tc, de, rc, dv, be, co, cf, ro) := by
  have hG : ∀ f t, zq_G E f t → f < 16 := fun f t ⟨e, z⟩ => hE e f t z
  refine loop_0 (fun n i (s : (Nat → Int32) × (Nat → Int32)) => wX_closePaths_2 post LL PL EL cl lc ec ap lv gh zo cc ck rl n (nI i) nm dm it tx ef et eo re nx tc de s.1 s.2 be co cf ro) (fun i s => ∀ a, a < i → s.1 a = nx a ∧ s.2 a = nx a) 16 (rc, dv) (fun a z => absurd z (by omega)) ?_ ?_
  · intro n s hs
    refine br_t (nI_le (a := 16) (Nat.le_refl _) (by decide)) (nm_e (zx_cp50 (Dd := zq_Dd D P) (G := zq_G E) (zb_iff (zb_or hg hz) fun a _ => zq_Dd_iff.symm) ?_ ?_))
    · intro a ha
      rw [(hs a ha).1, (hs a ha).2]
      exact ⟨hn a ha, hn a ha⟩
    · intro rc dv h1 h2
      exact h rc dv (fun a ha => zb_iff (h1 a ha) fun b _ => zq_W_iff hG a b) (fun a ha => zb_iff (h2 a ha) fun b _ => zq_W_iff hG a b)
  · intro n i s hi hs ih
    have hv : vp_in (nI i) 16 := vp_in_nI hi (by decide)
    refine br_f (nI_ge (b := 16) hi (by decide)) ?_
    rw [nI_clamp (n := i) (by omega)]
    refine And.intro hv (And.intro hv (nm_e (And.intro hv (And.intro hv (nm_e (nm_r (nI_1 i) (ih (upd s.1 i (nx i), upd s.2 i (nx i)) ?_)))))))
    intro a ha
    dsimp only
    rcases Nat.lt_or_ge a i with z | z
    · rw [pk_un (by omega), pk_un (by omega)]; exact hs a z
    · have : a = i := by omega
      subst this
      rw [pk_us, pk_us]; exact ⟨rfl, rfl⟩
theorem zx_tr12 {post : SX → Prop} {J : Int32 → (Nat → Int32) → (Nat → Int32) → (Nat → Int32) → (Nat → Int32) → (Nat → Int32) → (Nat → Int32) → (Nat → Int32) → (Nat → Int32) → (Nat → Int32) → (Nat → Int32) → (Nat → Int32) → (Nat → Int32) → (Nat → Int32) → (Nat → Int32) → (Nat → Int32) → (Nat → Int32) → (Nat → Int32) → Prop} {b : Nat} {R : Nat → Nat → Prop} (hb : b < 16) (hr : ∀ a, a < 16 → zb_mk (rc a) (R a))
  (h : ∀ m, zb_mk m (fun a => a < 16 ∧ R a b) → J (nI (b + 1)) nm dm it tx ef et eo re nx tc de rc dv (upd be b m) co cf ro) : ∃ n, wX_transposeReach_12 post J (nI b) LL PL EL cl lc ec ap lv gh zo cc ck rl nm dm it tx ef et eo re nx tc de rc dv be co cf ro n 0 0 := by
  refine loop_0 (fun n i (s : Int32) => wX_transposeReach_12 post J (nI b) LL PL EL cl lc ec ap lv gh zo cc ck rl nm dm it tx ef et eo re nx tc de rc dv be co cf ro n s (nI i)) (fun i s => zb_mk s (fun a => False ∨ (a < i ∧ R a b))) 16 (0 : Int32) (zb_st zb_0) ?_ ?_
  · intro n s hs
    refine br_t (nI_le (a := 16) (Nat.le_refl _) (by decide)) (And.intro (vp_in_nI hb (by decide)) ?_)
    rw [nI_clamp (n := b) (by omega)]
    exact nm_e (nm_r (nI_1 b) (h s (zb_en hs)))
  · intro n i s hi hs ih
    refine br_f (nI_ge (b := 16) hi (by decide)) (And.intro (vp_in_nI hi (by decide)) ?_)
    rw [nI_clamp (n := i) (by omega)]
    exact zx_hasb (hr i hi) (by omega) (fun q => nm_e (nm_r (nI_1 i) (ih _ (zb_add hs (by omega) q)))) (fun q => nm_r (nI_1 i) (ih _ (zb_ski hs q)))
theorem zx_tr {post : SX → Prop} {R : Nat → Nat → Prop} (hr : ∀ a, a < 16 → zb_mk (rc a) (R a))
  (h : ∀ be, (∀ b, b < 16 → zb_mk (be b) (fun a => a < 16 ∧ R a b)) → post (LL, PL, EL, cl, lc, ec, ap, lv, gh, zo, cc, ck, rl, nm, dm, it, tx, ef, et, eo, re, nx, tc, de, rc, dv, be, co, cf, ro)) : wpX_transposeReach post (LL, PL, EL, cl, lc, ec, ap, lv, gh, zo, cc, ck, rl, nm, dm, it, tx, ef, et, eo, re, nx, tc, de, rc, dv, be, co, cf, ro) := by
  refine loop_0 (fun n i (s : Nat → Int32) => wX_transposeReach_2 post LL PL EL cl lc ec ap lv gh zo cc ck rl n (nI i) nm dm it tx ef et eo re nx tc de rc dv s co cf ro) (fun i s => ∀ b, b < i → zb_mk (s b) (fun a => a < 16 ∧ R a b)) 16 be (fun p hp => absurd hp (by omega)) ?_ ?_
  · intro n s hs
    exact br_t (nI_le (a := 16) (Nat.le_refl _) (by decide)) (h s hs)
  · intro n i s hi hs ih
    refine br_f (nI_ge (b := 16) hi (by decide)) (zx_tr12 hi hr ?_)
    intro m hm
    refine ih _ (fun p hp => ?_)
    rcases Nat.lt_or_ge p i with z | z
    · rw [pk_un (by omega)]; exact hs p z
    · have : p = i := by omega
      subst this
      rw [pk_us]; exact hm
theorem zx_bc {post : SX → Prop} {L : Nat → Prop} {R : Nat → Nat → Prop} (hl : zb_mk lv L) (h16 : ∀ a, L a → a < 16) (hr : ∀ a, a < 16 → zb_mk (rc a) (R a)) (hb : ∀ b, b < 16 → zb_mk (be b) (fun a => a < 16 ∧ R a b))
  (h : ∀ co, (∀ a, a < 16 → zb_mk (co a) (fun b => L a ∧ zq_C L R a b)) → post (LL, PL, EL, cl, lc, ec, ap, lv, gh, zo, cc, ck, rl, nm, dm, it, tx, ef, et, eo, re, nx, tc, de, rc, dv, be, co, cf, ro)) : wpX_buildComponents post (LL, PL, EL, cl, lc, ec, ap, lv, gh, zo, cc, ck, rl, nm, dm, it, tx, ef, et, eo, re, nx, tc, de, rc, dv, be, co, cf, ro) := by
  refine loop_0 (fun n i (s : Nat → Int32) => wX_buildComponents_2 post LL PL EL cl lc ec ap lv gh zo cc ck rl n (nI i) nm dm it tx ef et eo re nx tc de rc dv be s cf ro) (fun i s => ∀ a, a < i → zb_mk (s a) (fun b => L a ∧ zq_C L R a b)) 16 co (fun p hp => absurd hp (by omega)) ?_ ?_
  · intro n s hs
    exact br_t (nI_le (a := 16) (Nat.le_refl _) (by decide)) (h s hs)
  · intro n i s hi hs ih
    have hv : vp_in (nI i) 16 := vp_in_nI hi (by decide)
    refine br_f (nI_ge (b := 16) hi (by decide)) (And.intro hv (nm_e ?_))
    rw [nI_clamp (n := i) (by omega)]
    refine zx_hasb hl (by omega) (fun q => And.intro hv (And.intro hv (And.intro hv (nm_e (nm_r (nI_1 i) (ih _ ?_)))))) (fun q => nm_r (nI_1 i) (ih _ ?_))
    · intro a ha
      rcases Nat.lt_or_ge a i with z | z
      · rw [pk_un (by omega), pk_un (by omega)]; exact hs a z
      · have : a = i := by omega
        subst this
        rw [pk_us]
        refine zb_iff (zb_or (zb_and (zb_and (hr a hi) (hb a hi)) hl) (zb_bit (by omega))) fun b _ => ?_
        constructor
        · rintro (⟨⟨y1, _, y2⟩, y3⟩ | y)
          · exact ⟨q, y3, Or.inr ⟨y1, y2⟩⟩
          · subst y; exact ⟨q, q, Or.inl rfl⟩
        · rintro ⟨_, y3, y | ⟨y1, y2⟩⟩
          · exact Or.inr y
          · exact Or.inl ⟨⟨y1, h16 b y3, y2⟩, y3⟩
    · intro a ha
      rcases Nat.lt_or_ge a i with z | z
      · rw [pk_un (by omega)]; exact hs a z
      · have : a = i := by omega
        subst this
        rw [pk_us]
        exact zb_iff zb_0 fun b _ => ⟨fun y => y.elim, fun y => q y.1⟩
theorem zx_ih {A B : Prop} {L : Nat → Prop} {R : Nat → Nat → Prop} {a : Nat} (ha : a < 16) (hl : zb_mk lv L) (hc : zb_mk (co a) (fun b => L a ∧ zq_C L R a b)) (hB : zq_I L R a → B) (hA : ¬ zq_I L R a → A) : wpX_isHead (fun r => (r = 0 → A) ∧ (¬ r = 0 → B)) (LL, PL, EL, cl, lc, ec, ap, lv, gh, zo, cc, ck, rl, nm, dm, it, tx, ef, et, eo, re, nx, tc, de, rc, dv, be, co, cf, ro) (nI a) := by
  unfold wpX_isHead
  refine zx_hasb hl (by omega) (fun q => And.intro (vp_in_nI ha (by decide)) ?_) (fun q => br_t rfl (hA fun z => q z.1))
  rw [nI_clamp (n := a) (by omega)]
  have hm := zb_and hc (zb_low ha)
  refine br_c (fun z => br_f zb_n1 (hB ⟨q, fun b hb y => ?_⟩)) (fun z => br_t rfl (hA fun y => z ((zb_z hm).mpr fun b _ w => y.2 b w.2 w.1.2)))
  exact (zb_z hm).mp z b (by omega) ⟨⟨q, y⟩, hb⟩
end ZX5
end
section
/-! rebuild: the conflict list -/
section ZX6
variable {L : Nat → Prop} {R : Nat → Nat → Prop} {Z : Nat → Prop} {dc : Nat → Nat}
theorem zq_CS_m {k x a b : Nat} {cc ck : Int32} {cf : Nat → Int32} (hx : x < 16) (hab : a ≤ b) (hb : b ≤ 17) (h : ∀ y, a ≤ y → y < b → ¬ zq_ok L R Z dc k x y) (hs : zq_CS (zq_cd L R Z dc) (272 * k + 17 * x + a) cc ck cf) :
  zq_CS (zq_cd L R Z dc) (272 * k + 17 * x + b) cc ck cf ∧ (zq_ls (zq_cd L R Z dc) (272 * k + 17 * x + b)).length = (zq_ls (zq_cd L R Z dc) (272 * k + 17 * x + a)).length := by
  have q := zq_CS_k (cd := zq_cd L R Z dc) (a := 272 * k + 17 * x + a) (b - a) (fun c h1 h2 => by
    obtain ⟨y, rfl⟩ : ∃ y, c = 272 * k + 17 * x + y := ⟨c - (272 * k + 17 * x), by omega⟩
    exact zq_cd_f hx (by omega) (h y (by omega) (by omega))) hs
  have e : 272 * k + 17 * x + a + (b - a) = 272 * k + 17 * x + b := by omega
  rw [e] at q
  exact q
theorem zq_CS_kd {k : Nat} {cc ck : Int32} {cf : Nat → Int32} (h : ∀ x y, ¬ zq_ok L R Z dc k x y) (hs : zq_CS (zq_cd L R Z dc) (272 * k) cc ck cf) :
  zq_CS (zq_cd L R Z dc) (272 * (k + 1)) cc ck cf ∧ (zq_ls (zq_cd L R Z dc) (272 * (k + 1))).length = (zq_ls (zq_cd L R Z dc) (272 * k)).length :=
  zq_CS_k (cd := zq_cd L R Z dc) (a := 272 * k) 272 (zq_cd_kind h) hs
end ZX6
section ZX7
variable {LL PL EL cl lc ec ap lv gh zo cc ck rl : Int32} {nm dm it tx ef et eo re nx tc de rc dv be co cf ro : Nat → Int32}
theorem zx_ad {post : SX → Prop} {cd : Nat → Nat} {c K x y : Nat} (h : zq_CS cd c cc ck cf) (hl : (zq_ls cd c).length < 160) (e : cd c = K * 10000 + x * 100 + y) (hK : 0 < K) (hx : x < 16) (hy : y < 17)
  (hp : ∀ cc ck cf, zq_CS cd (c + 1) cc ck cf → (zq_ls cd (c + 1)).length = (zq_ls cd c).length + 1 → post (LL, PL, EL, cl, lc, ec, ap, lv, gh, zo, cc, ck, rl, nm, dm, it, tx, ef, et, eo, re, nx, tc, de, rc, dv, be, co, cf, ro)) : wpX_addConflict post (LL, PL, EL, cl, lc, ec, ap, lv, gh, zo, cc, ck, rl, nm, dm, it, tx, ef, et, eo, re, nx, tc, de, rc, dv, be, co, cf, ro) (nI K) (nI x) (nI y) := by
  obtain ⟨q1, q2⟩ := zq_CS_x h e (by omega)
  have e1 : (K * 10000 + x * 100 + y) / 10000 = K := by omega
  rw [e1] at q1
  have hc := h.1.1
  subst hc
  generalize hn : (zq_ls cd c).length = n at *
  refine br_f (nI_ge (b := 160) hl (by decide)) (And.intro (vp_in_nI hl (by decide)) (nm_r (e' := upd cf n (nI (K * 10000 + x * 100 + y))) ?_ (nm_e (nm_e (hp _ _ _ q1 q2)))))
  rw [nI_clamp (by omega), show (10000 : Int32) = nI 10000 from rfl, show (100 : Int32) = nI 100 from rfl, pk_mul, pk_mul, nI_add, nI_add]
variable {L : Nat → Prop} {R : Nat → Nat → Prop} {Z : Nat → Prop} {dc : Nat → Nat}
theorem zx_lu {post : SX → Prop} {h : Nat} (hh : h < 16) (hI : zq_I L R h) (hl : zb_mk lv L) (hc : ∀ a, a < 16 → zb_mk (co a) (fun b => L a ∧ zq_C L R a b)) (hr : ∀ a, a < 16 → zb_mk (rc a) (R a)) (hb : ∀ b, b < 16 → zb_mk (be b) (fun a => a < 16 ∧ R a b))
  (h0 : zq_CS (zq_cd L R Z dc) (272 * 1 + 17 * h) cc ck cf) (hn : (zq_ls (zq_cd L R Z dc) (272 * 1 + 17 * h)).length ≤ zq_tr h)
  (hp : ∀ cc ck cf, zq_CS (zq_cd L R Z dc) (272 * 1 + 17 * (h + 1)) cc ck cf → (zq_ls (zq_cd L R Z dc) (272 * 1 + 17 * (h + 1))).length ≤ zq_tr (h + 1) → post (LL, PL, EL, cl, lc, ec, ap, lv, gh, zo, cc, ck, rl, nm, dm, it, tx, ef, et, eo, re, nx, tc, de, rc, dv, be, co, cf, ro)) : wpX_listUnorderedWith post (LL, PL, EL, cl, lc, ec, ap, lv, gh, zo, cc, ck, rl, nm, dm, it, tx, ef, et, eo, re, nx, tc, de, rc, dv, be, co, cf, ro) (nI h) := by
  have hv : vp_in (nI h) 16 := vp_in_nI hh (by decide)
  have ht := zq_tr_le (h + 1) (by omega)
  have ht' : zq_tr (h + 1) = zq_tr h + (15 - h) := rfl
  refine And.intro hv (And.intro hv (nm_e (nm_r (nI_1 h) ?_)))
  rw [nI_clamp (n := h) (by omega)]
  have hm : zb_mk (rc h ||| be h) (fun k => R h k ∨ (k < 16 ∧ R k h)) := zb_or (hr h hh) (hb h hh)
  have s0 := zq_CS_m (L := L) (R := R) (Z := Z) (dc := dc) (k := 1) (x := h) (a := 0) (b := h + 1) hh (by omega) (by omega) (fun y _ hy => by
    rintro (z | z | z)
    · omega
    · omega
    · omega) h0
  refine pk_loop (fun n i (s : Int32 × Int32 × (Nat → Int32)) => wX_listUnorderedWith_18 post (nI h) (rc h ||| be h) n (nI i) LL PL EL cl lc ec ap lv gh zo s.1 s.2.1 rl nm dm it tx ef et eo re nx tc de rc dv be co s.2.2 ro)
    (fun i s => h + 1 ≤ i ∧ zq_CS (zq_cd L R Z dc) (272 * 1 + 17 * h + i) s.1 s.2.1 s.2.2 ∧ (zq_ls (zq_cd L R Z dc) (272 * 1 + 17 * h + i)).length ≤ zq_tr h + (i - (h + 1))) 16 (h + 1) (cc, ck, cf) (by omega) ⟨by omega, s0.1, by rw [s0.2]; exact Nat.le_trans hn (by omega)⟩ ?_ ?_
  · rintro n s ⟨_, hs, hb'⟩
    have s1 := zq_CS_m (L := L) (R := R) (Z := Z) (dc := dc) (k := 1) (x := h) (a := 16) (b := 17) hh (by omega) (by omega) (fun y hy hy' => by
      rintro (z | z | z)
      · omega
      · omega
      · omega) hs
    exact br_t (nI_le (a := 16) (Nat.le_refl _) (by decide)) (hp _ _ _ s1.1 (by
      show (zq_ls (zq_cd L R Z dc) (272 * 1 + 17 * h + 17)).length ≤ _
      rw [s1.2]; omega))
  · rintro n i s hi ⟨hge, hs, hb'⟩ ih
    have hno : ¬ zq_ok L R Z dc 1 h i → wX_listUnorderedWith_18 post (nI h) (rc h ||| be h) n (nI (i + 1)) LL PL EL cl lc ec ap lv gh zo s.1 s.2.1 rl nm dm it tx ef et eo re nx tc de rc dv be co s.2.2 ro := fun q => by
      have s1 := zq_CS_m (L := L) (R := R) (Z := Z) (dc := dc) (k := 1) (x := h) (a := i) (b := i + 1) hh (by omega) (by omega) (fun y hy hy' => by
        have : y = i := by omega
        subst this; exact q) hs
      exact ih s ⟨by omega, s1.1, by rw [s1.2]; omega⟩
    refine br_f (nI_ge (b := 16) hi (by decide)) (zx_ih (L := L) (R := R) hi hl (hc i hi) (fun q => ?_) (fun q => nm_r (nI_1 i) (hno ?_)))
    · refine zx_hasb hm (by omega) (fun q' => nm_r (nI_1 i) (hno ?_)) (fun q' => ?_)
      · rintro (z | z | z)
        · rcases q' with y | y
          · exact z.2.2.2.2.2.1 y
          · exact z.2.2.2.2.2.2 y.2
        · omega
        · omega
      · have hok : zq_ok L R Z dc 1 h i := Or.inl ⟨rfl, by omega, hi, hI, q, fun y => q' (Or.inl y), fun y => q' (Or.inr ⟨hi, y⟩)⟩
        refine zx_ad (K := 1) (x := h) (y := i) hs (by omega) (zq_cd_t hh (by omega) hok) (by omega) hh (by omega) ?_
        intro cc' ck' cf' h1 h2
        exact nm_r (nI_1 i) (ih (cc', ck', cf') ⟨by omega, h1, by
          show (zq_ls (zq_cd L R Z dc) (272 * 1 + 17 * h + i + 1)).length ≤ _
          rw [h2]; omega⟩)
    · rintro (z | z | z)
      · exact q z.2.2.2.2.1
      · omega
      · omega
theorem zx_lo {post : SX → Prop} (hl : zb_mk lv L) (hc : ∀ a, a < 16 → zb_mk (co a) (fun b => L a ∧ zq_C L R a b)) (hr : ∀ a, a < 16 → zb_mk (rc a) (R a)) (hb : ∀ b, b < 16 → zb_mk (be b) (fun a => a < 16 ∧ R a b))
  (h0 : zq_CS (zq_cd L R Z dc) (272 * 1) cc ck cf) (hn : (zq_ls (zq_cd L R Z dc) (272 * 1)).length ≤ 0)
  (hp : ∀ cc ck cf, zq_CS (zq_cd L R Z dc) (272 * 2) cc ck cf → (zq_ls (zq_cd L R Z dc) (272 * 2)).length ≤ 120 → post (LL, PL, EL, cl, lc, ec, ap, lv, gh, zo, cc, ck, rl, nm, dm, it, tx, ef, et, eo, re, nx, tc, de, rc, dv, be, co, cf, ro)) : wpX_listOrderConflicts post (LL, PL, EL, cl, lc, ec, ap, lv, gh, zo, cc, ck, rl, nm, dm, it, tx, ef, et, eo, re, nx, tc, de, rc, dv, be, co, cf, ro) := by
  refine loop_0 (fun n i (s : Int32 × Int32 × (Nat → Int32)) => wX_listOrderConflicts_2 post n (nI i) LL PL EL cl lc ec ap lv gh zo s.1 s.2.1 rl nm dm it tx ef et eo re nx tc de rc dv be co s.2.2 ro)
    (fun i s => zq_CS (zq_cd L R Z dc) (272 * 1 + 17 * i) s.1 s.2.1 s.2.2 ∧ (zq_ls (zq_cd L R Z dc) (272 * 1 + 17 * i)).length ≤ zq_tr i) 16 (cc, ck, cf) ⟨h0, hn⟩ ?_ ?_
  · rintro n s ⟨hs, hb'⟩
    exact br_t (nI_le (a := 16) (Nat.le_refl _) (by decide)) (hp _ _ _ hs hb')
  · rintro n i s hi ⟨hs, hb'⟩ ih
    refine br_f (nI_ge (b := 16) hi (by decide)) (zx_ih (L := L) (R := R) hi hl (hc i hi) (fun q => ?_) (fun q => nm_r (nI_1 i) ?_))
    · refine zx_lu (L := L) (R := R) (Z := Z) (dc := dc) hi q hl hc hr hb hs hb' ?_
      intro cc' ck' cf' h1 h2
      exact nm_r (nI_1 i) (ih (cc', ck', cf') ⟨h1, h2⟩)
    · have s1 := zq_CS_m (L := L) (R := R) (Z := Z) (dc := dc) (k := 1) (x := i) (a := 0) (b := 17) hi (by omega) (by omega) (fun y hy hy' => by
        rintro (z | z | z)
        · exact q z.2.2.2.1
        · omega
        · omega) hs
      have e : zq_tr (i + 1) = zq_tr i + (15 - i) := rfl
      exact ih s ⟨s1.1, by
        show (zq_ls (zq_cd L R Z dc) (272 * 1 + 17 * i + 17)).length ≤ _
        rw [s1.2]; exact Nat.le_trans hb' (by omega)⟩
theorem zx_lc {post : SX → Prop} (hl : zb_mk lv L) (hc : ∀ a, a < 16 → zb_mk (co a) (fun b => L a ∧ zq_C L R a b))
  (h0 : zq_CS (zq_cd L R Z dc) (272 * 2) cc ck cf) (hn : (zq_ls (zq_cd L R Z dc) (272 * 2)).length ≤ 120)
  (hp : ∀ cc ck cf, zq_CS (zq_cd L R Z dc) (272 * 3) cc ck cf → (zq_ls (zq_cd L R Z dc) (272 * 3)).length ≤ 136 → post (LL, PL, EL, cl, lc, ec, ap, lv, gh, zo, cc, ck, rl, nm, dm, it, tx, ef, et, eo, re, nx, tc, de, rc, dv, be, co, cf, ro)) : wpX_listCycleConflicts post (LL, PL, EL, cl, lc, ec, ap, lv, gh, zo, cc, ck, rl, nm, dm, it, tx, ef, et, eo, re, nx, tc, de, rc, dv, be, co, cf, ro) := by
  refine loop_0 (fun n i (s : Int32 × Int32 × (Nat → Int32)) => wX_listCycleConflicts_2 post n (nI i) LL PL EL cl lc ec ap lv gh zo s.1 s.2.1 rl nm dm it tx ef et eo re nx tc de rc dv be co s.2.2 ro)
    (fun i s => zq_CS (zq_cd L R Z dc) (272 * 2 + 17 * i) s.1 s.2.1 s.2.2 ∧ (zq_ls (zq_cd L R Z dc) (272 * 2 + 17 * i)).length ≤ 120 + i) 16 (cc, ck, cf) ⟨h0, hn⟩ ?_ ?_
  · rintro n s ⟨hs, hb'⟩
    exact br_t (nI_le (a := 16) (Nat.le_refl _) (by decide)) (hp _ _ _ hs hb')
  · rintro n i s hi ⟨hs, hb'⟩ ih
    have hno : (∀ y, y < 17 → ¬ zq_ok L R Z dc 2 i y) → wX_listCycleConflicts_2 post n (nI (i + 1)) LL PL EL cl lc ec ap lv gh zo s.1 s.2.1 rl nm dm it tx ef et eo re nx tc de rc dv be co s.2.2 ro := fun q => by
      have s1 := zq_CS_m (L := L) (R := R) (Z := Z) (dc := dc) (k := 2) (x := i) (a := 0) (b := 17) hi (by omega) (by omega) (fun y _ hy' => q y hy') hs
      exact ih s ⟨s1.1, by
        show (zq_ls (zq_cd L R Z dc) (272 * 2 + 17 * i + 17)).length ≤ _
        rw [s1.2]; exact Nat.le_trans hb' (by omega)⟩
    refine br_f (nI_ge (b := 16) hi (by decide)) (zx_ih (L := L) (R := R) hi hl (hc i hi) (fun q => And.intro (vp_in_nI hi (by decide)) ?_) (fun q => nm_r (nI_1 i) (hno fun y _ => ?_)))
    · rw [nI_clamp (n := i) (by omega)]
      refine zx_cb (hc i hi) ?_
      have ec : cn (fun b => L i ∧ zq_C L R i b) 16 = cn (zq_C L R i) 16 := cn_eq fun b _ => ⟨fun y => y.2, fun y => ⟨q.1, y⟩⟩
      rw [ec]
      have l16 := cn_le (zq_C L R i) 16
      generalize hz : cn (zq_C L R i) 16 = z at *
      refine pk_lt z 2 (fun y => nm_r (nI_1 i) (hno fun y' _ => ?_)) (fun y => ?_)
      · rintro (w | w | w)
        · omega
        · omega
        · omega
      · have hok : zq_ok L R Z dc 2 i z := Or.inr (Or.inl ⟨rfl, y, q, hz.symm⟩)
        have s1 := zq_CS_m (L := L) (R := R) (Z := Z) (dc := dc) (k := 2) (x := i) (a := 0) (b := z) hi (by omega) (by omega) (fun y' _ hy' => by
          rintro (w | w | w)
          · omega
          · omega
          · omega) hs
        refine zx_ad (K := 2) (x := i) (y := z) s1.1 (by rw [s1.2]; exact Nat.lt_of_le_of_lt hb' (by omega)) (zq_cd_t hi (by omega) hok) (by omega) hi (by omega) ?_
        intro cc' ck' cf' h1 h2
        have s2 := zq_CS_m (L := L) (R := R) (Z := Z) (dc := dc) (k := 2) (x := i) (a := z + 1) (b := 17) hi (by omega) (by omega) (fun y' hy hy' => by
          rintro (w | w | w)
          · omega
          · omega
          · omega) h1
        refine nm_r (nI_1 i) (ih (cc', ck', cf') ⟨s2.1, ?_⟩)
        show (zq_ls (zq_cd L R Z dc) (272 * 2 + 17 * i + 17)).length ≤ _
        rw [s2.2]
        show (zq_ls (zq_cd L R Z dc) (272 * 2 + 17 * i + z + 1)).length ≤ _
        rw [h2, s1.2]
        have : (zq_ls (zq_cd L R Z dc) (272 * 2 + 17 * i + 0)).length ≤ 120 + i := hb'
        omega
    · rintro (w | w | w)
      · omega
      · exact q w.2.2.1
      · omega
theorem zx_lz {post : SX → Prop} {D : Nat → Nat → Prop} (hz : zb_mk zo Z) (hd : ∀ a, a < 16 → zb_mk (de a) (fun d => D d a)) (hdc : ∀ a, dc a = cn (fun d => D d a) 16)
  (h0 : zq_CS (zq_cd L R Z dc) (272 * 4) cc ck cf) (hn : (zq_ls (zq_cd L R Z dc) (272 * 4)).length ≤ 136)
  (hp : ∀ cc ck cf, zq_CS (zq_cd L R Z dc) (272 * 5) cc ck cf → (zq_ls (zq_cd L R Z dc) (272 * 5)).length ≤ 152 → post (LL, PL, EL, cl, lc, ec, ap, lv, gh, zo, cc, ck, rl, nm, dm, it, tx, ef, et, eo, re, nx, tc, de, rc, dv, be, co, cf, ro)) : wpX_listZombieConflicts post (LL, PL, EL, cl, lc, ec, ap, lv, gh, zo, cc, ck, rl, nm, dm, it, tx, ef, et, eo, re, nx, tc, de, rc, dv, be, co, cf, ro) := by
  refine loop_0 (fun n i (s : Int32 × Int32 × (Nat → Int32)) => wX_listZombieConflicts_2 post n (nI i) LL PL EL cl lc ec ap lv gh zo s.1 s.2.1 rl nm dm it tx ef et eo re nx tc de rc dv be co s.2.2 ro)
    (fun i s => zq_CS (zq_cd L R Z dc) (272 * 4 + 17 * i) s.1 s.2.1 s.2.2 ∧ (zq_ls (zq_cd L R Z dc) (272 * 4 + 17 * i)).length ≤ 136 + i) 16 (cc, ck, cf) ⟨h0, hn⟩ ?_ ?_
  · rintro n s ⟨hs, hb'⟩
    exact br_t (nI_le (a := 16) (Nat.le_refl _) (by decide)) (hp _ _ _ hs hb')
  · rintro n i s hi ⟨hs, hb'⟩ ih
    refine br_f (nI_ge (b := 16) hi (by decide)) (zx_hasb hz (by omega) (fun q => And.intro (vp_in_nI hi (by decide)) ?_) (fun q => nm_r (nI_1 i) ?_))
    · rw [nI_clamp (n := i) (by omega)]
      refine zx_cb (hd i hi) ?_
      rw [← hdc i]
      have l16 : dc i ≤ 16 := by rw [hdc i]; exact cn_le _ 16
      generalize hzz : dc i = z at *
      have hok : zq_ok L R Z dc 4 i z := Or.inr (Or.inr ⟨rfl, q, hzz.symm⟩)
      have s1 := zq_CS_m (L := L) (R := R) (Z := Z) (dc := dc) (k := 4) (x := i) (a := 0) (b := z) hi (by omega) (by omega) (fun y' _ hy' => by
        rintro (w | w | w)
        · omega
        · omega
        · omega) hs
      refine zx_ad (K := 4) (x := i) (y := z) s1.1 (by rw [s1.2]; exact Nat.lt_of_le_of_lt hb' (by omega)) (zq_cd_t hi (by omega) hok) (by omega) hi (by omega) ?_
      intro cc' ck' cf' h1 h2
      have s2 := zq_CS_m (L := L) (R := R) (Z := Z) (dc := dc) (k := 4) (x := i) (a := z + 1) (b := 17) hi (by omega) (by omega) (fun y' hy hy' => by
        rintro (w | w | w)
        · omega
        · omega
        · omega) h1
      refine nm_r (nI_1 i) (ih (cc', ck', cf') ⟨s2.1, ?_⟩)
      show (zq_ls (zq_cd L R Z dc) (272 * 4 + 17 * i + 17)).length ≤ _
      rw [s2.2]
      show (zq_ls (zq_cd L R Z dc) (272 * 4 + 17 * i + z + 1)).length ≤ _
      rw [h2, s1.2]
      have : (zq_ls (zq_cd L R Z dc) (272 * 4 + 17 * i + 0)).length ≤ 136 + i := hb'
      omega
    · have s1 := zq_CS_m (L := L) (R := R) (Z := Z) (dc := dc) (k := 4) (x := i) (a := 0) (b := 17) hi (by omega) (by omega) (fun y hy hy' => by
        rintro (z | z | z)
        · omega
        · omega
        · exact q z.2.1) hs
      exact ih s ⟨s1.1, by
        show (zq_ls (zq_cd L R Z dc) (272 * 4 + 17 * i + 17)).length ≤ _
        rw [s1.2]; exact Nat.le_trans hb' (by omega)⟩
theorem zx_bcf {post : SX → Prop} {D : Nat → Nat → Prop} (hl : zb_mk lv L) (hc : ∀ a, a < 16 → zb_mk (co a) (fun b => L a ∧ zq_C L R a b)) (hr : ∀ a, a < 16 → zb_mk (rc a) (R a)) (hb : ∀ b, b < 16 → zb_mk (be b) (fun a => a < 16 ∧ R a b))
  (hz : zb_mk zo Z) (hd : ∀ a, a < 16 → zb_mk (de a) (fun d => D d a)) (hdc : ∀ a, dc a = cn (fun d => D d a) 16)
  (hp : ∀ cc ck cf, zq_CS (zq_cd L R Z dc) 1360 cc ck cf → (zq_ls (zq_cd L R Z dc) 1360).length ≤ 160 → post (LL, PL, EL, cl, lc, ec, ap, lv, gh, zo, cc, ck, rl, nm, dm, it, tx, ef, et, eo, re, nx, tc, de, rc, dv, be, co, cf, ro)) : wpX_buildConflicts post (LL, PL, EL, cl, lc, ec, ap, lv, gh, zo, cc, ck, rl, nm, dm, it, tx, ef, et, eo, re, nx, tc, de, rc, dv, be, co, cf, ro) := by
  have s0 := zq_CS_kd (L := L) (R := R) (Z := Z) (dc := dc) (k := 0) (cc := 0) (ck := 0) (cf := cf) (fun x y => by
    rintro (w | w | w)
    · omega
    · omega
    · omega) ⟨zq_LS_0, rfl⟩
  refine zx_lo (L := L) (R := R) (Z := Z) (dc := dc) hl hc hr hb s0.1 (by rw [s0.2]; exact Nat.le_refl _) (fun cc1 ck1 cf1 h1 n1 => ?_)
  refine zx_lc (L := L) (R := R) (Z := Z) (dc := dc) hl hc h1 n1 (fun cc2 ck2 cf2 h2 n2 => ?_)
  have s3 := zq_CS_kd (L := L) (R := R) (Z := Z) (dc := dc) (k := 3) (fun x y => by
    rintro (w | w | w)
    · omega
    · omega
    · omega) h2
  refine zx_lz (L := L) (R := R) (Z := Z) (dc := dc) hz hd hdc s3.1 (by rw [s3.2]; exact n2) (fun cc3 ck3 cf3 h3 n3 => ?_)
  exact hp cc3 ck3 cf3 h3 (Nat.le_trans n3 (by omega))
end ZX7
end
section
/-! rebuild: the row; the whole of rebuild -/
section ZX8
variable {LL PL EL cl lc ec ap lv gh zo cc ck rl : Int32} {nm dm it tx ef et eo re nx tc de rc dv be co cf ro : Nat → Int32}
variable {L : Nat → Prop} {R : Nat → Nat → Prop}
theorem zx_nh {post : Int32 → Prop} {pm : Int32} {l : List Nat} (hl : zb_mk lv L) (h16 : ∀ a, L a → a < 16) (hc : ∀ a, a < 16 → zb_mk (co a) (fun b => L a ∧ zq_C L R a b)) (hb : ∀ b, b < 16 → zb_mk (be b) (fun a => a < 16 ∧ R a b)) (hm : zb_mk pm (fun b => b ∈ l))
  (h0 : (∀ j, j < 16 → ¬ zq_rd L R l j) → post (-1)) (h1 : ∀ i, i < 16 → zq_rd L R l i → (∀ j, j < i → ¬ zq_rd L R l j) → post (nI i)) : wpX_nextHead post (LL, PL, EL, cl, lc, ec, ap, lv, gh, zo, cc, ck, rl, nm, dm, it, tx, ef, et, eo, re, nx, tc, de, rc, dv, be, co, cf, ro) pm := by
  refine loop_0 (fun n i (_ : Unit) => wX_nextHead_2 post pm LL PL EL cl lc ec ap lv gh zo cc ck rl nm dm it tx ef et eo re nx tc de rc dv be co cf ro n (nI i)) (fun i _ => ∀ j, j < i → ¬ zq_rd L R l j) 16 () (fun j z => absurd z (by omega)) ?_ ?_
  · intro n s hs
    exact br_t (nI_le (a := 16) (Nat.le_refl _) (by decide)) (h0 hs)
  · intro n i s hi hs ih
    have nx : ¬ zq_rd L R l i → wX_nextHead_2 post pm LL PL EL cl lc ec ap lv gh zo cc ck rl nm dm it tx ef et eo re nx tc de rc dv be co cf ro n (nI (i + 1)) := fun q => ih () (fun d hd => by
      rcases Nat.lt_or_ge d i with z | z
      · exact hs d z
      · have : d = i := by omega
        subst this; exact q)
    have hv : vp_in (nI i) 16 := vp_in_nI hi (by decide)
    refine br_f (nI_ge (b := 16) hi (by decide)) (zx_ih (L := L) (R := R) hi hl (hc i hi) (fun q => ?_) (fun q => nm_r (nI_1 i) (nx fun z => q z.1)))
    refine zx_hasb hm (by omega) (fun q' => nm_r (nI_1 i) (nx fun z => z.2.1 q')) (fun q' => ?_)
    rw [nI_clamp (n := i) (by omega)]
    refine And.intro hv (And.intro hv (nm_e ?_))
    have hw := zb_and (zb_and (zb_and (hb i hi) hl) (zb_not (hc i hi))) (zb_not hm)
    refine br_c (fun z => h1 i hi ⟨q, q', fun b hb16 y1 y2 y3 => ?_⟩ hs) (fun z => nm_r (nI_1 i) (nx fun y => z ((zb_z hw).mpr ?_)))
    · apply Classical.byContradiction
      intro y4
      exact (zb_z hw).mp z b (by omega) ⟨⟨⟨⟨hb16, y2⟩, y1⟩, fun y => y3 y.2⟩, y4⟩
    · rintro b _ ⟨⟨⟨⟨y1, y2⟩, y3⟩, y4⟩, y5⟩
      exact y5 (y.2.2 b y1 y3 y2 fun w => y4 ⟨q.1, w⟩)
theorem zx_pl {post : SX → Prop} {l : List Nat} {h : Nat} {m : Int32} (hO : zq_RO L R l) (hL : L h) (hn : ¬ h ∈ l) (hm : zb_mk m (fun b => L h ∧ zq_C L R h b)) (h0 : zq_LS l rl ro)
  (hp : ∀ rl ro, zq_LS (l ++ zq_fl (zq_C L R h) 16) rl ro → post (LL, PL, EL, cl, lc, ec, ap, lv, gh, zo, cc, ck, rl, nm, dm, it, tx, ef, et, eo, re, nx, tc, de, rc, dv, be, co, cf, ro)) : wpX_placeLines post (LL, PL, EL, cl, lc, ec, ap, lv, gh, zo, cc, ck, rl, nm, dm, it, tx, ef, et, eo, re, nx, tc, de, rc, dv, be, co, cf, ro) m := by
  refine loop_0 (fun n i (s : Int32 × (Nat → Int32)) => wX_placeLines_2 post m LL PL EL cl lc ec ap lv gh zo cc ck n (nI i) s.1 nm dm it tx ef et eo re nx tc de rc dv be co cf s.2) (fun i s => zq_LS (l ++ zq_fl (zq_C L R h) i) s.1 s.2) 16 (rl, ro) (by
    show zq_LS (l ++ []) rl ro
    rw [List.append_nil]; exact h0) ?_ ?_
  · intro n s hs
    exact br_t (nI_le (a := 16) (Nat.le_refl _) (by decide)) (hp _ _ hs)
  · intro n i s hi hs ih
    refine br_f (nI_ge (b := 16) hi (by decide)) (zx_hasb hm (by omega) (fun q => ?_) (fun q => nm_r (nI_1 i) (ih s ?_)))
    · have hlt := zq_RO_l hO hL hn hi q.2
      have hl1 := hs.1
      have hs' := zq_LS_p (x := i) hs
      rw [List.append_assoc, ← zq_fl_t q.2] at hs'
      generalize (l ++ zq_fl (zq_C L R h) i).length = z at *
      refine br_f (by rw [hl1]; exact nI_ge (b := 16) hlt (by decide)) (And.intro (by rw [hl1]; exact vp_in_nI hlt (by decide)) (nm_r (e' := upd s.2 z (nI i)) (by rw [hl1, nI_clamp (by omega)]) (nm_e (nm_r (nI_1 i) (ih (s.1 + 1, upd s.2 z (nI i)) hs')))))
    · rw [zq_fl_f fun z => q ⟨hL, z⟩]; exact hs
theorem zx_br {post : SX → Prop} (hR : ∀ a b c, R a b → R b c → R a c) (hl : zb_mk lv L) (h16 : ∀ a, L a → a < 16) (hc : ∀ a, a < 16 → zb_mk (co a) (fun b => L a ∧ zq_C L R a b)) (hb : ∀ b, b < 16 → zb_mk (be b) (fun a => a < 16 ∧ R a b))
  (hp : ∀ rl ro, zq_LS (zq_rw L R 16) rl ro → post (LL, PL, EL, cl, lc, ec, ap, lv, gh, zo, cc, ck, rl, nm, dm, it, tx, ef, et, eo, re, nx, tc, de, rc, dv, be, co, cf, ro)) : wpX_buildRow post (LL, PL, EL, cl, lc, ec, ap, lv, gh, zo, cc, ck, rl, nm, dm, it, tx, ef, et, eo, re, nx, tc, de, rc, dv, be, co, cf, ro) := by
  refine loop_0 (fun n i (s : Int32 × Int32 × (Nat → Int32)) => wX_buildRow_9 post n s.1 (nI i) LL PL EL cl lc ec ap lv gh zo cc ck s.2.1 nm dm it tx ef et eo re nx tc de rc dv be co cf s.2.2) (fun i s => zb_mk s.1 (fun b => b ∈ zq_rw L R i) ∧ zq_LS (zq_rw L R i) s.2.1 s.2.2) 16 ((0 : Int32), (0 : Int32), ro) ⟨zb_iff zb_0 fun b _ => ⟨fun z => z.elim, fun z => by cases z⟩, zq_LS_0⟩ ?_ ?_
  · intro n s hs
    exact br_t (nI_le (a := 16) (Nat.le_refl _) (by decide)) (hp _ _ hs.2)
  · intro n i s hi hs ih
    have hO := zq_RO_r (L := L) (R := R) hR h16 i
    refine br_f (nI_ge (b := 16) hi (by decide)) (zx_nh (L := L) (R := R) (l := zq_rw L R i) hl h16 hc hb hs.1 (fun q => ?_) (fun h hh q q' => ?_))
    · refine br_t (by decide) (nm_r (nI_1 i) (ih s ?_))
      have e : zq_rw L R (i + 1) = zq_rw L R i := zq_nx_n q
      rw [e]; exact hs
    · have hv : vp_in (nI h) 16 := vp_in_nI hh (by decide)
      have e : zq_rw L R (i + 1) = zq_rw L R i ++ zq_fl (zq_C L R h) 16 := zq_nx_y hh q q'
      refine br_f (nI_pos (by omega)) (And.intro hv ?_)
      rw [nI_clamp (n := h) (by omega)]
      refine zx_pl (L := L) (R := R) hO q.1.1 q.2.1 (hc h hh) hs.2 (fun rl' ro' h2 => And.intro hv (nm_e (nm_r (nI_1 i) (ih (s.1 ||| co h, rl', ro') ⟨?_, ?_⟩))))
      · rw [e]
        refine zb_iff (zb_or hs.1 (hc h hh)) fun b _ => ?_
        rw [List.mem_append, zq_fl_m]
        exact ⟨fun z => z.imp id fun z => ⟨h16 b z.2.1, z.2⟩, fun z => z.imp id fun z => ⟨q.1.1, z.2⟩⟩
      · rw [e]; exact h2
end ZX8
section ZX9
variable {LL PL EL cl lc ec ap lv gh zo cc ck rl : Int32} {nm dm it tx ef et eo re nx tc de rc dv be co cf ro : Nat → Int32}
theorem zx_hq {nL nP nE nc nl ne : Nat} {dl nd ab : Nat → Int32} (hR : zq_RD nL nP nE nc nl ne ap nm dm it ef et eo dl nd ab) : ∀ a d, zq_D dl ab d a → ((∃ e, e < 32 ∧ zq_Tc (zq_E ne ef et eo ab) a e ∧ ¬ (((e < 12 ∧ ¬ nd (d * 12 + e) = 0) ∨ e = d) ∨ (e < 12 ∧ (d < 12 ∧ ¬ nd (e * 12 + d) = 0)))) ↔ zq_ZW (zq_E ne ef et eo ab) (zq_N nd ab) d a) := by
  have ck := zq_RD_ck hR
  intro a d hd
  have hd12 := (ck.2.1 d a hd).1
  have hT : ∀ e, zq_Tc (zq_E ne ef et eo ab) a e → e < 12 ∧ ¬ ab e = 0 := by
    rintro e ⟨b, z | z⟩
    · exact ⟨(ck.1 e a b z).1, by obtain ⟨_, _, y, _⟩ := z; exact y⟩
    · exact ⟨(ck.1 e b a z).1, by obtain ⟨_, _, y, _⟩ := z; exact y⟩
  constructor
  · rintro ⟨e, _, hT', hn⟩
    obtain ⟨h12, _⟩ := hT e hT'
    refine ⟨e, hT', fun z => hn (Or.inl (Or.inr z)), fun z => hn (Or.inl (Or.inl ⟨h12, z.2.2⟩)), fun z => hn (Or.inr ⟨h12, hd12, z.2.2⟩)⟩
  · rintro ⟨e, hT', h1, h2, h3⟩
    obtain ⟨h12, hab⟩ := hT e hT'
    refine ⟨e, by omega, hT', ?_⟩
    rintro ((z | z) | z)
    · exact h2 ⟨hd.2.1, hab, z.2⟩
    · exact h1 z
    · exact h3 ⟨hab, hd.2.1, z.2.2⟩
theorem zx_rb {post : SX → Prop} {nL nP nE nc nl ne : Nat} {dl nd ab : Nat → Int32} (hR : zq_RD nL nP nE nc nl ne ap nm dm it ef et eo dl nd ab)
  (h : ∀ lv gh zo cc ck rl re nx tc de rc dv be co cf ro, zq_VW (zq_E ne ef et eo ab) (zq_D dl ab) (zq_N nd ab) (zq_P nl it ab) lv gh zo cc ck rl rc dv cf ro → post (nI nL, nI nP, nI nE, nI nc, nI nl, nI ne, ap, lv, gh, zo, cc, ck, rl, nm, dm, it, tx, ef, et, eo, re, nx, tc, de, rc, dv, be, co, cf, ro)) : wpX_rebuild post (nI nL, nI nP, nI nE, nI nc, nI nl, nI ne, ap, lv, gh, zo, cc, ck, rl, nm, dm, it, tx, ef, et, eo, re, nx, tc, de, rc, dv, be, co, cf, ro) := by
  have ck := zq_RD_ck hR
  have hq := zx_hq hR
  obtain ⟨⟨b1, b2, b3, b4, b5, b6⟩, ⟨ha, ha'⟩, hn, hn', hd, hi, he⟩ := hR
  refine zx_cr (N := fun p q => q < 12 ∧ ¬ nd (p * 12 + q) = 0) hn (fun re1 hre => ?_)
  refine zx_ce (ab := ab) (by omega) ha he (fun nx1 tc1 hnx => ?_)
  refine zx_cd (A := fun p => ¬ ab p = 0) (Dm := fun p a => a < 16 ∧ ¬ dl (p * 16 + a) = 0) ha hd (fun de1 hde => ?_)
  have hde' : ∀ a, a < 16 → zb_mk (de1 a) (fun d => zq_D dl ab d a) := fun a hA => zb_iff (hde a hA) fun d _ => ⟨fun z => ⟨hA, z.2.1, z.2.2.2⟩, fun z => ⟨(ck.2.1 d a z).1, z.2.1, hA, z.2.2⟩⟩
  refine zx_cln (ab := ab) (E := zq_E ne ef et eo ab) (D := zq_D dl ab) (N := zq_N nd ab) (Rl := fun d e => (((e < 12 ∧ ¬ nd (d * 12 + e) = 0) ∨ e = d) ∨ (e < 12 ∧ (d < 12 ∧ ¬ nd (e * 12 + d) = 0)))) (by omega) ha hi hde' (fun a d z => (ck.2.1 d a z).1) (fun a hA => (hnx a hA).2) hre hq (fun lv1 gh1 zo1 hlv hgh hzo => ?_)
  refine zx_cp (E := zq_E ne ef et eo ab) (D := zq_D dl ab) (N := zq_N nd ab) (P := zq_P nl it ab) (fun e a b z => (ck.1 e a b z).2.1) hgh hzo (fun a hA => (hnx a hA).1) (fun rc1 dv1 hrc hdv => ?_)
  refine zx_tr (R := zq_R (zq_E ne ef et eo ab)) hrc (fun be1 hbe => ?_)
  refine zx_bc (L := zq_Lv (zq_D dl ab) (zq_P nl it ab)) (R := zq_R (zq_E ne ef et eo ab)) hlv (zq_Lv16 ck) hrc hbe (fun co1 hco => ?_)
  refine zx_bcf (L := zq_Lv (zq_D dl ab) (zq_P nl it ab)) (R := zq_R (zq_E ne ef et eo ab)) (Z := zq_Zo (zq_E ne ef et eo ab) (zq_D dl ab) (zq_N nd ab) (zq_P nl it ab)) (dc := zq_dc (zq_D dl ab)) (D := zq_D dl ab) hlv hco hrc hbe hzo hde' (fun a => rfl) (fun cc1 ck1 cf1 hcs hle => ?_)
  refine zx_br (L := zq_Lv (zq_D dl ab) (zq_P nl it ab)) (R := zq_R (zq_E ne ef et eo ab)) zq_R_tr hlv (zq_Lv16 ck) hco hbe (fun rl1 ro1 hro => ?_)
  exact h lv1 gh1 zo1 cc1 ck1 rl1 re1 nx1 tc1 de1 rc1 dv1 be1 co1 cf1 ro1 ⟨hlv, hgh, hzo, hrc, hdv, ⟨hcs, hle⟩, hro⟩
end ZX9
end
section
/-! the reference: gain, the states of lines -/
/-- what gain q makes of the needs of the draft nc -/
def zq_GN (nc q : Nat) (nd nd' : Nat → Int32) : Prop := ∀ p r, p < 12 → r < 12 → (¬ nd' (p * 12 + r) = 0 ↔ ¬ nd (p * 12 + r) = 0 ∨ (p = nc ∧ r < nc ∧ q < nc ∧ (r = q ∨ ¬ nd (q * 12 + r) = 0)))
section ZY1
variable {LL PL EL cl lc ec : Int32} {tx it ef et eo dl nd ab st hed pa dy pl : Nat → Int32}
theorem zy_gn {post : Int32 → SY → Prop} {nc q : Nat} (hc : nc < 12) (hq : q < 12) (h : ∀ nd', zq_GN nc q nd nd' → post 0 (LL, PL, EL, nI nc, lc, ec, tx, it, ef, et, eo, dl, nd', ab, st, hed, pa, dy, pl)) : wpY_gain post (LL, PL, EL, nI nc, lc, ec, tx, it, ef, et, eo, dl, nd, ab, st, hed, pa, dy, pl) (nI q) := by
  refine loop_0 (fun n i (s : Nat → Int32) => wY_gain_2 post (nI q) LL PL EL (nI nc) lc ec n (nI i) tx it ef et eo dl s ab st hed pa dy pl) (fun i s => ∀ p r, p < 12 → r < 12 → (¬ s (p * 12 + r) = 0 ↔ ¬ nd (p * 12 + r) = 0 ∨ (p = nc ∧ r < i ∧ q < nc ∧ (r = q ∨ ¬ nd (q * 12 + r) = 0)))) nc nd (fun p r _ _ => ⟨Or.inl, fun z => z.elim id fun z => absurd z.2.1 (by omega)⟩) ?_ ?_
  · intro n s hs
    exact br_t (nI_le (Nat.le_refl _) (by omega)) (h s hs)
  · intro n i s hi hs ih
    have hno : ¬ (q < nc ∧ (i = q ∨ ¬ nd (q * 12 + i) = 0)) → wY_gain_2 post (nI q) LL PL EL (nI nc) lc ec n (nI (i + 1)) tx it ef et eo dl s ab st hed pa dy pl := fun y => ih s (fun p r hp hr => by
      rw [hs p r hp hr]
      constructor
      · rintro (z | ⟨z1, z2, z3⟩)
        · exact Or.inl z
        · exact Or.inr ⟨z1, by omega, z3⟩
      · rintro (z | ⟨z1, z2, z3⟩)
        · exact Or.inl z
        · rcases Nat.lt_or_ge r i with w | w
          · exact Or.inr ⟨z1, w, z3⟩
          · have : r = i := by omega
            subst this
            exact absurd z3 y)
    have hyes : q < nc → (i = q ∨ ¬ nd (q * 12 + i) = 0) → wY_gain_37 post (wY_gain_2 post (nI q) LL PL EL (nI nc) lc ec n) (nI q) (nI i) LL PL EL (nI nc) lc ec tx it ef et eo dl s ab st hed pa dy pl := fun y1 y2 => by
      have ix : nI nc * 12 + nI i = nI (nc * 12 + i) := zb_ix nc i 12
      refine And.intro (by rw [ix]; exact vp_in_nI (by omega) (by decide)) (nm_r (e' := upd s (nc * 12 + i) 1) (by rw [ix, nI_clamp (by omega), zb_v1]) (nm_r (nI_1 i) (ih _ (fun p r hp hr => ?_))))
      rcases Classical.em (p * 12 + r = nc * 12 + i) with w | w
      · obtain ⟨w1, w2⟩ := zb_ixj (by omega) (by omega) w
        subst w1; subst w2
        rw [pk_us]
        exact ⟨fun _ => Or.inr ⟨rfl, by omega, y1, y2⟩, fun _ => zb_n1⟩
      · rw [pk_un w, hs p r hp hr]
        constructor
        · rintro (z | ⟨z1, z2, z3⟩)
          · exact Or.inl z
          · exact Or.inr ⟨z1, by omega, z3⟩
        · rintro (z | ⟨z1, z2, z3⟩)
          · exact Or.inl z
          · rcases Nat.lt_or_ge r i with w' | w'
            · exact Or.inr ⟨z1, w', z3⟩
            · have : r = i := by omega
              subst this; subst z1
              exact absurd rfl w
    refine br_f (nI_ge hi (by omega)) (pk_le nc q (fun y => nm_r (nI_1 i) (hno fun z => by omega)) (fun y => pk_eq i q (fun y' => hyes y (Or.inl y')) (fun y' => ?_)))
    have ix : nI q * 12 + nI i = nI (q * 12 + i) := zb_ix q i 12
    refine And.intro (by rw [ix]; exact vp_in_nI (by omega) (by decide)) ?_
    rw [ix, nI_clamp (by omega)]
    have hr := hs q i hq (by omega)
    refine br_c (fun z => nm_r (nI_1 i) (hno fun w => ?_)) (fun z => hyes y (Or.inr ?_))
    · rcases w.2 with w | w
      · exact y' w
      · exact hr.mpr (Or.inl w) z
    · rcases hr.mp z with w | w
      · exact w
      · omega
end ZY1
/-! the state of a line as a number -/
def zq_SL (Z H : Prop) (s : Int32) : Prop := (Z ∧ s = 3) ∨ (¬ Z ∧ H ∧ s = 2) ∨ (¬ Z ∧ ¬ H ∧ s = 1)
theorem zq_SL_iff {Z H Z' H' : Prop} {s : Int32} (h : zq_SL Z H s) (hz : Z ↔ Z') (hh : H ↔ H') : zq_SL Z' H' s := by
  unfold zq_SL
  rw [← hz, ← hh]; exact h
theorem zq_SL_h {Z H : Prop} {s : Int32} (h : zq_SL Z H s) (hn : ¬ s = 1) : zq_SL Z True s := by
  rcases h with h | h | h
  · exact Or.inl h
  · exact Or.inr (Or.inl ⟨h.1, trivial, h.2.2⟩)
  · exact absurd h.2.2 hn
theorem zq_SL_1 {Z H : Prop} {s : Int32} (h : zq_SL Z H s) (hn : s = 1) : zq_SL Z True 2 := by
  rcases h with h | h | h
  · exact absurd (h.2.symm.trans hn) (by decide)
  · exact absurd (h.2.2.symm.trans hn) (by decide)
  · exact Or.inr (Or.inl ⟨h.1, trivial, rfl⟩)
theorem zq_ZW_s {k d a : Nat} {ef et eo ab : Nat → Int32} {N : Nat → Nat → Prop} : zq_ZW (zq_E (k + 1) ef et eo ab) N d a ↔ zq_ZW (zq_E k ef et eo ab) N d a ∨ (¬ ab (eo k).toNatClampNeg = 0 ∧ ((ef k).toNatClampNeg = a ∨ (et k).toNatClampNeg = a) ∧ (eo k).toNatClampNeg ≠ d ∧ ¬ N d (eo k).toNatClampNeg ∧ ¬ N (eo k).toNatClampNeg d) := by
  constructor
  · rintro ⟨e, ⟨b, z⟩, h1, h2, h3⟩
    rw [zq_E_s, zq_E_s] at z
    rcases z with (z | ⟨z1, z2, z3, z4⟩) | (z | ⟨z1, z2, z3, z4⟩)
    · exact Or.inl ⟨e, ⟨b, Or.inl z⟩, h1, h2, h3⟩
    · rw [z2]; exact Or.inr ⟨z1, Or.inl z3, h1, h2, h3⟩
    · exact Or.inl ⟨e, ⟨b, Or.inr z⟩, h1, h2, h3⟩
    · rw [z2]; exact Or.inr ⟨z1, Or.inr z4, h1, h2, h3⟩
  · rintro (⟨e, ⟨b, z⟩, h⟩ | ⟨h0, h1 | h1, h⟩)
    · exact ⟨e, ⟨b, z.imp (fun z => zq_E_s.mpr (Or.inl z)) (fun z => zq_E_s.mpr (Or.inl z))⟩, h⟩
    · exact ⟨_, ⟨(et k).toNatClampNeg, Or.inl (zq_E_s.mpr (Or.inr ⟨h0, rfl, h1, rfl⟩))⟩, h⟩
    · exact ⟨_, ⟨(ef k).toNatClampNeg, Or.inr (zq_E_s.mpr (Or.inr ⟨h0, rfl, rfl, h1⟩))⟩, h⟩
theorem zq_ZW_0 {d a : Nat} {ef et eo ab : Nat → Int32} {N : Nat → Nat → Prop} : ¬ zq_ZW (zq_E 0 ef et eo ab) N d a := by
  rintro ⟨e, ⟨b, ⟨k, hk, _⟩ | ⟨k, hk, _⟩⟩, _⟩
  · omega
  · omega
section ZY2
variable {LL PL EL cl lc ec : Int32} {tx it ef et eo dl nd ab st hed pa dy pl : Nat → Int32}
theorem zy_ls78 {post : Int32 → Prop} {J : Int32 → Int32 → Prop} {a d ne : Nat} {Zd : Prop} (hA : a < 16) (hd : d < 12) (hab : ¬ ab d = 0) (hne : ne ≤ 48) (he : ∀ k, k < ne → vp_in (eo k) 12 ∧ vp_in (ef k) 16 ∧ vp_in (et k) 16) {s0 : Int32} (h0 : zq_SL Zd True s0)
  (h : ∀ s, zq_SL (Zd ∨ zq_ZW (zq_E ne ef et eo ab) (zq_N nd ab) d a) True s → J s (nI (d + 1))) : ∃ n, wY_lineState_78 post J (nI a) (nI d) LL PL EL cl lc (nI ne) tx it ef et eo dl nd ab st hed pa dy pl n s0 0 := by
  refine loop_0 (fun n i (s : Int32) => wY_lineState_78 post J (nI a) (nI d) LL PL EL cl lc (nI ne) tx it ef et eo dl nd ab st hed pa dy pl n s (nI i)) (fun i s => zq_SL (Zd ∨ zq_ZW (zq_E i ef et eo ab) (zq_N nd ab) d a) True s) ne s0 (zq_SL_iff h0 ⟨Or.inl, fun z => z.elim id fun z => absurd z zq_ZW_0⟩ Iff.rfl) ?_ ?_
  · intro n s hs
    exact br_t (nI_le (Nat.le_refl _) (by omega)) (nm_r (nI_1 d) (h s hs))
  · intro n i s hi hs ih
    obtain ⟨v1, v2, v3⟩ := he i hi
    obtain ⟨e1, l1⟩ := zb_nin v1 (by decide)
    obtain ⟨e2, l2⟩ := zb_nin v2 (by decide)
    obtain ⟨e3, l3⟩ := zb_nin v3 (by decide)
    have hv : vp_in (nI i) 48 := vp_in_nI (by omega) (by decide)
    have c := nI_clamp (n := i) (by omega)
    have key := zq_ZW_s (k := i) (d := d) (a := a) (ef := ef) (et := et) (eo := eo) (ab := ab) (N := zq_N nd ab)
    generalize ho : (eo i).toNatClampNeg = o at *
    generalize hf : (ef i).toNatClampNeg = f at *
    generalize ht : (et i).toNatClampNeg = t at *
    have hno : ¬ (¬ ab o = 0 ∧ (f = a ∨ t = a) ∧ o ≠ d ∧ ¬ zq_N nd ab d o ∧ ¬ zq_N nd ab o d) → wY_lineState_78 post J (nI a) (nI d) LL PL EL cl lc (nI ne) tx it ef et eo dl nd ab st hed pa dy pl n s (nI (i + 1)) := fun y => ih s (zq_SL_iff hs ⟨fun z => z.imp id fun z => key.mpr (Or.inl z), fun z => z.imp id fun z => (key.mp z).elim id fun z => absurd z y⟩ Iff.rfl)
    have hyes : (¬ ab o = 0 ∧ (f = a ∨ t = a) ∧ o ≠ d ∧ ¬ zq_N nd ab d o ∧ ¬ zq_N nd ab o d) → wY_lineState_78 post J (nI a) (nI d) LL PL EL cl lc (nI ne) tx it ef et eo dl nd ab st hed pa dy pl n 3 (nI (i + 1)) := fun y => ih 3 (Or.inl ⟨Or.inr (key.mpr (Or.inr y)), rfl⟩)
    have hJ0 : ¬ (¬ ab o = 0 ∧ (f = a ∨ t = a)) → wY_lineState_132 post J (wY_lineState_78 post J (nI a) (nI d) LL PL EL cl lc (nI ne) tx it ef et eo dl nd ab st hed pa dy pl n) (nI a) s (nI d) (nI i) (nI o) LL PL EL cl lc (nI ne) tx it ef et eo dl nd ab st hed pa dy pl := fun y => br_t rfl (nm_r (nI_1 i) (hno fun z => y ⟨z.1, z.2.1⟩))
    have hJ1 : ¬ ab o = 0 → (f = a ∨ t = a) → wY_lineState_128 post J (wY_lineState_78 post J (nI a) (nI d) LL PL EL cl lc (nI ne) tx it ef et eo dl nd ab st hed pa dy pl n) (nI a) s (nI d) (nI i) (nI o) LL PL EL cl lc (nI ne) tx it ef et eo dl nd ab st hed pa dy pl := fun y y' => by
      have ix1 : nI d * 12 + nI o = nI (d * 12 + o) := zb_ix d o 12
      have ix2 : nI o * 12 + nI d = nI (o * 12 + d) := zb_ix o d 12
      refine br_f zb_n1 (pk_eq o d (fun w => nm_r (nI_1 i) (hno fun z => z.2.2.1 w)) (fun w => And.intro (by rw [ix1]; exact vp_in_nI (by omega) (by decide)) ?_))
      rw [ix1, nI_clamp (by omega)]
      refine br_c (fun w1 => And.intro (by rw [ix2]; exact vp_in_nI (by omega) (by decide)) ?_) (fun w1 => nm_r (nI_1 i) (hno fun z => z.2.2.2.1 ⟨hab, y, w1⟩))
      rw [ix2, nI_clamp (by omega)]
      exact br_c (fun w2 => nm_r (nI_1 i) (hyes ⟨y, y', w, fun z => z.2.2 w1, fun z => z.2.2 w2⟩)) (fun w2 => nm_r (nI_1 i) (hno fun z => z.2.2.2.2 ⟨y, hab, w2⟩))
    refine br_f (nI_ge hi (by omega)) (And.intro hv (nm_r (e' := nI o) (by rw [c, e1]) (And.intro (vp_in_nI l1 (by decide)) ?_)))
    rw [nI_clamp (n := o) (by omega), c, e2, e3]
    refine br_c (fun w => hJ0 fun z => z.1 w) (fun w => And.intro hv (pk_eq f a (fun w1 => hJ1 w (Or.inl w1)) (fun w1 => And.intro hv (pk_eq t a (fun w2 => hJ1 w (Or.inr w2)) (fun w2 => hJ0 fun z => z.2.elim w1 w2)))))
theorem zy_ls {post : Int32 → Prop} {a nc nl ne : Nat} (hc : nc ≤ 12) (hl : nl ≤ 16) (hne : ne ≤ 48) (hA : a < nl) (hi : vp_in (it a) 12) (ha : ∀ p, ¬ ab p = 0 → p < nc) (he : ∀ k, k < ne → vp_in (eo k) 12 ∧ vp_in (ef k) 16 ∧ vp_in (et k) 16)
  (h0 : ¬ zq_P nl it ab a → post 0) (h1 : zq_Lv (zq_D dl ab) (zq_P nl it ab) a → post 1) (h2 : zq_Gh (zq_E ne ef et eo ab) (zq_D dl ab) (zq_N nd ab) (zq_P nl it ab) a → post 2) (h3 : zq_Zo (zq_E ne ef et eo ab) (zq_D dl ab) (zq_N nd ab) (zq_P nl it ab) a → post 3) : wpY_lineState post (LL, PL, EL, nI nc, nI nl, nI ne, tx, it, ef, et, eo, dl, nd, ab, st, hed, pa, dy, pl) (nI a) := by
  obtain ⟨e1, l1⟩ := zb_nin hi (by decide)
  refine br_f (nI_pos (by omega)) (br_t (nI_lt hA (by omega)) (And.intro (vp_in_nI (by omega) (by decide)) ?_))
  rw [nI_clamp (n := a) (by omega)]
  refine And.intro hi (br_c (fun z => h0 fun y => y.2 z) (fun z => ?_))
  have hp : zq_P nl it ab a := ⟨hA, z⟩
  refine loop_0 (fun n i (s : Int32) => wY_lineState_34 post (nI a) LL PL EL (nI nc) (nI nl) (nI ne) tx it ef et eo dl nd ab st hed pa dy pl n s (nI i)) (fun i s => zq_SL (∃ d, d < i ∧ zq_D dl ab d a ∧ zq_ZW (zq_E ne ef et eo ab) (zq_N nd ab) d a) (∃ d, d < i ∧ zq_D dl ab d a) s) nc (1 : Int32) (Or.inr (Or.inr ⟨fun ⟨d, y, _⟩ => by omega, fun ⟨d, y, _⟩ => by omega, rfl⟩)) ?_ ?_
  · intro n s hs
    refine br_t (nI_le (Nat.le_refl _) (by omega)) ?_
    have hH : zq_H (zq_D dl ab) a ↔ ∃ d, d < nc ∧ zq_D dl ab d a := ⟨fun ⟨d, y⟩ => ⟨d, ha d y.2.1, y⟩, fun ⟨d, _, y⟩ => ⟨d, y⟩⟩
    have hZ : zq_Zi (zq_E ne ef et eo ab) (zq_D dl ab) (zq_N nd ab) a ↔ ∃ d, d < nc ∧ zq_D dl ab d a ∧ zq_ZW (zq_E ne ef et eo ab) (zq_N nd ab) d a := ⟨fun ⟨d, y⟩ => ⟨d, ha d y.1.2.1, y⟩, fun ⟨d, _, y⟩ => ⟨d, y⟩⟩
    rw [← hH, ← hZ] at hs
    rcases hs with ⟨q, rfl⟩ | ⟨q, q', rfl⟩ | ⟨q, q', rfl⟩
    · exact h3 ⟨hp, q⟩
    · exact h2 ⟨hp, q', q⟩
    · exact h1 ⟨hp, q'⟩
  · intro n i s hin hs ih
    have hno : ¬ zq_D dl ab i a → wY_lineState_34 post (nI a) LL PL EL (nI nc) (nI nl) (nI ne) tx it ef et eo dl nd ab st hed pa dy pl n s (nI (i + 1)) := fun y => ih s (zq_SL_iff hs ⟨fun ⟨d, z1, z2⟩ => ⟨d, by omega, z2⟩, fun ⟨d, z1, z2⟩ => ⟨d, (Nat.lt_or_ge d i).elim id fun w => by
        have : d = i := by omega
        subst this; exact absurd z2.1 y, z2⟩⟩ ⟨fun ⟨d, z1, z2⟩ => ⟨d, by omega, z2⟩, fun ⟨d, z1, z2⟩ => ⟨d, (Nat.lt_or_ge d i).elim id fun w => by
        have : d = i := by omega
        subst this; exact absurd z2 y, z2⟩⟩)
    have ix : nI i * 16 + nI a = nI (i * 16 + a) := zb_ix i a 16
    refine br_f (nI_ge hin (by omega)) (And.intro (vp_in_nI (by omega) (by decide)) ?_)
    rw [nI_clamp (n := i) (by omega)]
    refine br_c (fun y => nm_r (nI_1 i) (hno fun w => w.2.1 y)) (fun y => And.intro (by rw [ix]; exact vp_in_nI (by omega) (by decide)) ?_)
    rw [ix, nI_clamp (by omega)]
    refine br_c (fun y' => nm_r (nI_1 i) (hno fun w => w.2.2 y')) (fun y' => ?_)
    have hD : zq_D dl ab i a := ⟨by omega, y, y'⟩
    have nx : ∀ s', zq_SL ((∃ d, d < i ∧ zq_D dl ab d a ∧ zq_ZW (zq_E ne ef et eo ab) (zq_N nd ab) d a) ∨ zq_ZW (zq_E ne ef et eo ab) (zq_N nd ab) i a) True s' → wY_lineState_34 post (nI a) LL PL EL (nI nc) (nI nl) (nI ne) tx it ef et eo dl nd ab st hed pa dy pl n s' (nI (i + 1)) := fun s' hs' => ih s' (zq_SL_iff hs' ⟨fun z => z.elim (fun ⟨d, z1, z2⟩ => ⟨d, by omega, z2⟩) (fun z => ⟨i, by omega, hD, z⟩), fun ⟨d, z1, z2⟩ => (Nat.lt_or_ge d i).elim (fun w => Or.inl ⟨d, w, z2⟩) (fun w => by
        have : d = i := by omega
        subst this; exact Or.inr z2.2)⟩ ⟨fun _ => ⟨i, by omega, hD⟩, fun _ => trivial⟩)
    exact br_c (fun w => zy_ls78 (by omega) (by omega) y hne he (zq_SL_1 hs w) nx) (fun w => zy_ls78 (by omega) (by omega) y hne he (zq_SL_h hs w) nx)
theorem zy_lsN {post : Int32 → Prop} {v : Int32} {nl : Nat} (h : v < 0 ∨ nI nl ≤ v) (hp : post (-1)) : wpY_lineState post (LL, PL, EL, cl, nI nl, ec, tx, it, ef, et, eo, dl, nd, ab, st, hed, pa, dy, pl) v := br_c (fun _ => hp) (fun z => br_f (Int32.not_lt.mpr (h.resolve_left z)) hp)
end ZY2
end
section
/-! the reference: paths by rounds, plain -/
def zq_Ed (ne : Nat) (ef et eo ab : Nat → Int32) (k f t : Nat) : Prop := k < ne ∧ ¬ ab (eo k).toNatClampNeg = 0 ∧ (ef k).toNatClampNeg = f ∧ (et k).toNatClampNeg = t
/-- within a round: p0 at its head, p now; the edges below K are done, and edge K for the sources below i -/
def zq_LI (M : Nat → Prop) (G : Nat → Nat → Prop) (Ed : Nat → Nat → Nat → Prop) (p0 p : Nat → Int32) (K i : Nat) : Prop :=
  (∀ a b, a < 16 → b < 16 → ¬ p (a * 16 + b) = 0 → zq_T M G a b) ∧ (∀ a b, a < 16 → b < 16 → ¬ p0 (a * 16 + b) = 0 → ¬ p (a * 16 + b) = 0) ∧
  ∀ a, a < 16 → ∀ k f t, (k < K ∨ (k = K ∧ a < i)) → Ed k f t → (f = a ∨ (¬ p0 (a * 16 + f) = 0 ∧ M f)) → ¬ p (a * 16 + t) = 0
def zq_YI (M : Nat → Prop) (G : Nat → Nat → Prop) (r : Nat) (p : Nat → Int32) : Prop :=
  (∀ a b, a < 16 → b < 16 → ¬ p (a * 16 + b) = 0 → zq_T M G a b) ∧ ∀ a, a < 16 → zq_Cl M G a (fun b => ¬ p (a * 16 + b) = 0) ∨ r ≤ cn (fun b => ¬ p (a * 16 + b) = 0) 16
section ZQ5
variable {M : Nat → Prop} {G : Nat → Nat → Prop} {Ed : Nat → Nat → Nat → Prop} {p0 p : Nat → Int32} {K i f t : Nat}
theorem zq_LI_0 {r : Nat} (h : zq_YI M G r p) : zq_LI M G Ed p p 0 0 := ⟨h.1, fun _ _ _ _ z => z, fun a _ k f t z => by omega⟩
theorem zq_LI_set (hG : ∀ k f t, Ed k f t → G f t) (hu : ∀ k f t f' t', Ed k f t → Ed k f' t' → f = f' ∧ t = t') (hE : Ed K f t) (ht : t < 16) (hf : f < 16) (hi : i < 16) (h : zq_LI M G Ed p0 p K i) (hc : f = i ∨ (¬ p (i * 16 + f) = 0 ∧ M f)) : zq_LI M G Ed p0 (upd p (i * 16 + t) 1) K (i + 1) := by
  obtain ⟨h1, h2, h3⟩ := h
  have mono : ∀ j, ¬ p j = 0 → ¬ upd p (i * 16 + t) 1 j = 0 := by
    intro j z
    rcases Classical.em (j = i * 16 + t) with w | w
    · rw [w, pk_us]; exact zb_n1
    · rw [pk_un w]; exact z
  refine ⟨?_, fun a b ha hb z => mono _ (h2 a b ha hb z), ?_⟩
  · intro a b ha hb z
    rcases Classical.em (a * 16 + b = i * 16 + t) with w | w
    · obtain ⟨w1, w2⟩ := zb_ixj hb ht w
      subst w1; subst w2
      refine zq_T_cl a f b (hG _ _ _ hE) ?_
      rcases hc with y | y
      · exact Or.inl y
      · exact Or.inr ⟨h1 a f ha hf y.1, y.2⟩
    · rw [pk_un w] at z
      exact h1 a b ha hb z
  · intro a ha k f' t' hk hE' hc'
    rcases Classical.em (k = K ∧ a = i) with w | w
    · obtain ⟨w1, w2⟩ := w
      subst w1; subst w2
      obtain ⟨y1, y2⟩ := hu _ _ _ _ _ hE hE'
      subst y1; subst y2
      rw [pk_us]; exact zb_n1
    · exact mono _ (h3 a ha k f' t' (by omega) hE' hc')
theorem zq_LI_skip (hu : ∀ k f t f' t', Ed k f t → Ed k f' t' → f = f' ∧ t = t') (hE : Ed K f t) (hf : f < 16) (hi : i < 16) (h : zq_LI M G Ed p0 p K i) (hc : ¬ (f = i ∨ (¬ p (i * 16 + f) = 0 ∧ M f))) : zq_LI M G Ed p0 p K (i + 1) := by
  obtain ⟨h1, h2, h3⟩ := h
  refine ⟨h1, h2, ?_⟩
  intro a ha k f' t' hk hE' hc'
  rcases Classical.em (k = K ∧ a = i) with w | w
  · obtain ⟨w1, w2⟩ := w
    subst w1; subst w2
    obtain ⟨y1, y2⟩ := hu _ _ _ _ _ hE hE'
    subst y1; subst y2
    exact absurd (hc'.imp id fun z => ⟨h2 a f ha hf z.1, z.2⟩) hc
  · exact h3 a ha k f' t' (by omega) hE' hc'
theorem zq_LI_na (hE : ∀ f t, ¬ Ed K f t) (h : zq_LI M G Ed p0 p K i) : zq_LI M G Ed p0 p (K + 1) 0 := by
  refine ⟨h.1, h.2.1, fun a ha k f t hk hE' hc => ?_⟩
  rcases Nat.lt_or_ge k K with z | z
  · exact h.2.2 a ha k f t (Or.inl z) hE' hc
  · have : k = K := by omega
    subst this
    exact absurd hE' (hE f t)
theorem zq_LI_row (h : zq_LI M G Ed p0 p K 16) : zq_LI M G Ed p0 p (K + 1) 0 := by
  refine ⟨h.1, h.2.1, fun a ha k f t hk hE' hc => ?_⟩
  rcases Nat.lt_or_ge k K with z | z
  · exact h.2.2 a ha k f t (Or.inl z) hE' hc
  · exact h.2.2 a ha k f t (Or.inr ⟨by omega, ha⟩) hE' hc
theorem zq_YI_s {ne r : Nat} (hG : ∀ f t, G f t → ∃ k, k < ne ∧ Ed k f t) (h16 : ∀ f t, G f t → f < 16 ∧ t < 16) (hY : zq_YI M G r p0) (h : zq_LI M G Ed p0 p ne 0) : zq_YI M G (r + 1) p := by
  obtain ⟨h1, h2, h3⟩ := h
  refine ⟨h1, fun a ha => ?_⟩
  rcases Classical.em (zq_Cl M G a (fun b => ¬ p0 (a * 16 + b) = 0)) with z | z
  · refine Or.inl ?_
    intro f t g hc
    obtain ⟨l1, l2⟩ := h16 f t g
    have : zq_T M G a t := by
      refine zq_T_cl a f t g ?_
      rcases hc with y | y
      · exact Or.inl y
      · exact Or.inr ⟨h1 a f ha l1 y.1, y.2⟩
    exact h2 a t ha l2 (this _ z)
  · refine Or.inr ?_
    rcases hY.2 a ha with y | y
    · exact absurd y z
    · have : ∃ t, t < 16 ∧ ¬ ¬ p0 (a * 16 + t) = 0 ∧ ¬ p (a * 16 + t) = 0 := by
        apply Classical.byContradiction
        intro w
        apply z
        intro f t g hc
        apply Classical.byContradiction
        intro w'
        obtain ⟨k, hk, hE⟩ := hG f t g
        exact w ⟨t, (h16 f t g).2, w', h3 a ha k f t (Or.inl hk) hE hc⟩
      obtain ⟨t, ht, w1, w2⟩ := this
      have := cn_lt (P := fun b => ¬ p0 (a * 16 + b) = 0) (Q := fun b => ¬ p (a * 16 + b) = 0) (a := t) w1 w2 (N := 16) (fun b hb w => h2 a b ha hb w) ht
      omega
theorem zq_YI_0 (h : ∀ j, j < 256 → p j = 0) : zq_YI M G 0 p := ⟨fun a b ha hb z => absurd (h _ (by omega)) z, fun a ha => Or.inr (Nat.zero_le _)⟩
theorem zq_YI_e (h16 : ∀ f t, G f t → f < 16 ∧ t < 16) (h : zq_YI M G 16 p) : ∀ a b, a < 16 → b < 16 → (¬ p (a * 16 + b) = 0 ↔ zq_T M G a b) := by
  intro a b ha hb
  refine ⟨h.1 a b ha hb, fun z => ?_⟩
  rcases h.2 a ha with y | y
  · exact z _ y
  · exact zb_cnall y b hb
end ZQ5
theorem zq_Ed_u {ne : Nat} {ef et eo ab : Nat → Int32} : ∀ k f t f' t', zq_Ed ne ef et eo ab k f t → zq_Ed ne ef et eo ab k f' t' → f = f' ∧ t = t' := fun k f t f' t' h h' => ⟨h.2.2.1.symm.trans h'.2.2.1, h.2.2.2.symm.trans h'.2.2.2⟩
theorem zq_Ed_G {ne : Nat} {ef et eo ab : Nat → Int32} : ∀ k f t, zq_Ed ne ef et eo ab k f t → zq_G (zq_E ne ef et eo ab) f t := fun k f t h => ⟨_, k, h.1, h.2.1, rfl, h.2.2.1, h.2.2.2⟩
theorem zq_Ed_k {ne : Nat} {ef et eo ab : Nat → Int32} : ∀ f t, zq_G (zq_E ne ef et eo ab) f t → ∃ k, k < ne ∧ zq_Ed ne ef et eo ab k f t := fun f t ⟨e, k, hk, h1, h2, h3, h4⟩ => ⟨k, hk, hk, by rw [h2]; exact h1, h3, h4⟩
/-! heads by a downward search -/
def zq_HI (Q : Nat → Prop) (j : Nat) (v : Int32) : Prop := (∃ b, j ≤ b ∧ b < 16 ∧ Q b ∧ v = nI b ∧ ∀ c, j ≤ c → c < b → ¬ Q c) ∨ (v = -1 ∧ ∀ c, j ≤ c → c < 16 → ¬ Q c)
theorem zq_HI_y {Q : Nat → Prop} {j : Nat} (hj : j < 16) (q : Q j) : zq_HI Q j (nI j) := Or.inl ⟨j, by omega, hj, q, rfl, fun c _ _ => by omega⟩
theorem zq_HI_n {Q : Nat → Prop} {j : Nat} {v : Int32} (h : zq_HI Q (j + 1) v) (q : ¬ Q j) : zq_HI Q j v := by
  have step : ∀ c, j ≤ c → c ≠ j → j + 1 ≤ c := fun c h1 h2 => by omega
  rcases h with ⟨b, h1, h2, h3, h4, h5⟩ | ⟨h1, h2⟩
  · refine Or.inl ⟨b, by omega, h2, h3, h4, fun c hc hc' => ?_⟩
    rcases Classical.em (c = j) with z | z
    · rw [z]; exact q
    · exact h5 c (by omega) hc'
  · refine Or.inr ⟨h1, fun c hc hc' => ?_⟩
    rcases Classical.em (c = j) with z | z
    · rw [z]; exact q
    · exact h2 c (by omega) hc'
theorem zq_m1 {h : Nat} (hh : h < 2 ^ 31) : ¬ (-1 : Int32) = nI h := by
  intro z
  have := nI_pos hh
  rw [← z] at this
  exact this (by decide)
theorem zq_HD {L : Nat → Prop} {R : Nat → Nat → Prop} (hR : ∀ a b c, R a b → R b c → R a c) {a : Nat} {v : Int32} (h : zq_HI (fun c => L a ∧ zq_C L R a c) 0 v) : ∀ h, h < 16 → (v = nI h ↔ zq_I L R h ∧ zq_C L R h a) := by
  intro g hg
  rcases h with ⟨b, _, h2, ⟨h3, h3'⟩, h4, h5⟩ | ⟨h1, h2⟩
  · subst h4
    have hI : zq_I L R b := ⟨h3'.1, fun c hc z => h5 c (by omega) hc ⟨h3, zq_C_tr hR h3' z⟩⟩
    have hC : zq_C L R b a := zq_C_sym h3 h3'
    rw [nI_eq (by omega) (by omega)]
    constructor
    · intro z; subst z; exact ⟨hI, hC⟩
    · rintro ⟨z1, z2⟩
      exact zq_I_u hR hI z1 hC z2
  · subst h1
    constructor
    · intro z; exact absurd z (zq_m1 (by omega))
    · rintro ⟨z1, z2⟩
      exact absurd ⟨z2.1, zq_C_sym z1.1 z2⟩ (h2 g (by omega) hg)
end
section
/-! the reference: lengthen and readFile -/
section ZY3
variable {LL PL EL cl lc ec : Int32} {tx it ef et eo dl nd ab st hed pa dy pl : Nat → Int32}
variable {G : Nat → Nat → Prop} {Dd : Nat → Prop} {p0 d0 : Nat → Int32}
theorem zy_ln27 {post : SY → Prop} {J : Int32 → (Nat → Int32) → (Nat → Int32) → (Nat → Int32) → (Nat → Int32) → (Nat → Int32) → (Nat → Int32) → (Nat → Int32) → (Nat → Int32) → (Nat → Int32) → (Nat → Int32) → (Nat → Int32) → (Nat → Int32) → (Nat → Int32) → Prop} {ne k f t : Nat} (hne : ne ≤ 48) (hk : k < ne) (v1 : vp_in (eo k) 12) (hf : f < 16) (ht : t < 16) (ef1 : (ef k).toNatClampNeg = f) (et1 : (et k).toNatClampNeg = t)
  (hG : ∀ k f t, zq_Ed ne ef et eo ab k f t → G f t) (hst : ∀ a, a < 16 → (st a < 2 ↔ ¬ Dd a))
  (h1 : zq_LI (fun _ => True) G (zq_Ed ne ef et eo ab) p0 pa k 0) (h2 : zq_LI Dd G (zq_Ed ne ef et eo ab) d0 dy k 0)
  (h : ∀ pa dy, zq_LI (fun _ => True) G (zq_Ed ne ef et eo ab) p0 pa (k + 1) 0 → zq_LI Dd G (zq_Ed ne ef et eo ab) d0 dy (k + 1) 0 → J (nI (k + 1)) tx it ef et eo dl nd ab st hed pa dy pl) : ∃ n, wY_lengthen_27 post J (nI k) (nI f) (nI t) LL PL EL cl lc (nI ne) n 0 tx it ef et eo dl nd ab st hed pa dy pl := by
  have hv : vp_in (nI k) 48 := vp_in_nI (by omega) (by decide)
  have ck := nI_clamp (n := k) (by omega)
  rcases Classical.em (ab (eo k).toNatClampNeg = 0) with z | z
  · refine ⟨1, br_f (by decide) (And.intro hv ?_)⟩
    rw [ck]
    have na : ∀ f t, ¬ zq_Ed ne ef et eo ab k f t := fun f t y => y.2.1 z
    exact And.intro v1 (br_t z (nm_r (nI_1 k) (h _ _ (zq_LI_na na h1) (zq_LI_na na h2))))
  have hE : zq_Ed ne ef et eo ab k f t := ⟨hk, z, ef1, et1⟩
  refine loop_0 (fun n i (s : (Nat → Int32) × (Nat → Int32)) => wY_lengthen_27 post J (nI k) (nI f) (nI t) LL PL EL cl lc (nI ne) n (nI i) tx it ef et eo dl nd ab st hed s.1 s.2 pl) (fun i s => zq_LI (fun _ => True) G (zq_Ed ne ef et eo ab) p0 s.1 k i ∧ zq_LI Dd G (zq_Ed ne ef et eo ab) d0 s.2 k i) 16 (pa, dy) ⟨h1, h2⟩ ?_ ?_
  · intro n s hs
    exact br_t (nI_le (a := 16) (Nat.le_refl _) (by decide)) (nm_r (nI_1 k) (h _ _ (zq_LI_row hs.1) (zq_LI_row hs.2)))
  · intro n i s hi hs ih
    have ix1 : nI i * 16 + nI f = nI (i * 16 + f) := zb_ix i f 16
    have ix2 : nI i * 16 + nI t = nI (i * 16 + t) := zb_ix i t 16
    have iv1 : vp_in (nI (i * 16 + f)) 256 := vp_in_nI (by omega) (by decide)
    have iv2 : vp_in (nI (i * 16 + t)) 256 := vp_in_nI (by omega) (by decide)
    have h113 : ∀ pa', zq_LI (fun _ => True) G (zq_Ed ne ef et eo ab) p0 pa' k (i + 1) → (f = i ∨ (¬ s.2 (i * 16 + f) = 0 ∧ Dd f)) → wY_lengthen_113 post J (wY_lengthen_27 post J (nI k) (nI f) (nI t) LL PL EL cl lc (nI ne) n) (nI k) (nI f) (nI t) (nI i) LL PL EL cl lc (nI ne) tx it ef et eo dl nd ab st hed pa' s.2 pl := fun pa' hp' hc => by
      refine And.intro (by rw [ix2]; exact iv2) (nm_r (e' := upd s.2 (i * 16 + t) 1) (by rw [ix2, nI_clamp (by omega), zb_v1]) (nm_r (nI_1 i) (ih (pa', _) ⟨hp', zq_LI_set hG zq_Ed_u hE ht hf hi hs.2 hc⟩)))
    have h82 : ∀ pa', zq_LI (fun _ => True) G (zq_Ed ne ef et eo ab) p0 pa' k (i + 1) → wY_lengthen_82 post J (wY_lengthen_27 post J (nI k) (nI f) (nI t) LL PL EL cl lc (nI ne) n) (nI k) (nI f) (nI t) (nI i) LL PL EL cl lc (nI ne) tx it ef et eo dl nd ab st hed pa' s.2 pl := fun pa' hp' => by
      refine pk_eq i f (fun w => h113 pa' hp' (Or.inl w.symm)) (fun w => And.intro (by rw [ix1]; exact iv1) ?_)
      rw [ix1, nI_clamp (by omega), nI_clamp (n := f) (by omega)]
      refine br_c (fun y => nm_r (nI_1 i) (ih (pa', s.2) ⟨hp', zq_LI_skip zq_Ed_u hE hf hi hs.2 fun q => q.elim (fun q => w q.symm) (fun q => q.1 y)⟩)) (fun y => And.intro (vp_in_nI hf (by decide)) (br_c (fun y' => nm_r (nI_1 i) (ih (pa', s.2) ⟨hp', zq_LI_skip zq_Ed_u hE hf hi hs.2 fun q => q.elim (fun q => w q.symm) (fun q => (hst f hf).mp y' q.2)⟩)) (fun y' => h113 pa' hp' (Or.inr ⟨y, ?_⟩))))
      apply Classical.byContradiction
      intro q
      exact y' ((hst f hf).mpr q)
    have h69 : (f = i ∨ (¬ s.1 (i * 16 + f) = 0 ∧ True)) → wY_lengthen_69 post J (wY_lengthen_27 post J (nI k) (nI f) (nI t) LL PL EL cl lc (nI ne) n) (nI k) (nI f) (nI t) (nI i) LL PL EL cl lc (nI ne) tx it ef et eo dl nd ab st hed s.1 s.2 pl := fun hc =>
      And.intro (by rw [ix2]; exact iv2) (nm_r (e' := upd s.1 (i * 16 + t) 1) (by rw [ix2, nI_clamp (by omega), zb_v1]) (h82 _ (zq_LI_set hG zq_Ed_u hE ht hf hi hs.1 hc)))
    refine br_f (nI_ge (b := 16) hi (by decide)) (And.intro hv ?_)
    rw [ck]
    refine And.intro v1 (br_f z (pk_eq i f (fun w => h69 (Or.inl w.symm)) (fun w => And.intro (by rw [ix1]; exact iv1) ?_)))
    rw [ix1, nI_clamp (by omega)]
    exact br_c (fun y => h82 _ (zq_LI_skip zq_Ed_u hE hf hi hs.1 fun q => q.elim (fun q => w q.symm) (fun q => q.1 y))) (fun y => h69 (Or.inr ⟨y, trivial⟩))
theorem zy_ln {post : SY → Prop} {ne : Nat} (hne : ne ≤ 48) (he : ∀ k, k < ne → vp_in (eo k) 12 ∧ vp_in (ef k) 16 ∧ vp_in (et k) 16)
  (hG : ∀ k f t, zq_Ed ne ef et eo ab k f t → G f t) (hst : ∀ a, a < 16 → (st a < 2 ↔ ¬ Dd a))
  (h1 : zq_LI (fun _ => True) G (zq_Ed ne ef et eo ab) p0 pa 0 0) (h2 : zq_LI Dd G (zq_Ed ne ef et eo ab) d0 dy 0 0)
  (h : ∀ pa dy, zq_LI (fun _ => True) G (zq_Ed ne ef et eo ab) p0 pa ne 0 → zq_LI Dd G (zq_Ed ne ef et eo ab) d0 dy ne 0 → post (LL, PL, EL, cl, lc, nI ne, tx, it, ef, et, eo, dl, nd, ab, st, hed, pa, dy, pl)) : wpY_lengthen post (LL, PL, EL, cl, lc, nI ne, tx, it, ef, et, eo, dl, nd, ab, st, hed, pa, dy, pl) := by
  refine loop_0 (fun n i (s : (Nat → Int32) × (Nat → Int32)) => wY_lengthen_2 post LL PL EL cl lc (nI ne) n (nI i) tx it ef et eo dl nd ab st hed s.1 s.2 pl) (fun i s => zq_LI (fun _ => True) G (zq_Ed ne ef et eo ab) p0 s.1 i 0 ∧ zq_LI Dd G (zq_Ed ne ef et eo ab) d0 s.2 i 0) ne (pa, dy) ⟨h1, h2⟩ ?_ ?_
  · intro n s hs
    exact br_t (nI_le (Nat.le_refl _) (by omega)) (h _ _ hs.1 hs.2)
  · intro n i s hi hs ih
    obtain ⟨v1, v2, v3⟩ := he i hi
    obtain ⟨e2, l2⟩ := zb_nin v2 (by decide)
    obtain ⟨e3, l3⟩ := zb_nin v3 (by decide)
    have hv : vp_in (nI i) 48 := vp_in_nI (by omega) (by decide)
    have c := nI_clamp (n := i) (by omega)
    refine br_f (nI_ge hi (by omega)) (And.intro hv (nm_r (e' := nI (ef i).toNatClampNeg) (by rw [c]; exact e2) (And.intro hv (nm_r (e' := nI (et i).toNatClampNeg) (by rw [c]; exact e3) ?_))))
    exact zy_ln27 hne hi v1 l2 l3 rfl rfl hG hst hs.1 hs.2 (fun pa' dy' y1 y2 => ih (pa', dy') ⟨y1, y2⟩)
variable {L : Nat → Prop} {R : Nat → Nat → Prop}
theorem zy_rf97 {post : SY → Prop} {J : Int32 → (Nat → Int32) → (Nat → Int32) → (Nat → Int32) → (Nat → Int32) → (Nat → Int32) → (Nat → Int32) → (Nat → Int32) → (Nat → Int32) → (Nat → Int32) → (Nat → Int32) → (Nat → Int32) → (Nat → Int32) → (Nat → Int32) → Prop} {a : Nat} (ha : a < 16) (hst : ∀ a, a < 16 → (st a = 1 ↔ L a)) (hpa : ∀ a b, a < 16 → b < 16 → (¬ pa (a * 16 + b) = 0 ↔ R a b)) (h0 : hed a = -1)
  (h : ∀ hed', (∀ c, c ≠ a → hed' c = hed c) → zq_HI (fun c => L a ∧ zq_C L R a c) 0 (hed' a) → J (nI (a + 1)) tx it ef et eo dl nd ab st hed' pa dy pl) : ∃ n, wY_readFile_97 post J (nI a) LL PL EL cl lc ec n 15 tx it ef et eo dl nd ab st hed pa dy pl := by
  have e15 : (15 : Int32) = nI 16 + (-1) := by decide
  rw [e15]
  refine ⟨16 + 1, pk_loopD (fun n j (s : Nat → Int32) => wY_readFile_97 post J (nI a) LL PL EL cl lc ec n (nI j + (-1)) tx it ef et eo dl nd ab st s pa dy pl) (fun j s => j ≤ 16 ∧ (∀ c, c ≠ a → s c = hed c) ∧ zq_HI (fun c => L a ∧ zq_C L R a c) j (s a)) ?_ ?_ 16 hed ⟨by omega, fun _ _ => rfl, Or.inr ⟨h0, fun c _ _ => by omega⟩⟩⟩
  · rintro n s ⟨_, h1, h2⟩
    exact br_t (by decide) (nm_r (nI_1 a) (h s h1 h2))
  · rintro n j s ⟨hj, h1, h2⟩ ih
    have hv : vp_in (nI a) 16 := vp_in_nI ha (by decide)
    have hw : vp_in (nI j) 16 := vp_in_nI (by omega) (by decide)
    have ca := nI_clamp (n := a) (by omega)
    have cj := nI_clamp (n := j) (by omega)
    have ix1 : nI a * 16 + nI j = nI (a * 16 + j) := zb_ix a j 16
    have ix2 : nI j * 16 + nI a = nI (j * 16 + a) := zb_ix j a 16
    have hno : ¬ (L a ∧ zq_C L R a j) → wY_readFile_97 post J (nI a) LL PL EL cl lc ec n (nI j + (-1)) tx it ef et eo dl nd ab st s pa dy pl := fun q => ih s ⟨by omega, h1, zq_HI_n h2 q⟩
    have h134 : (j = a ∨ (R a j ∧ R j a)) → wY_readFile_134 post J (wY_readFile_97 post J (nI a) LL PL EL cl lc ec n) (nI a) (nI j) LL PL EL cl lc ec tx it ef et eo dl nd ab st s pa dy pl := fun q => by
      unfold wY_readFile_134 wY_readFile_139
      rw [ca, cj]
      refine And.intro hv (br_c (fun y => And.intro hw (br_c (fun y' => br_f zb_n1 (And.intro hv (nm_e (nm_e (ih _ ⟨by omega, fun c hc => ?_, ?_⟩))))) (fun y' => nm_e (hno fun w => y' ((hst j (by omega)).mpr w.2.1))))) (fun y => nm_e (hno fun w => y ((hst a ha).mpr w.1))))
      · rw [pk_un hc]; exact h1 c hc
      · rw [pk_us]
        exact zq_HI_y (by omega) ⟨(hst a ha).mp y, (hst j (by omega)).mp y', q⟩
    have h138 : ¬ (j = a ∨ (R a j ∧ R j a)) → wY_readFile_138 post J (wY_readFile_97 post J (nI a) LL PL EL cl lc ec n) (nI a) (nI j) LL PL EL cl lc ec tx it ef et eo dl nd ab st s pa dy pl := fun q => by
      unfold wY_readFile_138 wY_readFile_139
      rw [ca, cj]
      exact And.intro hv (br_c (fun y => And.intro hw (br_c (fun y' => br_t rfl (nm_e (hno fun w => q w.2.2))) (fun y' => nm_e (hno fun w => y' ((hst j (by omega)).mpr w.2.1))))) (fun y => nm_e (hno fun w => y ((hst a ha).mpr w.1))))
    show wY_readFile_97 post J (nI a) LL PL EL cl lc ec (n + 1) (nI (j + 1) + (-1)) tx it ef et eo dl nd ab st s pa dy pl
    rw [pk_m1]
    refine br_f (nI_pos (by omega)) (pk_eq a j (fun w => h134 (Or.inl w.symm)) (fun w => And.intro (by rw [ix1]; exact vp_in_nI (by omega) (by decide)) ?_))
    rw [ix1, ix2, nI_clamp (by omega), nI_clamp (by omega)]
    refine br_c (fun y => h138 fun q => q.elim (fun q => w q.symm) (fun q => (hpa a j ha (by omega)).mpr q.1 y)) (fun y => And.intro (vp_in_nI (by omega) (by decide)) (br_c (fun y' => h138 fun q => q.elim (fun q => w q.symm) (fun q => (hpa j a (by omega) ha).mpr q.2 y')) (fun y' => h134 (Or.inr ⟨(hpa a j ha (by omega)).mp y, (hpa j a (by omega) ha).mp y'⟩))))
theorem zy_rf88 {post : SY → Prop} (hst : ∀ a, a < 16 → (st a = 1 ↔ L a)) (hpa : ∀ a b, a < 16 → b < 16 → (¬ pa (a * 16 + b) = 0 ↔ R a b)) (h0 : ∀ a, a < 16 → hed a = -1)
  (h : ∀ hed, (∀ a, a < 16 → zq_HI (fun c => L a ∧ zq_C L R a c) 0 (hed a)) → post (LL, PL, EL, cl, lc, ec, tx, it, ef, et, eo, dl, nd, ab, st, hed, pa, dy, pl)) : ∃ n, wY_readFile_88 post LL PL EL cl lc ec n 0 tx it ef et eo dl nd ab st hed pa dy pl := by
  refine loop_0 (fun n i (s : Nat → Int32) => wY_readFile_88 post LL PL EL cl lc ec n (nI i) tx it ef et eo dl nd ab st s pa dy pl) (fun i s => ∀ a, a < 16 → (a < i → zq_HI (fun c => L a ∧ zq_C L R a c) 0 (s a)) ∧ (i ≤ a → s a = -1)) 16 hed (fun a ha => ⟨fun z => absurd z (by omega), fun _ => h0 a ha⟩) ?_ ?_
  · intro n s hs
    exact br_t (nI_le (a := 16) (Nat.le_refl _) (by decide)) (h s fun a ha => (hs a ha).1 ha)
  · intro n i s hi hs ih
    refine br_f (nI_ge (b := 16) hi (by decide)) (zy_rf97 (L := L) (R := R) hi hst hpa ((hs i hi).2 (Nat.le_refl _)) (fun hed' y1 y2 => ih hed' fun a ha => ?_))
    rcases Classical.em (a = i) with z | z
    · subst z; exact ⟨fun _ => y2, fun w => absurd w (by omega)⟩
    · rw [y1 a z]
      exact ⟨fun w => (hs a ha).1 (by omega), fun w => (hs a ha).2 (by omega)⟩
end ZY3
/-- what the reference's scratch tables hold behind readFile -/
def zq_YF (E : Nat → Nat → Nat → Prop) (D N : Nat → Nat → Prop) (P : Nat → Prop) (st hed pa dy pl : Nat → Int32) : Prop :=
  (∀ a, a < 16 → (st a = 1 ↔ zq_Lv D P a) ∧ (st a = 3 ↔ zq_Zo E D N P a)) ∧ (∀ a h, a < 16 → h < 16 → (hed a = nI h ↔ zq_I (zq_Lv D P) (zq_R E) h ∧ zq_C (zq_Lv D P) (zq_R E) h a)) ∧
  (∀ a b, a < 16 → b < 16 → (¬ pa (a * 16 + b) = 0 ↔ zq_R E a b)) ∧ (∀ a b, a < 16 → b < 16 → (¬ dy (a * 16 + b) = 0 ↔ zq_V E D P a b)) ∧ ∀ a, a < 16 → pl a = 0
def zq_ST (E : Nat → Nat → Nat → Prop) (D N : Nat → Nat → Prop) (P : Nat → Prop) (a : Nat) (v : Int32) : Prop := ((v = 1 ↔ zq_Lv D P a) ∧ (v = 3 ↔ zq_Zo E D N P a)) ∧ (v < 2 ↔ ¬ zq_Dd D P a)
theorem zq_ST_n {E : Nat → Nat → Nat → Prop} {D N : Nat → Nat → Prop} {P : Nat → Prop} {a : Nat} {v : Int32} (h1 : v ≠ 1) (h3 : v ≠ 3) (h2 : v < 2) (h : ¬ P a) : zq_ST E D N P a v := ⟨⟨⟨fun z => absurd z h1, fun z => absurd z.1 h⟩, ⟨fun z => absurd z h3, fun z => absurd z.1 h⟩⟩, ⟨fun _ z => h z.1, fun _ => h2⟩⟩
theorem zq_ST_1 {E : Nat → Nat → Nat → Prop} {D N : Nat → Nat → Prop} {P : Nat → Prop} {a : Nat} (h : zq_Lv D P a) : zq_ST E D N P a 1 := ⟨⟨⟨fun _ => h, fun _ => rfl⟩, ⟨fun z => absurd z (by decide), fun ⟨_, d, z, _⟩ => absurd ⟨d, z⟩ h.2⟩⟩, ⟨fun _ z => h.2 z.2, fun _ => by decide⟩⟩
theorem zq_ST_2 {E : Nat → Nat → Nat → Prop} {D N : Nat → Nat → Prop} {P : Nat → Prop} {a : Nat} (h : zq_Gh E D N P a) : zq_ST E D N P a 2 := ⟨⟨⟨fun z => absurd z (by decide), fun z => absurd h.2.1 z.2⟩, ⟨fun z => absurd z (by decide), fun z => absurd z.2 h.2.2⟩⟩, ⟨fun z => absurd z (by decide), fun z => absurd ⟨h.1, h.2.1⟩ z⟩⟩
theorem zq_ST_3 {E : Nat → Nat → Nat → Prop} {D N : Nat → Nat → Prop} {P : Nat → Prop} {a : Nat} (h : zq_Zo E D N P a) : zq_ST E D N P a 3 := by
  have hH : zq_H D a := by obtain ⟨_, d, z, _⟩ := h; exact ⟨d, z⟩
  exact ⟨⟨⟨fun z => absurd z (by decide), fun z => absurd hH z.2⟩, ⟨fun _ => h, fun _ => rfl⟩⟩, ⟨fun z => absurd z (by decide), fun z => absurd ⟨h.1, hH⟩ z⟩⟩
section ZY4
variable {LL PL EL cl lc ec : Int32} {tx it ef et eo dl nd ab st hed pa dy pl : Nat → Int32}
theorem zy_rf {post : SY → Prop} {nL nP nE nc nl ne : Nat} {ap : Int32} {nm dm : Nat → Int32} (hR : zq_RD nL nP nE nc nl ne ap nm dm it ef et eo dl nd ab)
  (h : ∀ st hed pa dy pl, zq_YF (zq_E ne ef et eo ab) (zq_D dl ab) (zq_N nd ab) (zq_P nl it ab) st hed pa dy pl → post (LL, PL, EL, nI nc, nI nl, nI ne, tx, it, ef, et, eo, dl, nd, ab, st, hed, pa, dy, pl)) : wpY_readFile post (LL, PL, EL, nI nc, nI nl, nI ne, tx, it, ef, et, eo, dl, nd, ab, st, hed, pa, dy, pl) := by
  have ck := zq_RD_ck hR
  obtain ⟨⟨b1, b2, b3, b4, b5, b6⟩, ⟨ha, ha'⟩, hn, hn', hed', hi, he⟩ := hR
  have h16 : ∀ f t, zq_G (zq_E ne ef et eo ab) f t → f < 16 ∧ t < 16 := fun f t ⟨e, z⟩ => (ck.1 e f t z).2
  refine loop_0 (fun n i (s : (Nat → Int32) × (Nat → Int32) × (Nat → Int32)) => wY_readFile_2 post LL PL EL (nI nc) (nI nl) (nI ne) n (nI i) tx it ef et eo dl nd ab s.1 s.2.1 pa dy s.2.2) (fun i s => ∀ a, a < i → zq_ST (zq_E ne ef et eo ab) (zq_D dl ab) (zq_N nd ab) (zq_P nl it ab) a (s.1 a) ∧ s.2.1 a = -1 ∧ s.2.2 a = 0) 16 (st, hed, pl) (fun a z => absurd z (by omega)) ?_ ?_
  · rintro n ⟨st1, hed1, pl1⟩ hs
    dsimp only at hs ⊢
    refine br_t (nI_le (a := 16) (Nat.le_refl _) (by decide)) ?_
    refine loop_0 (fun n i (s : (Nat → Int32) × (Nat → Int32)) => wY_readFile_41 post LL PL EL (nI nc) (nI nl) (nI ne) n (nI i) tx it ef et eo dl nd ab st1 hed1 s.1 s.2 pl1) (fun i s => ∀ j, j < i → s.1 j = 0 ∧ s.2 j = 0) 256 (pa, dy) (fun a z => absurd z (by omega)) ?_ ?_
    · rintro n ⟨pa1, dy1⟩ hz
      dsimp only at hz ⊢
      refine br_t (nI_le (a := 256) (Nat.le_refl _) (by decide)) ?_
      refine loop_0 (fun n i (s : (Nat → Int32) × (Nat → Int32)) => wY_readFile_70 post n (nI i) LL PL EL (nI nc) (nI nl) (nI ne) tx it ef et eo dl nd ab st1 hed1 s.1 s.2 pl1) (fun i s => zq_YI (fun _ => True) (zq_G (zq_E ne ef et eo ab)) i s.1 ∧ zq_YI (zq_Dd (zq_D dl ab) (zq_P nl it ab)) (zq_G (zq_E ne ef et eo ab)) i s.2) 16 (pa1, dy1) ⟨zq_YI_0 fun j hj => (hz j hj).1, zq_YI_0 fun j hj => (hz j hj).2⟩ ?_ ?_
      · rintro n ⟨pa2, dy2⟩ ⟨hy1, hy2⟩
        dsimp only at hy1 hy2 ⊢
        have k1 := zq_YI_e h16 hy1
        have k2 := zq_YI_e h16 hy2
        refine br_t (nI_le (a := 16) (Nat.le_refl _) (by decide)) (zy_rf88 (L := zq_Lv (zq_D dl ab) (zq_P nl it ab)) (R := zq_R (zq_E ne ef et eo ab)) (fun a hA => (hs a hA).1.1.1) k1 (fun a hA => (hs a hA).2.1) (fun hed2 hh => ?_))
        exact h _ _ _ _ _ ⟨fun a hA => (hs a hA).1.1, fun a g hA hg => zq_HD zq_R_tr (hh a hA) g hg, k1, k2, fun a hA => (hs a hA).2.2⟩
      · rintro n i ⟨pa2, dy2⟩ hin ⟨hy1, hy2⟩ ih
        dsimp only at hy1 hy2 ⊢
        refine br_f (nI_ge (b := 16) hin (by decide)) (zy_ln (G := zq_G (zq_E ne ef et eo ab)) (Dd := zq_Dd (zq_D dl ab) (zq_P nl it ab)) (p0 := pa2) (d0 := dy2) (by omega) he zq_Ed_G (fun a hA => (hs a hA).1.2) (zq_LI_0 hy1) (zq_LI_0 hy2) (fun pa3 dy3 y1 y2 => ?_))
        exact nm_r (nI_1 i) (ih (pa3, dy3) ⟨zq_YI_s zq_Ed_k h16 hy1 y1, zq_YI_s zq_Ed_k h16 hy2 y2⟩)
    · intro n i s hin hz ih
      have hv : vp_in (nI i) 256 := vp_in_nI hin (by decide)
      refine br_f (nI_ge (b := 256) hin (by decide)) ?_
      rw [nI_clamp (n := i) (by omega)]
      refine And.intro hv (nm_e (And.intro hv (nm_e (nm_r (nI_1 i) (ih (upd s.1 i (vp_nar .boolean 0), upd s.2 i (vp_nar .boolean 0)) ?_)))))
      intro a hA
      dsimp only
      rcases Nat.lt_or_ge a i with z | z
      · rw [pk_un (by omega), pk_un (by omega)]; exact hz a z
      · have : a = i := by omega
        subst this
        rw [pk_us, pk_us]; exact ⟨rfl, rfl⟩
  · intro n i s hin hs ih
    have hv : vp_in (nI i) 16 := vp_in_nI hin (by decide)
    have fin : ∀ v, zq_ST (zq_E ne ef et eo ab) (zq_D dl ab) (zq_N nd ab) (zq_P nl it ab) i v → ∀ a, a < i + 1 → zq_ST (zq_E ne ef et eo ab) (zq_D dl ab) (zq_N nd ab) (zq_P nl it ab) a (upd s.1 i v a) ∧ upd s.2.1 i (-1) a = -1 ∧ upd s.2.2 i (vp_nar .boolean 0) a = 0 := by
      intro v hv' a hA
      rcases Nat.lt_or_ge a i with z | z
      · rw [pk_un (by omega), pk_un (by omega), pk_un (by omega)]; exact hs a z
      · have : a = i := by omega
        subst this
        rw [pk_us, pk_us, pk_us]; exact ⟨hv', rfl, rfl⟩
    refine br_f (nI_ge (b := 16) hin (by decide)) ?_
    rw [nI_clamp (n := i) (by omega)]
    have nx : ∀ v, zq_ST (zq_E ne ef et eo ab) (zq_D dl ab) (zq_N nd ab) (zq_P nl it ab) i v → wY_readFile_2 post LL PL EL (nI nc) (nI nl) (nI ne) n (nI (i + 1)) tx it ef et eo dl nd ab (upd s.1 i v) (upd s.2.1 i (-1)) pa dy (upd s.2.2 i (vp_nar .boolean 0)) := fun v hv' => ih (_, _, _) (fin v hv')
    rcases Nat.lt_or_ge i nl with z | z
    · refine zy_ls (nc := nc) (nl := nl) (ne := ne) (by omega) (by omega) (by omega) z (hi i z) ha' he (fun y => ?_) (fun y => ?_) (fun y => ?_) (fun y => ?_)
      · exact And.intro hv (nm_e (And.intro hv (nm_e (And.intro hv (nm_e (nm_r (nI_1 i) (nx _ (zq_ST_n (by decide) (by decide) (by decide) y))))))))
      · exact And.intro hv (nm_e (And.intro hv (nm_e (And.intro hv (nm_e (nm_r (nI_1 i) (nx _ (zq_ST_1 y))))))))
      · exact And.intro hv (nm_e (And.intro hv (nm_e (And.intro hv (nm_e (nm_r (nI_1 i) (nx _ (zq_ST_2 y))))))))
      · exact And.intro hv (nm_e (And.intro hv (nm_e (And.intro hv (nm_e (nm_r (nI_1 i) (nx _ (zq_ST_3 y))))))))
    · refine zy_lsN (Or.inr (nI_le z (by omega))) ?_
      exact And.intro hv (nm_e (And.intro hv (nm_e (And.intro hv (nm_e (nm_r (nI_1 i) (nx _ (zq_ST_n (by decide) (by decide) (by decide) fun y => by have := y.1; omega))))))))
end ZY4
end
section
/-! the reference: candidates, status, conflictAt -/
theorem zq_co_lt {E : Nat → Nat → Nat → Prop} {D N : Nat → Nat → Prop} {P : Nat → Prop} {c : Nat} (hc : c < 1360) : zq_co E D N P c < 60000 := by
  unfold zq_co zq_cd
  have h1 := b01_le (zq_ok (zq_Lv D P) (zq_R E) (zq_Zo E D N P) (zq_dc D) (c / 272) (c / 17 % 16) (c % 17))
  generalize b01 (zq_ok (zq_Lv D P) (zq_R E) (zq_Zo E D N P) (zq_dc D) (c / 272) (c / 17 % 16) (c % 17)) = z at *
  have h2 : c / 272 * 10000 + c / 17 % 16 * 100 + c % 17 < 60000 := by omega
  generalize c / 272 * 10000 + c / 17 % 16 * 100 + c % 17 = w at *
  have : z * w ≤ 1 * w := Nat.mul_le_mul_right w h1
  omega
section ZY5
variable {LL PL EL cl lc ec : Int32} {tx it ef et eo dl nd ab st hed pa dy pl : Nat → Int32}
variable {E : Nat → Nat → Nat → Prop} {N : Nat → Nat → Prop} {P : Nat → Prop}
theorem zy_cd_e {post : Int32 → Prop} {nc k x y sz dx n : Nat} (hc : nc ≤ 12) (hx : x < 16) (hy : y < 17) (hk : k ≤ 4) (hY : zq_YF E (zq_D dl ab) N P st hed pa dy pl)
  (hsz : sz = cn (fun b => zq_I (zq_Lv (zq_D dl ab) P) (zq_R E) x ∧ zq_C (zq_Lv (zq_D dl ab) P) (zq_R E) x b) 16) (hdx : dx = zq_dc (zq_D dl ab) x)
  (h0 : ¬ zq_ok (zq_Lv (zq_D dl ab) P) (zq_R E) (zq_Zo E (zq_D dl ab) N P) (zq_dc (zq_D dl ab)) k x y → post 0) (h1 : zq_ok (zq_Lv (zq_D dl ab) P) (zq_R E) (zq_Zo E (zq_D dl ab) N P) (zq_dc (zq_D dl ab)) k x y → post (nI (k * 10000 + x * 100 + y))) :
  wY_candidate_70 post (nI k) (nI x) (nI y) (nI sz) LL PL EL (nI nc) lc ec tx it ef et eo dl nd ab st hed pa dy pl (n + 1) (nI dx) (nI nc) := by
  obtain ⟨hst, hhd, hpa, _, _⟩ := hY
  generalize hL : zq_Lv (zq_D dl ab) P = L at *
  generalize hR : zq_R E = R at *
  generalize hZ : zq_Zo E (zq_D dl ab) N P = Z at *
  generalize hdc : zq_dc (zq_D dl ab) = dc at *
  have lsz : sz ≤ 16 := by rw [hsz]; exact cn_le _ 16
  have ldx : dx ≤ 16 := by rw [hdx, ← hdc]; exact cn_le _ 16
  have q0 : ¬ zq_ok L R Z dc k x y → wY_candidate_244 post (nI k) (nI x) (nI y) 0 LL PL EL (nI nc) lc ec tx it ef et eo dl nd ab st hed pa dy pl := fun q => br_t rfl (h0 q)
  have q1 : zq_ok L R Z dc k x y → wY_candidate_244 post (nI k) (nI x) (nI y) 1 LL PL EL (nI nc) lc ec tx it ef et eo dl nd ab st hed pa dy pl := fun q => br_f zb_n1 (by
    rw [show (10000 : Int32) = nI 10000 from rfl, show (100 : Int32) = nI 100 from rfl, pk_mul, pk_mul, nI_add, nI_add]
    exact h1 q)
  have q167 : ∀ z, k ≠ 1 → wY_candidate_244 post (nI k) (nI x) (nI y) z LL PL EL (nI nc) lc ec tx it ef et eo dl nd ab st hed pa dy pl → wY_candidate_167 post (nI k) (nI x) (nI y) z LL PL EL (nI nc) lc ec tx it ef et eo dl nd ab st hed pa dy pl := fun z w h => pk_eq k 1 (fun w' => absurd w' w) (fun _ => h)
  have q136 : ∀ z, k ≠ 4 → wY_candidate_167 post (nI k) (nI x) (nI y) z LL PL EL (nI nc) lc ec tx it ef et eo dl nd ab st hed pa dy pl → wY_candidate_136 post (nI k) (nI x) (nI y) (nI dx) z LL PL EL (nI nc) lc ec tx it ef et eo dl nd ab st hed pa dy pl := fun z w h => pk_eq k 4 (fun w' => absurd w' w) (fun _ => h)
  have hvx : vp_in (nI x) 16 := vp_in_nI hx (by decide)
  have cx := nI_clamp (n := x) (by omega)
  refine br_t (nI_le (Nat.le_refl _) (by omega)) (pk_eq k 2 (fun k2 => ?_) (fun k2 => ?_))
  · subst k2
    have hok : zq_ok L R Z dc 2 x y ↔ 2 ≤ y ∧ zq_I L R x ∧ y = cn (zq_C L R x) 16 := by
      constructor
      · rintro (w | w | w)
        · exact absurd w.1 (by decide)
        · exact w.2
        · exact absurd w.1 (by decide)
      · intro w; exact Or.inr (Or.inl ⟨rfl, w⟩)
    have hs2 : 2 ≤ y → (y = sz ↔ zq_I L R x ∧ y = cn (zq_C L R x) 16) := by
      intro w
      rcases Classical.em (zq_I L R x) with z | z
      · rw [hsz, cn_eq (Q := zq_C L R x) fun b _ => ⟨fun v => v.2, fun v => ⟨z, v⟩⟩]
        exact ⟨fun v => ⟨z, v⟩, fun v => v.2⟩
      · rw [hsz, zb_cnF fun b _ v => z v.1]
        exact ⟨fun v => by omega, fun v => absurd v.1 z⟩
    have no : ¬ zq_ok L R Z dc 2 x y → wY_candidate_135 post (nI 2) (nI x) (nI y) (nI dx) LL PL EL (nI nc) lc ec tx it ef et eo dl nd ab st hed pa dy pl := fun q => q136 0 (by decide) (q167 0 (by decide) (q0 q))
    refine pk_lt y 2 (fun w => no fun v => by have := (hok.mp v).1; omega) (fun w => pk_eq y sz (fun w' => q136 1 (by decide) (q167 1 (by decide) (q1 (hok.mpr ⟨w, (hs2 w).mp w'⟩)))) (fun w' => no fun v => w' ((hs2 w).mpr (hok.mp v).2)))
  · show wY_candidate_136 post (nI k) (nI x) (nI y) (nI dx) 0 LL PL EL (nI nc) lc ec tx it ef et eo dl nd ab st hed pa dy pl
    refine pk_eq k 4 (fun k4 => And.intro hvx ?_) (fun k4 => ?_)
    · subst k4
      have hok : zq_ok L R Z dc 4 x y ↔ Z x ∧ y = dc x := by
        constructor
        · rintro (w | w | w)
          · exact absurd w.1 (by decide)
          · exact absurd w.1 (by decide)
          · exact w.2
        · intro w; exact Or.inr (Or.inr ⟨rfl, w⟩)
      rw [cx]
      refine br_c (fun w => pk_eq y dx (fun w' => q167 1 (by decide) (q1 (hok.mpr ⟨(hst x hx).2.mp w, by rw [w', hdx]⟩))) (fun w' => q167 0 (by decide) (q0 fun v => w' (by rw [hdx]; exact (hok.mp v).2)))) (fun w => q167 0 (by decide) (q0 fun v => w ((hst x hx).2.mpr (hok.mp v).1)))
    · refine pk_eq k 1 (fun k1 => ?_) (fun k1 => q0 ?_)
      · subst k1
        have hok : zq_ok L R Z dc 1 x y ↔ x < y ∧ y < 16 ∧ zq_I L R x ∧ zq_I L R y ∧ ¬ R x y ∧ ¬ R y x := by
          constructor
          · rintro (w | w | w)
            · exact w.2
            · exact absurd w.1 (by decide)
            · exact absurd w.1 (by decide)
          · intro w; exact Or.inl ⟨rfl, w⟩
        have hh : ∀ a, a < 16 → (hed a = nI a ↔ zq_I L R a) := fun a ha => ⟨fun v => ((hhd a a ha ha).mp v).1, fun v => (hhd a a ha ha).mpr ⟨v, v.1, Or.inl rfl⟩⟩
        refine pk_le y x (fun w => q0 fun v => by have := (hok.mp v).1; omega) (fun w => pk_le 16 y (fun w' => q0 fun v => by have := (hok.mp v).2.1; omega) (fun w' => And.intro hvx ?_))
        have ix1 : nI x * 16 + nI y = nI (x * 16 + y) := zb_ix x y 16
        have ix2 : nI y * 16 + nI x = nI (y * 16 + x) := zb_ix y x 16
        rw [cx, nI_clamp (n := y) (by omega), ix1, ix2, nI_clamp (n := x * 16 + y) (by omega), nI_clamp (n := y * 16 + x) (by omega)]
        refine br_c (fun y1 => And.intro (vp_in_nI w' (by decide)) (br_c (fun y2 => And.intro (vp_in_nI (by omega) (by decide)) (br_c (fun y3 => And.intro (vp_in_nI (by omega) (by decide)) (br_c (fun y4 => q1 (hok.mpr ⟨w, w', (hh x hx).mp y1, (hh y w').mp y2, fun v => (hpa x y hx w').mpr v y3, fun v => (hpa y x w' hx).mpr v y4⟩)) (fun y4 => q0 fun v => (hok.mp v).2.2.2.2.2 ((hpa y x w' hx).mp y4)))) (fun y3 => q0 fun v => (hok.mp v).2.2.2.2.1 ((hpa x y hx w').mp y3)))) (fun y2 => q0 fun v => y2 ((hh y w').mpr (hok.mp v).2.2.2.1)))) (fun y1 => q0 fun v => y1 ((hh x hx).mpr (hok.mp v).2.2.1))
      · rintro (w | w | w)
        · exact k1 w.1
        · exact k2 w.1
        · exact k4 w.1
theorem zy_cd {post : Int32 → Prop} {nc c : Nat} (hc : nc ≤ 12) (ha : ∀ p, ¬ ab p = 0 → p < nc) (hcc : c < 1360) (hY : zq_YF E (zq_D dl ab) N P st hed pa dy pl) (h : post (nI (zq_co E (zq_D dl ab) N P c))) : wpY_candidate post (LL, PL, EL, nI nc, lc, ec, tx, it, ef, et, eo, dl, nd, ab, st, hed, pa, dy, pl) (nI c) := by
  have hx : c / 17 % 16 < 16 := by omega
  have hy : c % 17 < 17 := by omega
  have hk : c / 272 ≤ 4 := by omega
  have h0 : ¬ zq_ok (zq_Lv (zq_D dl ab) P) (zq_R E) (zq_Zo E (zq_D dl ab) N P) (zq_dc (zq_D dl ab)) (c / 272) (c / 17 % 16) (c % 17) → post 0 := fun q => by
    unfold zq_co zq_cd at h
    rw [b01_f q, Nat.zero_mul] at h
    exact h
  have h1 : zq_ok (zq_Lv (zq_D dl ab) P) (zq_R E) (zq_Zo E (zq_D dl ab) N P) (zq_dc (zq_D dl ab)) (c / 272) (c / 17 % 16) (c % 17) → post (nI (c / 272 * 10000 + c / 17 % 16 * 100 + c % 17)) := fun q => by
    unfold zq_co zq_cd at h
    rw [b01_t q, Nat.one_mul] at h
    exact h
  refine And.intro (by decide) (nm_r (e' := nI (c / 272)) (pk_div (d := 272) (by omega) (by omega) (by omega)) (And.intro (by decide) (And.intro (by decide) (nm_r (e' := nI (c / 17 % 16)) ?_ (And.intro (by decide) (nm_r (e' := nI (c % 17)) (pk_rem (d := 17) (by omega) (by omega) (by omega)) ?_))))))
  · rw [show (17 : Int32) = nI 17 from rfl, show (16 : Int32) = nI 16 from rfl, pk_div (by omega) (by omega) (by omega)]
    exact pk_rem (by omega) (by omega) (by omega)
  generalize c / 272 = k at *
  generalize c / 17 % 16 = x at *
  generalize c % 17 = y at *
  refine br_f (nI_pos (by omega)) (br_t (nI_le (b := 4) hk (by decide)) ?_)
  have hvx : vp_in (nI x) 16 := vp_in_nI hx (by decide)
  refine loop_0 (fun n i (s : Int32) => wY_candidate_40 post (nI k) (nI x) (nI y) 0 LL PL EL (nI nc) lc ec tx it ef et eo dl nd ab st hed pa dy pl n s (nI i)) (fun i s => s = nI (cn (fun b => hed b = nI x) i)) 16 (0 : Int32) rfl ?_ ?_
  · intro n s hs
    subst hs
    refine br_t (nI_le (a := 16) (Nat.le_refl _) (by decide)) ?_
    refine loop_0 (fun n i (s : Int32) => wY_candidate_70 post (nI k) (nI x) (nI y) (nI (cn (fun b => hed b = nI x) 16)) LL PL EL (nI nc) lc ec tx it ef et eo dl nd ab st hed pa dy pl n s (nI i)) (fun i s => s = nI (cn (fun d => zq_D dl ab d x) i)) nc (0 : Int32) rfl ?_ ?_
    · intro n s hs
      subst hs
      refine zy_cd_e (E := E) (N := N) (P := P) hc hx hy hk hY (cn_eq fun b hb => hY.2.1 b x hb hx) ?_ h0 h1
      unfold zq_dc
      have e : 16 = nc + (16 - nc) := by omega
      rw [e, zb_cnx (16 - nc) fun d hd w => by have := ha d w.2.1; omega]
    · intro n i s hi hs ih
      have ix : nI i * 16 + nI x = nI (i * 16 + x) := zb_ix i x 16
      have hno : ¬ zq_D dl ab i x → wY_candidate_70 post (nI k) (nI x) (nI y) (nI (cn (fun b => hed b = nI x) 16)) LL PL EL (nI nc) lc ec tx it ef et eo dl nd ab st hed pa dy pl n s (nI (i + 1)) := fun q => ih s (by rw [hs, zb_cnf (P := fun d => zq_D dl ab d x) q])
      refine br_f (nI_ge hi (by omega)) (And.intro (vp_in_nI (by omega) (by decide)) ?_)
      rw [ix, nI_clamp (n := i) (by omega), nI_clamp (n := i * 16 + x) (by omega)]
      exact br_c (fun w => nm_r (nI_1 i) (hno fun v => v.2.1 w)) (fun w => And.intro (vp_in_nI (by omega) (by decide)) (br_c (fun w' => nm_r (nI_1 i) (hno fun v => v.2.2 w')) (fun w' => nm_e (nm_r (nI_1 i) (ih _ (by rw [hs, nI_1, zb_cnt (P := fun d => zq_D dl ab d x) ⟨hx, w, w'⟩]))))))
  · intro n i s hi hs ih
    refine br_f (nI_ge (b := 16) hi (by decide)) (And.intro (vp_in_nI hi (by decide)) ?_)
    rw [nI_clamp (n := i) (by omega)]
    exact br_c (fun w => nm_e (nm_r (nI_1 i) (ih _ (by rw [hs, nI_1, zb_cnt (P := fun b => hed b = nI x) w])))) (fun w => nm_r (nI_1 i) (ih _ (by rw [hs, zb_cnf (P := fun b => hed b = nI x) w])))
theorem zy_st8 {post : Int32 → SY → Prop} {nc : Nat} (hc : nc ≤ 12) (ha : ∀ p, ¬ ab p = 0 → p < nc) (hY : zq_YF E (zq_D dl ab) N P st hed pa dy pl) (h : post (zq_kd (zq_co E (zq_D dl ab) N P) 1360) (LL, PL, EL, nI nc, lc, ec, tx, it, ef, et, eo, dl, nd, ab, st, hed, pa, dy, pl)) : ∃ n, wY_status_8 post LL PL EL (nI nc) lc ec tx it ef et eo dl nd ab st hed pa dy pl n 0 0 := by
  refine loop_0 (fun n i (s : Int32) => wY_status_8 post LL PL EL (nI nc) lc ec tx it ef et eo dl nd ab st hed pa dy pl n s (nI i)) (fun i s => s = zq_kd (zq_co E (zq_D dl ab) N P) i) 1360 (0 : Int32) rfl ?_ ?_
  · intro n s hs
    subst hs
    exact br_t (nI_le (a := 1360) (Nat.le_refl _) (by decide)) h
  · intro n i s hi hs ih
    have hlt := zq_co_lt (E := E) (D := zq_D dl ab) (N := N) (P := P) hi
    refine br_f (nI_ge (b := 1360) hi (by decide)) (zy_cd (E := E) (N := N) (P := P) hc ha hi hY (And.intro (by decide) (nm_r (e' := zq_kd (zq_co E (zq_D dl ab) N P) (i + 1)) ?_ (nm_r (nI_1 i) (ih _ rfl)))))
    rw [hs, show (10000 : Int32) = nI 10000 from rfl, pk_div (by omega) (by omega) (by omega)]
    rfl
theorem zq_ls_p (cd : Nat → Nat) (n : Nat) : ∀ d, ∃ s, zq_ls cd (n + d) = zq_ls cd n ++ s
  | 0 => ⟨[], by simp⟩
  | d + 1 => by
    obtain ⟨s, e⟩ := zq_ls_p cd n d
    rcases Classical.em (cd (n + d) = 0) with h | h
    · exact ⟨s, by rw [← Nat.add_assoc, (zq_ls_z h).1, e]⟩
    · exact ⟨s ++ [cd (n + d)], by rw [← Nat.add_assoc, (zq_ls_x rfl h).1, e, List.append_assoc]⟩
theorem zy_ca8 {post : Int32 → SY → Prop} {nc : Nat} {v : Int32} (hc : nc ≤ 12) (ha : ∀ p, ¬ ab p = 0 → p < nc) (hY : zq_YF E (zq_D dl ab) N P st hed pa dy pl) (hle : (zq_ls (zq_co E (zq_D dl ab) N P) 1360).length ≤ 160)
  (h0 : (∀ j, j < (zq_ls (zq_co E (zq_D dl ab) N P) 1360).length → ¬ v = nI j) → post (-1) (LL, PL, EL, nI nc, lc, ec, tx, it, ef, et, eo, dl, nd, ab, st, hed, pa, dy, pl)) (h1 : ∀ j, j < (zq_ls (zq_co E (zq_D dl ab) N P) 1360).length → v = nI j → post (nI ((zq_ls (zq_co E (zq_D dl ab) N P) 1360).getD j 0)) (LL, PL, EL, nI nc, lc, ec, tx, it, ef, et, eo, dl, nd, ab, st, hed, pa, dy, pl)) : ∃ n, wY_conflictAt_8 post v LL PL EL (nI nc) lc ec tx it ef et eo dl nd ab st hed pa dy pl n 0 0 := by
  refine loop_0 (fun n i (s : Int32) => wY_conflictAt_8 post v LL PL EL (nI nc) lc ec tx it ef et eo dl nd ab st hed pa dy pl n s (nI i)) (fun i s => s = nI (zq_ls (zq_co E (zq_D dl ab) N P) i).length ∧ ∀ j, j < (zq_ls (zq_co E (zq_D dl ab) N P) i).length → ¬ v = nI j) 1360 (0 : Int32) ⟨rfl, fun j hj => by cases hj⟩ ?_ ?_
  · intro n s hs
    exact br_t (nI_le (a := 1360) (Nat.le_refl _) (by decide)) (h0 hs.2)
  · intro n i s hi hs ih
    have hlt := zq_co_lt (E := E) (D := zq_D dl ab) (N := N) (P := P) hi
    obtain ⟨t, et⟩ := zq_ls_p (zq_co E (zq_D dl ab) N P) (i + 1) (1360 - (i + 1))
    have e2 : i + 1 + (1360 - (i + 1)) = 1360 := by omega
    rw [e2] at et
    refine br_f (nI_ge (b := 1360) hi (by decide)) (zy_cd (E := E) (N := N) (P := P) hc ha hi hY ?_)
    generalize hcd : zq_co E (zq_D dl ab) N P = cd at *
    have hnz : nI (cd i) = 0 ↔ cd i = 0 := nI_eq (b := 0) (by omega) (by omega)
    refine br_c (fun z => ?_) (fun z => ?_)
    · have z' := hnz.mp z
      refine br_t z (nm_r (nI_1 i) (ih s ?_))
      rw [(zq_ls_z z').1]; exact hs
    · have z' : cd i ≠ 0 := fun w => z (hnz.mpr w)
      have e := (zq_ls_x rfl z').1
      rw [e] at et
      refine br_c (fun w => ?_) (fun w => br_f z (nm_e (nm_r (nI_1 i) (ih (s + 1) ?_))))
      · have hlen : (zq_ls cd i).length < (zq_ls cd 1360).length := by
          rw [et, List.append_assoc, List.length_append]
          show _ < _ + (cd i :: t).length
          rw [List.length_cons]; omega
        have hg : (zq_ls cd 1360).getD (zq_ls cd i).length 0 = cd i := by
          rw [et, List.append_assoc]
          exact zq_gr
        have := h1 (zq_ls cd i).length hlen (w.symm.trans hs.1)
        rw [hg] at this
        exact this
      · rw [e, List.length_append]
        refine ⟨by rw [hs.1, nI_1]; rfl, fun j hj => ?_⟩
        rcases Nat.lt_or_ge j (zq_ls cd i).length with y | y
        · exact hs.2 j y
        · have hj' : j = (zq_ls cd i).length := by
            have : ([cd i] : List Nat).length = 1 := rfl
            omega
          intro y'
          exact w (by rw [hs.1, y', hj'])
end ZY5
end
section
/-! the reference: nextHead, lineAt -/
section ZY6
variable {LL PL EL cl lc ec : Int32} {tx it ef et eo dl nd ab st hed pa dy pl : Nat → Int32}
variable {L : Nat → Prop} {R : Nat → Nat → Prop}
theorem zy_nh35 {post : Int32 → Prop} {J : Int32 → Prop} {h : Nat} {F0 : Prop} {s0 : Int32} (hh : h < 16) (hst : ∀ a, a < 16 → (st a = 1 ↔ L a)) (hpa : ∀ a b, a < 16 → b < 16 → (¬ pa (a * 16 + b) = 0 ↔ R a b)) (h0 : (F0 → ¬ s0 = 0) ∧ (¬ F0 → s0 = 0))
  (hy : (F0 ∧ ∀ b, b < 16 → (L b → R b h → ¬ hed b = nI h → ¬ pl b = 0)) → post (nI h)) (hn : ¬ (F0 ∧ ∀ b, b < 16 → (L b → R b h → ¬ hed b = nI h → ¬ pl b = 0)) → J (nI (h + 1))) : ∃ n, wY_nextHead_35 post J (nI h) LL PL EL cl lc ec tx it ef et eo dl nd ab st hed pa dy pl n s0 0 := by
  refine loop_0 (fun n i (s : Int32) => wY_nextHead_35 post J (nI h) LL PL EL cl lc ec tx it ef et eo dl nd ab st hed pa dy pl n s (nI i)) (fun i s => ((F0 ∧ ∀ b, b < i → (L b → R b h → ¬ hed b = nI h → ¬ pl b = 0)) → ¬ s = 0) ∧ (¬ (F0 ∧ ∀ b, b < i → (L b → R b h → ¬ hed b = nI h → ¬ pl b = 0)) → s = 0)) 16 s0 ⟨fun z => h0.1 z.1, fun z => h0.2 fun y => z ⟨y, fun b hb => absurd hb (by omega)⟩⟩ ?_ ?_
  · intro n s hs
    refine br_t (nI_le (a := 16) (Nat.le_refl _) (by decide)) (br_c (fun z => nm_r (nI_1 h) (hn fun y => hs.1 y z)) (fun z => hy ?_))
    apply Classical.byContradiction
    intro y
    exact z (hs.2 y)
  · intro n i s hi hs ih
    have hv : vp_in (nI i) 16 := vp_in_nI hi (by decide)
    have ix : nI i * 16 + nI h = nI (i * 16 + h) := zb_ix i h 16
    have ok : (L i → R i h → ¬ hed i = nI h → ¬ pl i = 0) → wY_nextHead_35 post J (nI h) LL PL EL cl lc ec tx it ef et eo dl nd ab st hed pa dy pl n s (nI (i + 1)) := fun q => ih s ⟨fun z => hs.1 ⟨z.1, fun b hb => z.2 b (by omega)⟩, fun z => hs.2 fun y => z ⟨y.1, fun b hb => by
      rcases Nat.lt_or_ge b i with w | w
      · exact y.2 b w
      · have : b = i := by omega
        subst this; exact q⟩⟩
    refine br_f (nI_ge (b := 16) hi (by decide)) (And.intro hv ?_)
    rw [ix, nI_clamp (n := i) (by omega), nI_clamp (n := i * 16 + h) (by omega)]
    refine br_c (fun w1 => And.intro (vp_in_nI (by omega) (by decide)) (br_c (fun w2 => nm_r (nI_1 i) (ok fun _ y => absurd w2 ((hpa i h hi hh).mpr y))) (fun w2 => And.intro hv (br_c (fun w3 => nm_r (nI_1 i) (ok fun _ _ y => absurd w3 y)) (fun w3 => And.intro hv (br_c (fun w4 => nm_r (nI_1 i) (ih 0 ⟨fun z => ?_, fun _ => rfl⟩)) (fun w4 => nm_r (nI_1 i) (ok fun _ _ _ => w4)))))))) (fun w1 => nm_r (nI_1 i) (ok fun y => absurd ((hst i hi).mpr y) w1))
    exact absurd w4 (z.2 i (by omega) ((hst i hi).mp w1) ((hpa i h hi hh).mp w2) w3)
theorem zy_nh {post : Int32 → Prop} {l : List Nat} (hst : ∀ a, a < 16 → (st a = 1 ↔ L a)) (hpa : ∀ a b, a < 16 → b < 16 → (¬ pa (a * 16 + b) = 0 ↔ R a b)) (hhd : ∀ a h, a < 16 → h < 16 → (hed a = nI h ↔ zq_I L R h ∧ zq_C L R h a)) (hl : ∀ b, b < 16 → (¬ pl b = 0 ↔ b ∈ l))
  (h0 : (∀ j, j < 16 → ¬ zq_rd L R l j) → post (-1)) (h1 : ∀ i, i < 16 → zq_rd L R l i → (∀ j, j < i → ¬ zq_rd L R l j) → post (nI i)) : wpY_nextHead post (LL, PL, EL, cl, lc, ec, tx, it, ef, et, eo, dl, nd, ab, st, hed, pa, dy, pl) := by
  refine loop_0 (fun n i (_ : Unit) => wY_nextHead_2 post LL PL EL cl lc ec tx it ef et eo dl nd ab st hed pa dy pl n (nI i)) (fun i _ => ∀ j, j < i → ¬ zq_rd L R l j) 16 () (fun j z => absurd z (by omega)) ?_ ?_
  · intro n s hs
    exact br_t (nI_le (a := 16) (Nat.le_refl _) (by decide)) (h0 hs)
  · intro n i s hi hs ih
    have nx : ¬ zq_rd L R l i → wY_nextHead_2 post LL PL EL cl lc ec tx it ef et eo dl nd ab st hed pa dy pl n (nI (i + 1)) := fun q => ih () (fun d hd => by
      rcases Nat.lt_or_ge d i with z | z
      · exact hs d z
      · have : d = i := by omega
        subst this; exact q)
    have hv : vp_in (nI i) 16 := vp_in_nI hi (by decide)
    have key : ((zq_I L R i ∧ ¬ i ∈ l) ∧ ∀ b, b < 16 → (L b → R b i → ¬ hed b = nI i → ¬ pl b = 0)) ↔ zq_rd L R l i := by
      constructor
      · rintro ⟨⟨y1, y2⟩, y3⟩
        exact ⟨y1, y2, fun b hb z1 z2 z3 => (hl b hb).mp (y3 b hb z1 z2 fun z => z3 ((hhd b i hb hi).mp z).2)⟩
      · rintro ⟨y1, y2, y3⟩
        exact ⟨⟨y1, y2⟩, fun b hb z1 z2 z3 => (hl b hb).mpr (y3 b hb z1 z2 fun z => z3 ((hhd b i hb hi).mpr ⟨y1, z⟩))⟩
    have hI : hed i = nI i ↔ zq_I L R i := ⟨fun v => ((hhd i i hi hi).mp v).1, fun v => (hhd i i hi hi).mpr ⟨v, v.1, Or.inl rfl⟩⟩
    refine br_f (nI_ge (b := 16) hi (by decide)) (And.intro hv ?_)
    rw [nI_clamp (n := i) (by omega)]
    refine br_c (fun w => And.intro hv (br_c (fun w' => ?_) (fun w' => ?_))) (fun w => ?_)
    · exact zy_nh35 (L := L) (R := R) (F0 := zq_I L R i ∧ ¬ i ∈ l) hi hst hpa ⟨fun _ => zb_n1, fun z => absurd ⟨hI.mp w, fun y => (hl i hi).mpr y w'⟩ z⟩ (fun z => h1 i hi (key.mp z) hs) (fun z => nx fun y => z (key.mpr y))
    · exact zy_nh35 (L := L) (R := R) (F0 := zq_I L R i ∧ ¬ i ∈ l) hi hst hpa ⟨fun z => absurd ((hl i hi).mp w') z.2, fun _ => rfl⟩ (fun z => h1 i hi (key.mp z) hs) (fun z => nx fun y => z (key.mpr y))
    · exact zy_nh35 (L := L) (R := R) (F0 := zq_I L R i ∧ ¬ i ∈ l) hi hst hpa ⟨fun z => absurd (hI.mpr z.1) w, fun _ => rfl⟩ (fun z => h1 i hi (key.mp z) hs) (fun z => nx fun y => z (key.mpr y))
theorem zy_la23n {post : Int32 → SY → Prop} {J : Int32 → Int32 → (Nat → Int32) → (Nat → Int32) → (Nat → Int32) → (Nat → Int32) → (Nat → Int32) → (Nat → Int32) → (Nat → Int32) → (Nat → Int32) → (Nat → Int32) → (Nat → Int32) → (Nat → Int32) → (Nat → Int32) → (Nat → Int32) → Prop} {t : Nat} {v s : Int32} (h : J s (nI (t + 1)) tx it ef et eo dl nd ab st hed pa dy pl) : ∃ n, wY_lineAt_23 post J v (nI t) (-1) LL PL EL cl lc ec n s 0 tx it ef et eo dl nd ab st hed pa dy pl := by
  refine loop_0 (fun n i (_ : Unit) => wY_lineAt_23 post J v (nI t) (-1) LL PL EL cl lc ec n s (nI i) tx it ef et eo dl nd ab st hed pa dy pl) (fun _ _ => True) 16 () trivial ?_ ?_
  · intro n _ _
    exact br_t (nI_le (a := 16) (Nat.le_refl _) (by decide)) (nm_r (nI_1 t) h)
  · intro n i _ hi _ ih
    exact br_f (nI_ge (b := 16) hi (by decide)) (br_t (by decide) (nm_r (nI_1 i) (ih () trivial)))
theorem zy_la23 {post : Int32 → SY → Prop} {J : Int32 → Int32 → (Nat → Int32) → (Nat → Int32) → (Nat → Int32) → (Nat → Int32) → (Nat → Int32) → (Nat → Int32) → (Nat → Int32) → (Nat → Int32) → (Nat → Int32) → (Nat → Int32) → (Nat → Int32) → (Nat → Int32) → (Nat → Int32) → Prop} {t h : Nat} {v : Int32} {l w : List Nat} (hh : h < 16) (hI : zq_I L R h) (hhd : ∀ a h, a < 16 → h < 16 → (hed a = nI h ↔ zq_I L R h ∧ zq_C L R h a)) (hl : ∀ b, b < 16 → (¬ pl b = 0 ↔ b ∈ l)) (hv : ∀ j, j < l.length → ¬ v = nI j)
  (hw : ∃ s, w = l ++ zq_fl (zq_C L R h) 16 ++ s) (h1 : ∀ j pl, j < w.length → v = nI j → post (nI (w.getD j 0)) (LL, PL, EL, cl, lc, ec, tx, it, ef, et, eo, dl, nd, ab, st, hed, pa, dy, pl))
  (hJ : ∀ pl, (∀ b, b < 16 → (¬ pl b = 0 ↔ b ∈ l ++ zq_fl (zq_C L R h) 16)) → (∀ j, j < (l ++ zq_fl (zq_C L R h) 16).length → ¬ v = nI j) → J (nI (l ++ zq_fl (zq_C L R h) 16).length) (nI (t + 1)) tx it ef et eo dl nd ab st hed pa dy pl) : ∃ n, wY_lineAt_23 post J v (nI t) (nI h) LL PL EL cl lc ec n (nI l.length) 0 tx it ef et eo dl nd ab st hed pa dy pl := by
  refine loop_0 (fun n i (s : Int32 × (Nat → Int32)) => wY_lineAt_23 post J v (nI t) (nI h) LL PL EL cl lc ec n s.1 (nI i) tx it ef et eo dl nd ab st hed pa dy s.2) (fun i s => s.1 = nI (l ++ zq_fl (zq_C L R h) i).length ∧ (∀ b, b < 16 → (¬ s.2 b = 0 ↔ b ∈ l ++ zq_fl (zq_C L R h) i)) ∧ ∀ j, j < (l ++ zq_fl (zq_C L R h) i).length → ¬ v = nI j) 16 (nI l.length, pl) (by
    show nI l.length = nI (l ++ []).length ∧ (∀ b, b < 16 → (¬ pl b = 0 ↔ b ∈ l ++ [])) ∧ ∀ j, j < (l ++ []).length → ¬ v = nI j
    rw [List.append_nil]; exact ⟨rfl, hl, hv⟩) ?_ ?_
  · rintro n ⟨s1, s2⟩ ⟨y1, y2, y3⟩
    dsimp only at y1 y2 y3
    subst y1
    exact br_t (nI_le (a := 16) (Nat.le_refl _) (by decide)) (nm_r (nI_1 t) (hJ s2 y2 y3))
  · rintro n i ⟨s1, s2⟩ hi ⟨y1, y2, y3⟩ ih
    dsimp only at y1 y2 y3
    have hvi : vp_in (nI i) 16 := vp_in_nI hi (by decide)
    have hC : hed i = nI h ↔ zq_C L R h i := ⟨fun z => ((hhd i h hi hh).mp z).2, fun z => (hhd i h hi hh).mpr ⟨hI, z⟩⟩
    refine br_f (nI_ge (b := 16) hi (by decide)) (br_f (nI_pos (by omega)) (And.intro hvi ?_))
    rw [nI_clamp (n := i) (by omega)]
    refine br_c (fun z => br_c (fun z' => ?_) (fun z' => And.intro hvi (nm_e (nm_e (nm_r (nI_1 i) (ih (s1 + 1, upd s2 i (vp_nar .boolean 1)) ?_)))))) (fun z => nm_r (nI_1 i) (ih (s1, s2) ?_))
    · have zc := hC.mp z
      obtain ⟨s, hs⟩ := hw
      obtain ⟨s', hs'⟩ := zq_fl_p (zq_C L R h) (i + 1) (16 - (i + 1))
      have e : i + 1 + (16 - (i + 1)) = 16 := by omega
      rw [e, zq_fl_t zc] at hs'
      have hw2 : w = (l ++ zq_fl (zq_C L R h) i) ++ i :: (s' ++ s) := by
        rw [hs, hs']
        simp only [List.append_assoc, List.cons_append, List.nil_append]
      have hlen : (l ++ zq_fl (zq_C L R h) i).length < w.length := by
        rw [hw2]
        simp only [List.length_append, List.length_cons]
        omega
      have hg : w.getD (l ++ zq_fl (zq_C L R h) i).length 0 = i := by
        rw [hw2]; exact zq_gr
      have := h1 _ s2 hlen (z'.symm.trans y1)
      rw [hg] at this
      exact this
    · have zc := hC.mp z
      dsimp only
      rw [zq_fl_t zc, ← List.append_assoc]
      refine ⟨by rw [y1, nI_1, List.length_append (bs := [i])]; rfl, fun b hb => ?_, fun j hj => ?_⟩
      · rw [List.mem_append, List.mem_singleton, ← y2 b hb]
        rcases Classical.em (b = i) with q | q
        · subst q
          rw [pk_us]
          exact ⟨fun _ => Or.inr rfl, fun _ => zb_n1⟩
        · rw [pk_un q]
          exact ⟨Or.inl, fun y => y.resolve_right q⟩
      · rw [List.length_append (bs := [i]), List.length_singleton] at hj
        rcases Nat.lt_or_ge j (l ++ zq_fl (zq_C L R h) i).length with q | q
        · exact y3 j q
        · intro q'
          have : j = (l ++ zq_fl (zq_C L R h) i).length := by omega
          exact z' (by rw [y1, q', this])
    · dsimp only
      rw [zq_fl_f fun y => z (hC.mpr y)]
      exact ⟨y1, y2, y3⟩
theorem zy_la8 {post : Int32 → SY → Prop} {v : Int32} (hR : ∀ a b c, R a b → R b c → R a c) (hst : ∀ a, a < 16 → (st a = 1 ↔ L a)) (hpa : ∀ a b, a < 16 → b < 16 → (¬ pa (a * 16 + b) = 0 ↔ R a b)) (hhd : ∀ a h, a < 16 → h < 16 → (hed a = nI h ↔ zq_I L R h ∧ zq_C L R h a)) (hpl : ∀ a, a < 16 → pl a = 0)
  (h0 : (∀ j, j < (zq_rw L R 16).length → ¬ v = nI j) → ∀ pl, post (-1) (LL, PL, EL, cl, lc, ec, tx, it, ef, et, eo, dl, nd, ab, st, hed, pa, dy, pl)) (h1 : ∀ j pl, j < (zq_rw L R 16).length → v = nI j → post (nI ((zq_rw L R 16).getD j 0)) (LL, PL, EL, cl, lc, ec, tx, it, ef, et, eo, dl, nd, ab, st, hed, pa, dy, pl)) : ∃ n, wY_lineAt_8 post v LL PL EL cl lc ec n 0 0 tx it ef et eo dl nd ab st hed pa dy pl := by
  refine loop_0 (fun n i (s : Int32 × (Nat → Int32)) => wY_lineAt_8 post v LL PL EL cl lc ec n s.1 (nI i) tx it ef et eo dl nd ab st hed pa dy s.2) (fun i s => s.1 = nI (zq_rw L R i).length ∧ (∀ b, b < 16 → (¬ s.2 b = 0 ↔ b ∈ zq_rw L R i)) ∧ ∀ j, j < (zq_rw L R i).length → ¬ v = nI j) 16 ((0 : Int32), pl) ⟨rfl, fun b hb => ⟨fun z => absurd (hpl b hb) z, fun z => by cases z⟩, fun j hj => by cases hj⟩ ?_ ?_
  · rintro n ⟨s1, s2⟩ ⟨y1, y2, y3⟩
    exact br_t (nI_le (a := 16) (Nat.le_refl _) (by decide)) (h0 y3 s2)
  · rintro n i ⟨s1, s2⟩ hi ⟨y1, y2, y3⟩ ih
    dsimp only at y1 y2 y3
    subst y1
    refine br_f (nI_ge (b := 16) hi (by decide)) (zy_nh (L := L) (R := R) (l := zq_rw L R i) hst hpa hhd y2 (fun q => zy_la23n (ih (_, s2) ?_)) (fun h hh q q' => ?_))
    · have e : zq_rw L R (i + 1) = zq_rw L R i := zq_nx_n q
      rw [e]; exact ⟨rfl, y2, y3⟩
    · have e : zq_rw L R (i + 1) = zq_rw L R i ++ zq_fl (zq_C L R h) 16 := zq_nx_y hh q q'
      refine zy_la23 (L := L) (R := R) (w := zq_rw L R 16) hh q.1 hhd y2 y3 ?_ h1 (fun pl' z1 z2 => ih (_, pl') ?_)
      · obtain ⟨s, hs⟩ := zq_rw_p (L := L) (R := R) (i + 1) (16 - (i + 1))
        have e2 : i + 1 + (16 - (i + 1)) = 16 := by omega
        rw [e2, e] at hs
        exact ⟨s, hs⟩
      · rw [e]; exact ⟨rfl, z1, z2⟩
end ZY6
end
section
/-! recording keeps the core; the relation under every change -/
section ZR1
variable {nL nP nE nc nl ne : Nat} {ap : Int32} {nm dm it ef et eo dl nd ab : Nat → Int32}
theorem zr_P (hab : ab nc = 0) (hc : nc < 2 ^ 31) : zq_P (nl + 1) (upd it nl (nI nc)) ab = zq_P nl it ab := by
  funext a
  refine propext ⟨fun h => ?_, fun h => ?_⟩
  · obtain ⟨h1, h2⟩ := h
    rcases Classical.em (a = nl) with z | z
    · subst z
      rw [pk_us, nI_clamp hc] at h2
      exact absurd hab h2
    · rw [pk_un z] at h2
      exact ⟨by omega, h2⟩
  · obtain ⟨h1, h2⟩ := h
    refine ⟨by omega, ?_⟩
    rw [pk_un (by omega)]; exact h2
theorem zr_E (hab : ab nc = 0) (hc : nc < 2 ^ 31) {a b : Int32} : zq_E (ne + 1) (upd ef ne a) (upd et ne b) (upd eo ne (nI nc)) ab = zq_E ne ef et eo ab := by
  funext e x y
  refine propext ⟨fun h => ?_, fun h => ?_⟩
  · obtain ⟨k, hk, h1, h2, h3, h4⟩ := h
    rcases Classical.em (k = ne) with z | z
    · subst z
      rw [pk_us, nI_clamp hc] at h2
      rw [← h2] at h1
      exact absurd hab h1
    · rw [pk_un z] at h2 h3 h4
      exact ⟨k, by omega, h1, h2, h3, h4⟩
  · obtain ⟨k, hk, h1, h2, h3, h4⟩ := h
    refine ⟨k, by omega, h1, ?_, ?_, ?_⟩
    · rw [pk_un (by omega)]; exact h2
    · rw [pk_un (by omega)]; exact h3
    · rw [pk_un (by omega)]; exact h4
theorem zr_D (hab : ab nc = 0) {a : Nat} (ha : a < 16) : zq_D (upd dl (nc * 16 + a) 1) ab = zq_D dl ab := by
  funext d x
  refine propext ⟨fun h => ?_, fun h => ?_⟩
  · obtain ⟨h1, h2, h3⟩ := h
    refine ⟨h1, h2, ?_⟩
    rcases Classical.em (d * 16 + x = nc * 16 + a) with z | z
    · obtain ⟨z1, z2⟩ := zb_ixj h1 ha z
      subst z1
      exact absurd hab h2
    · rw [pk_un z] at h3; exact h3
  · obtain ⟨h1, h2, h3⟩ := h
    refine ⟨h1, h2, ?_⟩
    rcases Classical.em (d * 16 + x = nc * 16 + a) with z | z
    · rw [z, pk_us]; exact zb_n1
    · rw [pk_un z]; exact h3
theorem zr_N (hab : ab nc = 0) (ha : ∀ p, ¬ ab p = 0 → p < nc) (hc : nc < 12) {q : Nat} {nd' : Nat → Int32} (h : zq_GN nc q nd nd') : zq_N nd' ab = zq_N nd ab := by
  funext d e
  refine propext ⟨fun y => ?_, fun y => ?_⟩
  · obtain ⟨h1, h2, h3⟩ := y
    have l1 := ha d h1
    have l2 := ha e h2
    refine ⟨h1, h2, ?_⟩
    rcases (h d e (by omega) (by omega)).mp h3 with z | z
    · exact z
    · omega
  · obtain ⟨h1, h2, h3⟩ := y
    have l1 := ha d h1
    have l2 := ha e h2
    exact ⟨h1, h2, (h d e (by omega) (by omega)).mpr (Or.inl h3)⟩
theorem zr_line (h : zq_RD nL nP nE nc nl ne ap nm dm it ef et eo dl nd ab) (hl : nl < nL) (hc : nc < 12) : zq_RD nL nP nE nc (nl + 1) ne ap nm dm (upd it nl (nI nc)) ef et eo dl nd ab := by
  obtain ⟨⟨b1, b2, b3, b4, b5, b6⟩, ha, hn, ⟨hn', ht⟩, hd, hi, he⟩ := h
  refine ⟨⟨b1, b2, b3, b4, by omega, b6⟩, ha, hn, ⟨hn', fun a hA => ?_⟩, hd, fun a hA => ?_, he⟩
  · rcases Classical.em (a = nl) with z | z
    · subst z
      rw [pk_us, nI_clamp (by omega)]; omega
    · rw [pk_un z]; exact ht a (by omega)
  · rcases Classical.em (a = nl) with z | z
    · subst z
      rw [pk_us]; exact vp_in_nI hc (by decide)
    · rw [pk_un z]; exact hi a (by omega)
theorem zr_edge (h : zq_RD nL nP nE nc nl ne ap nm dm it ef et eo dl nd ab) (hl : ne < nE) (hc : nc < 12) {a b : Nat} (hA : a < 16) (hB : b < 16) : zq_RD nL nP nE nc nl (ne + 1) ap nm dm it (upd ef ne (nI a)) (upd et ne (nI b)) (upd eo ne (nI nc)) dl nd ab := by
  obtain ⟨⟨b1, b2, b3, b4, b5, b6⟩, ha, hn, hn', hd, hi, he⟩ := h
  refine ⟨⟨b1, b2, b3, b4, b5, by omega⟩, ha, hn, hn', hd, hi, fun k hk => ?_⟩
  rcases Classical.em (k = ne) with z | z
  · subst z
    rw [pk_us, pk_us, pk_us]
    exact ⟨vp_in_nI hc (by decide), vp_in_nI hA (by decide), vp_in_nI hB (by decide)⟩
  · rw [pk_un z, pk_un z, pk_un z]; exact he k (by omega)
theorem zr_del (h : zq_RD nL nP nE nc nl ne ap nm dm it ef et eo dl nd ab) (hc : nc < 12) {a : Nat} (hA : a < 16) : zq_RD nL nP nE nc nl ne ap nm (upd dm nc (dm nc ||| ((1 : Int32) <<< (nI a &&& 31)))) it ef et eo (upd dl (nc * 16 + a) 1) nd ab := by
  obtain ⟨hb, ha, hn, hn', hd, hi, he⟩ := h
  refine ⟨hb, ha, hn, hn', fun p hp => ?_, hi, he⟩
  rcases Classical.em (p = nc) with z | z
  · subst z
    rw [pk_us]
    refine zb_iff (zb_or (hd p hp) (zb_bit (by omega))) fun x _ => ?_
    rcases Classical.em (x = a) with w | w
    · subst w
      rw [pk_us]
      exact ⟨fun _ => ⟨hA, zb_n1⟩, fun _ => Or.inr rfl⟩
    · rw [pk_un (by omega)]
      exact ⟨fun y => y.resolve_right w, Or.inl⟩
  · rw [pk_un z]
    refine zb_iff (hd p hp) fun x _ => ?_
    constructor
    · rintro ⟨y1, y2⟩
      rw [pk_un (by omega)]; exact ⟨y1, y2⟩
    · rintro ⟨y1, y2⟩
      rw [pk_un (by omega)] at y2; exact ⟨y1, y2⟩
theorem zr_gain (h : zq_RD nL nP nE nc nl ne ap nm dm it ef et eo dl nd ab) (hc : nc < 12) {q : Nat} (hq : q < nc) {nd' : Nat → Int32} (hg : zq_GN nc q nd nd') : zq_RD nL nP nE nc nl ne ap (upd nm nc (nm nc ||| (nm q ||| ((1 : Int32) <<< (nI q &&& 31))))) dm it ef et eo dl nd' ab := by
  obtain ⟨hb, ha, hn, ⟨hn', ht⟩, hd, hi, he⟩ := h
  refine ⟨hb, ha, fun p hp => ?_, ⟨fun p r hp hr z => ?_, ht⟩, hd, hi, he⟩
  · rcases Classical.em (p = nc) with z | z
    · subst z
      rw [pk_us]
      refine zb_iff (zb_or (hn p hp) (zb_or (hn q (by omega)) (zb_bit (by omega)))) fun r _ => ?_
      constructor
      · rintro (⟨y1, y2⟩ | ⟨y1, y2⟩ | y)
        · exact ⟨y1, (hg p r hp y1).mpr (Or.inl y2)⟩
        · exact ⟨y1, (hg p r hp y1).mpr (Or.inr ⟨rfl, hn' q r (by omega) y1 y2, hq, Or.inr y2⟩)⟩
        · subst y
          exact ⟨by omega, (hg p r hp (by omega)).mpr (Or.inr ⟨rfl, hq, hq, Or.inl rfl⟩)⟩
      · rintro ⟨y1, y2⟩
        rcases (hg p r hp y1).mp y2 with y | ⟨_, _, _, y | y⟩
        · exact Or.inl ⟨y1, y⟩
        · exact Or.inr (Or.inr y)
        · exact Or.inr (Or.inl ⟨y1, y⟩)
    · rw [pk_un z]
      refine zb_iff (hn p hp) fun r _ => ?_
      constructor
      · rintro ⟨y1, y2⟩; exact ⟨y1, (hg p r hp y1).mpr (Or.inl y2)⟩
      · rintro ⟨y1, y2⟩
        rcases (hg p r hp y1).mp y2 with y | y
        · exact ⟨y1, y⟩
        · exact absurd y.1 z
  · rcases (hg p r hp hr).mp z with y | y
    · exact hn' p r hp hr y
    · exact y.2.1
theorem zr_gain0 (h : zq_RD nL nP nE nc nl ne ap nm dm it ef et eo dl nd ab) {q : Nat} (hq : nc ≤ q) {nd' : Nat → Int32} (hg : zq_GN nc q nd nd') : zq_RD nL nP nE nc nl ne ap nm dm it ef et eo dl nd' ab := by
  obtain ⟨hb, ha, hn, ⟨hn', ht⟩, hd, hi, he⟩ := h
  have e : ∀ p r, p < 12 → r < 12 → (¬ nd' (p * 12 + r) = 0 ↔ ¬ nd (p * 12 + r) = 0) := fun p r hp hr => (hg p r hp hr).trans ⟨fun y => y.resolve_right fun y => by omega, Or.inl⟩
  exact ⟨hb, ha, fun p hp => zb_iff (hn p hp) fun r _ => ⟨fun y => ⟨y.1, (e p r hp y.1).mpr y.2⟩, fun y => ⟨y.1, (e p r hp y.1).mp y.2⟩⟩, ⟨fun p r hp hr z => hn' p r hp hr ((e p r hp hr).mp z), ht⟩, hd, hi, he⟩
theorem zr_close (h : zq_RD nL nP nE nc nl ne ap nm dm it ef et eo dl nd ab) (hc : nc < nP) : zq_RD nL nP nE (nc + 1) nl ne ap nm dm it ef et eo dl nd ab := by
  obtain ⟨⟨b1, b2, b3, b4, b5, b6⟩, ⟨ha, ha'⟩, hn, ⟨hn', ht⟩, hd, hi, he⟩ := h
  exact ⟨⟨b1, b2, b3, hc, b5, b6⟩, ⟨ha, fun p z => Nat.lt_succ_of_lt (ha' p z)⟩, hn, ⟨fun p r hp hr z => Nat.lt_succ_of_lt (hn' p r hp hr z), fun a hA => Nat.le_succ_of_le (ht a hA)⟩, hd, hi, he⟩
theorem zr_ap (h : zq_RD nL nP nE nc nl ne ap nm dm it ef et eo dl nd ab) {ap' : Int32} {ab' : Nat → Int32} (h1 : zb_mk ap' (fun p => ¬ ab' p = 0)) (h2 : ∀ p, ¬ ab' p = 0 → p < nc) : zq_RD nL nP nE nc nl ne ap' nm dm it ef et eo dl nd ab' := by
  obtain ⟨hb, _, hn, hn', hd, hi, he⟩ := h
  exact ⟨hb, ⟨h1, h2⟩, hn, hn', hd, hi, he⟩
end ZR1
section ZR2
variable {LL PL EL cl lc ec ap lv gh zo cc ck rl : Int32} {nm dm it tx ef et eo re nx tc de rc dv be co cf ro : Nat → Int32}
theorem zx_gnd {post : SX → Prop} {nc q : Nat} (hc : nc < 12) (hq : q < 12) (h : post (LL, PL, EL, nI nc, lc, ec, ap, lv, gh, zo, cc, ck, rl, upd nm nc (nm nc ||| (nm q ||| ((1 : Int32) <<< (nI q &&& 31)))), dm, it, tx, ef, et, eo, re, nx, tc, de, rc, dv, be, co, cf, ro)) : wpX_gainNeed post (LL, PL, EL, nI nc, lc, ec, ap, lv, gh, zo, cc, ck, rl, nm, dm, it, tx, ef, et, eo, re, nx, tc, de, rc, dv, be, co, cf, ro) (nI q) := by
  have hv : vp_in (nI nc) 12 := vp_in_nI hc (by decide)
  refine And.intro hv (And.intro (vp_in_nI hq (by decide)) (And.intro hv (nm_r (e' := upd nm nc (nm nc ||| (nm q ||| ((1 : Int32) <<< (nI q &&& 31))))) ?_ h)))
  rw [nI_clamp (n := nc) (by omega), nI_clamp (n := q) (by omega)]
/-- the component's mention against the reference's gain -/
theorem zx_mn {nL nP nE nc nl ne a : Nat} {dl nd ab : Nat → Int32} (hR : zq_RD nL nP nE nc nl ne ap nm dm it ef et eo dl nd ab) (hc : nc < 12) (hA : a < nl) :
  ∃ nm', (∀ post : SX → Prop, post (nI nL, nI nP, nI nE, nI nc, nI nl, nI ne, ap, lv, gh, zo, cc, ck, rl, nm', dm, it, tx, ef, et, eo, re, nx, tc, de, rc, dv, be, co, cf, ro) → wpX_mention post (nI nL, nI nP, nI nE, nI nc, nI nl, nI ne, ap, lv, gh, zo, cc, ck, rl, nm, dm, it, tx, ef, et, eo, re, nx, tc, de, rc, dv, be, co, cf, ro) (nI a)) ∧ ∀ nd', zq_GN nc (it a).toNatClampNeg nd nd' → zq_RD nL nP nE nc nl ne ap nm' dm it ef et eo dl nd' ab := by
  have hb := hR.1
  obtain ⟨e1, l1⟩ := zb_nin (hR.2.2.2.2.2.1 a hA) (by decide)
  have l2 := hR.2.2.2.1.2 a hA
  generalize hq : (it a).toNatClampNeg = q at *
  have c := nI_clamp (n := a) (by omega)
  have hv : vp_in (nI a) 16 := vp_in_nI (by omega) (by decide)
  rcases Classical.em (q = nc) with z | z
  · subst z
    refine ⟨nm, fun post h => And.intro hv (nm_r (e' := nI q) (by rw [c, e1]) (br_t rfl h)), fun nd' hg => zr_gain0 hR (Nat.le_refl _) hg⟩
  · refine ⟨_, fun post h => And.intro hv (nm_r (e' := nI q) (by rw [c, e1]) (br_f (fun y => z ((nI_eq (by omega) (by omega)).mp y)) (zx_gnd hc l1 h))), fun nd' hg => zr_gain hR hc (by omega) hg⟩
end ZR2
end
section
/-! the owed statements: recording -/
theorem i_vc_addLine {k : Nat} {u : SX} {v : SY} (I : i_Rel k u v) (hk : k + 3 ≤ 1539) (v1 : Int32) : wpX_addLine (fun r u' => wpY_addLine (fun r' v' => r' = r ∧ i_Rel (k + 3) u' v') v v1) u v1 := by
  refine zq_el (Q := fun u v => wpX_addLine (fun r u' => wpY_addLine (fun r' v' => r' = r ∧ i_Rel (k + 3) u' v') v v1) u v1) ?_ I
  intro nL nP nE nc nl ne ap lv gh zo cc ck rl nm dm it tx ef et eo re nx tc de rc dv be co cf ro dl nd ab st hed pa dy pl hR hV
  have hab := zq_ap hR
  obtain ⟨b1, b2, b3, b4, b5, b6⟩ := hR.1
  unfold wpX_addLine
  refine zx_hd (by omega) (by omega) (fun d => ?_) (fun d => ?_)
  · have hd : ¬ nI nc = nI nP := fun z => by rw [nI_eq (by omega) (by omega)] at z; omega
    refine br_c (fun n0 => br_f hd (br_t n0 ⟨rfl, zq_mk hR hV⟩)) (fun n0 => br_c (fun n1 => ?_) (fun n1 => br_f hd (br_f n0 (br_f n1 ⟨rfl, zq_mk hR hV⟩))))
    refine pk_lt nl nL (fun w => ?_) (fun w => ?_)
    · have hv : vp_in (nI nl) 16 := vp_in_nI (by omega) (by decide)
      have c := nI_clamp (n := nl) (by omega)
      have hw : ¬ nI nl = nI nL := fun z => by rw [nI_eq (by omega) (by omega)] at z; omega
      refine And.intro hv (nm_r (e' := upd tx nl v1) (by rw [c]) (And.intro hv (nm_r (e' := upd it nl (nI nc)) (by rw [c]) (nm_r (nI_1 nl) ?_))))
      refine br_f hd (br_f n0 (br_t n1 (br_f hw (And.intro hv (nm_r (e' := upd tx nl v1) (by rw [c]) (And.intro hv (nm_r (e' := upd it nl (nI nc)) (by rw [c]) (nm_r (nI_1 nl) ⟨nI_pred nl, zq_mk (zr_line hR w (by omega)) ?_⟩))))))))
      rw [zr_P hab (by omega)]
      exact hV
    · have e : nl = nL := by omega
      subst e
      exact br_f hd (br_f n0 (br_t n1 (br_t rfl ⟨rfl, zq_mk hR hV⟩)))
  · have e : nc = nP := by omega
    subst e
    exact br_t rfl ⟨rfl, zq_mk hR hV⟩
theorem i_vc_close {k : Nat} {u : SX} {v : SY} (I : i_Rel k u v) (hk : k + 3 ≤ 1539) : wpX_close (fun r u' => wpY_close (fun r' v' => r' = r ∧ i_Rel (k + 3) u' v') v) u := by
  refine zq_el (Q := fun u v => wpX_close (fun r u' => wpY_close (fun r' v' => r' = r ∧ i_Rel (k + 3) u' v') v) u) ?_ I
  intro nL nP nE nc nl ne ap lv gh zo cc ck rl nm dm it tx ef et eo re nx tc de rc dv be co cf ro dl nd ab st hed pa dy pl hR hV
  obtain ⟨b1, b2, b3, b4, b5, b6⟩ := hR.1
  unfold wpX_close
  refine zx_hd (by omega) (by omega) (fun d => ?_) (fun d => ?_)
  · have hd : ¬ nI nc = nI nP := fun z => by rw [nI_eq (by omega) (by omega)] at z; omega
    exact nm_r (nI_1 nc) (br_f hd (nm_r (nI_1 nc) ⟨nI_pred nc, zq_mk (zr_close hR d) hV⟩))
  · have e : nc = nP := by omega
    subst e
    exact br_t rfl ⟨rfl, zq_mk hR hV⟩
theorem i_vc_require {k : Nat} {u : SX} {v : SY} (I : i_Rel k u v) (hk : k + 3 ≤ 1539) (v1 : Int32) : wpX_require (fun r u' => wpY_require (fun r' v' => r' = r ∧ i_Rel (k + 3) u' v') v v1) u v1 := by
  refine zq_el (Q := fun u v => wpX_require (fun r u' => wpY_require (fun r' v' => r' = r ∧ i_Rel (k + 3) u' v') v v1) u v1) ?_ I
  intro nL nP nE nc nl ne ap lv gh zo cc ck rl nm dm it tx ef et eo re nx tc de rc dv be co cf ro dl nd ab st hed pa dy pl hR hV
  have hab := zq_ap hR
  obtain ⟨b1, b2, b3, b4, b5, b6⟩ := hR.1
  unfold wpX_require
  refine zx_hd (by omega) (by omega) (fun d => ?_) (fun d => ?_)
  · have hd : ¬ nI nc = nI nP := fun z => by rw [nI_eq (by omega) (by omega)] at z; omega
    have hv : vp_in (nI nc) 12 := vp_in_nI (by omega) (by decide)
    have c := nI_clamp (n := nc) (by omega)
    rcases pk_ix v1 (n := nc) (by omega) with w | w | ⟨q, hq, rfl⟩
    · exact zx_icN (Or.inl w) (br_t rfl (br_f hd (br_t w ⟨rfl, zq_mk hR hV⟩)))
    · refine zx_icN (Or.inr w) (br_t rfl (br_f hd (br_c (fun _ => ⟨rfl, zq_mk hR hV⟩) (fun _ => br_f (Int32.not_lt.mpr w) ⟨rfl, zq_mk hR hV⟩))))
    · have ix : nI nc * 12 + nI q = nI (nc * 12 + q) := zb_ix nc q 12
      have hiv : vp_in (nI (nc * 12 + q)) 144 := vp_in_nI (by omega) (by decide)
      refine zx_icY hq (by omega) (br_f zb_n1 (And.intro hv ?_))
      rw [c]
      refine zx_hasb (hR.2.2.1 nc (by omega)) (by omega) (fun y => ?_) (fun y => ?_)
      · refine br_f hd (br_f (nI_pos (by omega)) (br_t (nI_lt hq (by omega)) ?_))
        rw [ix, nI_clamp (by omega)]
        exact And.intro hiv (br_f y.2 ⟨rfl, zq_mk hR hV⟩)
      · refine zx_gnd (by omega) (by omega) ?_
        refine br_f hd (br_f (nI_pos (by omega)) (br_t (nI_lt hq (by omega)) ?_))
        rw [ix, nI_clamp (by omega)]
        refine And.intro hiv (br_t ?_ (zy_gn (by omega) (by omega) (fun nd' hg => ⟨rfl, zq_mk (zr_gain hR (by omega) hq hg) ?_⟩)))
        · apply Classical.byContradiction
          intro z
          exact y ⟨by omega, z⟩
        · rw [zr_N hab hR.2.1.2 (by omega) hg]
          exact hV
  · have e : nc = nP := by omega
    subst e
    exact br_t rfl ⟨rfl, zq_mk hR hV⟩
theorem i_vc_deleteLine {k : Nat} {u : SX} {v : SY} (I : i_Rel k u v) (hk : k + 3 ≤ 1539) (v1 : Int32) : wpX_deleteLine (fun r u' => wpY_deleteLine (fun r' v' => r' = r ∧ i_Rel (k + 3) u' v') v v1) u v1 := by
  refine zq_el (Q := fun u v => wpX_deleteLine (fun r u' => wpY_deleteLine (fun r' v' => r' = r ∧ i_Rel (k + 3) u' v') v v1) u v1) ?_ I
  intro nL nP nE nc nl ne ap lv gh zo cc ck rl nm dm it tx ef et eo re nx tc de rc dv be co cf ro dl nd ab st hed pa dy pl hR hV
  have hab := zq_ap hR
  obtain ⟨b1, b2, b3, b4, b5, b6⟩ := hR.1
  unfold wpX_deleteLine
  refine zx_hd (by omega) (by omega) (fun d => ?_) (fun d => ?_)
  · have hd : ¬ nI nc = nI nP := fun z => by rw [nI_eq (by omega) (by omega)] at z; omega
    have hv : vp_in (nI nc) 12 := vp_in_nI (by omega) (by decide)
    have c := nI_clamp (n := nc) (by omega)
    rcases pk_ix v1 (n := nl) (by omega) with w | w | ⟨a, hA, rfl⟩
    · exact zx_exN (Or.inl w) (br_t rfl (br_f hd (br_t w ⟨rfl, zq_mk hR hV⟩)))
    · refine zx_exN (Or.inr w) (br_t rfl (br_f hd (br_c (fun _ => ⟨rfl, zq_mk hR hV⟩) (fun _ => br_f (Int32.not_lt.mpr w) ⟨rfl, zq_mk hR hV⟩))))
    · have ix : nI nc * 16 + nI a = nI (nc * 16 + a) := zb_ix nc a 16
      have hiv : vp_in (nI (nc * 16 + a)) 192 := vp_in_nI (by omega) (by decide)
      refine zx_exY hA (by omega) (br_f zb_n1 (And.intro hv ?_))
      rw [c]
      refine zx_hasb (hR.2.2.2.2.1 nc (by omega)) (by omega) (fun y => ?_) (fun y => ?_)
      · refine br_f hd (br_f (nI_pos (by omega)) (br_t (nI_lt hA (by omega)) ?_))
        rw [ix, nI_clamp (by omega)]
        exact And.intro hiv (br_f y.2 ⟨rfl, zq_mk hR hV⟩)
      · have hR1 := zr_del hR (by omega) (a := a) (by omega)
        obtain ⟨nm', hx, hrd⟩ := zx_mn (lv := lv) (gh := gh) (zo := zo) (cc := cc) (ck := ck) (rl := rl) (tx := tx) (re := re) (nx := nx) (tc := tc) (de := de) (rc := rc) (dv := dv) (be := be) (co := co) (cf := cf) (ro := ro) hR1 (by omega) hA
        refine And.intro hv (And.intro hv (nm_e (hx _ ?_)))
        refine br_f hd (br_f (nI_pos (by omega)) (br_t (nI_lt hA (by omega)) ?_))
        rw [ix, nI_clamp (n := nc * 16 + a) (by omega), nI_clamp (n := a) (by omega)]
        obtain ⟨e1, l1⟩ := zb_nin (hR.2.2.2.2.2.1 a hA) (by decide)
        refine And.intro hiv (br_t ?_ (And.intro hiv (nm_e (And.intro (vp_in_nI (by omega) (by decide)) ?_))))
        · apply Classical.byContradiction
          intro z
          exact y ⟨by omega, z⟩
        · rw [e1]
          refine zy_gn (by omega) l1 (fun nd' hg => ⟨rfl, zq_mk (hrd nd' hg) ?_⟩)
          rw [zr_N hab hR.2.1.2 (by omega) hg, zb_v1, zr_D hab (a := a) (by omega)]
          exact hV
  · have e : nc = nP := by omega
    subst e
    exact br_t rfl ⟨rfl, zq_mk hR hV⟩
section ZY7
variable {LL PL EL cl lc ec : Int32} {tx it ef et eo dl nd ab st hed pa dy pl : Nat → Int32}
theorem zy_ae {post : Int32 → SY → Prop} {ne : Nat} (hne : ne ≤ 48) {a b : Int32} (h1 : (∃ k, k < ne ∧ (eo k = cl ∧ ef k = a ∧ et k = b)) → post (-4) (LL, PL, EL, cl, lc, nI ne, tx, it, ef, et, eo, dl, nd, ab, st, hed, pa, dy, pl))
  (h0 : (∀ k, k < ne → ¬ (eo k = cl ∧ ef k = a ∧ et k = b)) → ∀ n, wY_addEdge_48 post a b LL PL EL cl lc (nI ne) tx it ef et eo dl nd ab st hed pa dy pl (n + 1) (nI ne)) : ∃ n, wY_addEdge_48 post a b LL PL EL cl lc (nI ne) tx it ef et eo dl nd ab st hed pa dy pl n 0 := by
  refine loop_0 (fun n i (_ : Unit) => wY_addEdge_48 post a b LL PL EL cl lc (nI ne) tx it ef et eo dl nd ab st hed pa dy pl n (nI i)) (fun i _ => ∀ k, k < i → ¬ (eo k = cl ∧ ef k = a ∧ et k = b)) ne () (fun k h => absurd h (by omega)) ?_ ?_
  · intro n s h
    exact h0 h n
  · intro n i s hi h ih
    have c := nI_clamp (n := i) (by omega)
    have hv : vp_in (nI i) 48 := vp_in_nI (by omega) (by decide)
    have nx : ¬ (eo i = cl ∧ ef i = a ∧ et i = b) → wY_addEdge_48 post a b LL PL EL cl lc (nI ne) tx it ef et eo dl nd ab st hed pa dy pl n (nI (i + 1)) := fun q => ih () (fun k hk => by
      rcases Nat.lt_or_ge k i with z | z
      · exact h k z
      · have : k = i := by omega
        subst this; exact q)
    refine br_f (nI_ge hi (by omega)) (And.intro hv ?_)
    rw [c]
    refine br_c (fun e1 => And.intro hv (br_c (fun e2 => And.intro hv (br_c (fun e3 => h1 ⟨i, hi, e1, e2, e3⟩) (fun e3 => nm_r (nI_1 i) (nx fun q => e3 q.2.2)))) (fun e2 => nm_r (nI_1 i) (nx fun q => e2 q.2.1)))) (fun e1 => nm_r (nI_1 i) (nx fun q => e1 q.1))
end ZY7
end
section
/-! the owed statements: addEdge -/
theorem i_vc_addEdge {k : Nat} {u : SX} {v : SY} (I : i_Rel k u v) (hk : k + 3 ≤ 1539) (v1 : Int32) (v2 : Int32) : wpX_addEdge (fun r u' => wpY_addEdge (fun r' v' => r' = r ∧ i_Rel (k + 3) u' v') v v1 v2) u v1 v2 := by
  refine zq_el (Q := fun u v => wpX_addEdge (fun r u' => wpY_addEdge (fun r' v' => r' = r ∧ i_Rel (k + 3) u' v') v v1 v2) u v1 v2) ?_ I
  intro nL nP nE nc nl ne ap lv gh zo cc ck rl nm dm it tx ef et eo re nx tc de rc dv be co cf ro dl nd ab st hed pa dy pl hR hV
  have hab := zq_ap hR
  obtain ⟨b1, b2, b3, b4, b5, b6⟩ := hR.1
  unfold wpX_addEdge
  refine zx_hd (by omega) (by omega) (fun d => ?_) (fun d => ?_)
  · have hd : ¬ nI nc = nI nP := fun z => by rw [nI_eq (by omega) (by omega)] at z; omega
    rcases pk_ix v1 (n := nl) (by omega) with w | w | ⟨a, hA, rfl⟩
    · exact zx_exN (Or.inl w) (br_t rfl (br_f hd (br_t w ⟨rfl, zq_mk hR hV⟩)))
    · exact zx_exN (Or.inr w) (br_t rfl (br_f hd (br_c (fun _ => ⟨rfl, zq_mk hR hV⟩) (fun _ => br_t w ⟨rfl, zq_mk hR hV⟩))))
    have a0 : ¬ nI a < 0 := nI_pos (by omega)
    have a1 : ¬ nI nl ≤ nI a := nI_ge hA (by omega)
    refine zx_exY hA (by omega) (br_f zb_n1 ?_)
    rcases pk_ix v2 (n := nl) (by omega) with w | w | ⟨b, hB, rfl⟩
    · exact zx_exN (Or.inl w) (br_t rfl (br_f hd (br_f a0 (br_f a1 (br_t w ⟨rfl, zq_mk hR hV⟩)))))
    · exact zx_exN (Or.inr w) (br_t rfl (br_f hd (br_f a0 (br_f a1 (br_c (fun _ => ⟨rfl, zq_mk hR hV⟩) (fun _ => br_t w ⟨rfl, zq_mk hR hV⟩))))))
    have c0 : ¬ nI b < 0 := nI_pos (by omega)
    have c1 : ¬ nI nl ≤ nI b := nI_ge hB (by omega)
    refine zx_exY hB (by omega) (br_f zb_n1 (br_c (fun e => br_f hd (br_f a0 (br_f a1 (br_f c0 (br_f c1 (br_t e ⟨rfl, zq_mk hR hV⟩)))))) (fun e => ?_)))
    refine zx_dh (by omega) (fun q => br_t rfl ?_) (fun q => br_f zb_n1 (br_f hd (br_f a0 (br_f a1 (br_f c0 (br_f c1 (br_f e (zy_ae (by omega) (fun _ => ⟨rfl, zq_mk hR hV⟩) (fun q' => ?_))))))))) 
    · refine pk_lt ne nE (fun w => ?_) (fun w => ?_)
      · have hv : vp_in (nI ne) 48 := vp_in_nI (by omega) (by decide)
        have c := nI_clamp (n := ne) (by omega)
        have hw : ¬ nI ne = nI nE := fun z => by rw [nI_eq (by omega) (by omega)] at z; omega
        have hR1 := zr_edge hR w (by omega) (a := a) (b := b) (by omega) (by omega)
        obtain ⟨nm1, hx1, hrd1⟩ := zx_mn (lv := lv) (gh := gh) (zo := zo) (cc := cc) (ck := ck) (rl := rl) (tx := tx) (re := re) (nx := nx) (tc := tc) (de := de) (rc := rc) (dv := dv) (be := be) (co := co) (cf := cf) (ro := ro) hR1 (by omega) hA
        obtain ⟨e1, l1⟩ := zb_nin (hR.2.2.2.2.2.1 a hA) (by decide)
        obtain ⟨e2, l2⟩ := zb_nin (hR.2.2.2.2.2.1 b hB) (by decide)
        refine And.intro hv (nm_r (e' := upd ef ne (nI a)) (by rw [c]) (And.intro hv (nm_r (e' := upd et ne (nI b)) (by rw [c]) (And.intro hv (nm_r (e' := upd eo ne (nI nc)) (by rw [c]) (nm_r (nI_1 ne) (hx1 _ ?_)))))))
        have hm : ∃ nm2, (∀ post : SX → Prop, post (nI nL, nI nP, nI nE, nI nc, nI nl, nI (ne + 1), ap, lv, gh, zo, cc, ck, rl, nm2, dm, it, tx, upd ef ne (nI a), upd et ne (nI b), upd eo ne (nI nc), re, nx, tc, de, rc, dv, be, co, cf, ro) → wpX_mention post (nI nL, nI nP, nI nE, nI nc, nI nl, nI (ne + 1), ap, lv, gh, zo, cc, ck, rl, nm1, dm, it, tx, upd ef ne (nI a), upd et ne (nI b), upd eo ne (nI nc), re, nx, tc, de, rc, dv, be, co, cf, ro) (nI b)) ∧ ∀ nd1 nd2, zq_GN nc (it a).toNatClampNeg nd nd1 → zq_GN nc (it b).toNatClampNeg nd1 nd2 → zq_RD nL nP nE nc nl (ne + 1) ap nm2 dm it (upd ef ne (nI a)) (upd et ne (nI b)) (upd eo ne (nI nc)) dl nd2 ab := by
          have lb := hR.2.2.2.1.2 b hB
          have cb := nI_clamp (n := b) (by omega)
          have hvb : vp_in (nI b) 16 := vp_in_nI (by omega) (by decide)
          rcases Classical.em ((it b).toNatClampNeg = nc) with z | z
          · exact ⟨nm1, fun post h => And.intro hvb (nm_r (e' := nI nc) (by rw [cb, e2, z]) (br_t rfl h)), fun nd1 nd2 g1 g2 => zr_gain0 (hrd1 nd1 g1) (by omega) g2⟩
          · exact ⟨_, fun post h => And.intro hvb (nm_r (e' := nI (it b).toNatClampNeg) (by rw [cb]; exact e2) (br_f (fun y => z ((nI_eq (by omega) (by omega)).mp y)) (zx_gnd (by omega) l2 h))), fun nd1 nd2 g1 g2 => zr_gain (hrd1 nd1 g1) (by omega) (by omega) g2⟩
        obtain ⟨nm2, hx2, hrd2⟩ := hm
        refine hx2 _ ?_
        refine br_f hd (br_f a0 (br_f a1 (br_f c0 (br_f c1 (br_f e (zy_ae (by omega) (fun q' => ?_) (fun _ n => ?_)))))))
        · obtain ⟨j, hj, q'⟩ := q'
          exact absurd q' (q j hj)
        · refine br_t (nI_le (Nat.le_refl _) (by omega)) (br_f hw (And.intro hv (nm_r (e' := upd ef ne (nI a)) (by rw [c]) (And.intro hv (nm_r (e' := upd et ne (nI b)) (by rw [c]) (And.intro hv (nm_r (e' := upd eo ne (nI nc)) (by rw [c]) (nm_r (nI_1 ne) (And.intro (vp_in_nI (by omega) (by decide)) ?_)))))))))
          rw [nI_clamp (n := a) (by omega), nI_clamp (n := b) (by omega), e1]
          refine zy_gn (by omega) l1 (fun nd1 g1 => And.intro (vp_in_nI (by omega) (by decide)) ?_)
          rw [e2]
          refine zy_gn (by omega) l2 (fun nd2 g2 => ⟨rfl, zq_mk (hrd2 nd1 nd2 g1 g2) ?_⟩)
          rw [zr_N hab hR.2.1.2 (by omega) g2, zr_N hab hR.2.1.2 (by omega) g1, zr_E hab (by omega)]
          exact hV
      · have e' : ne = nE := by omega
        subst e'
        refine br_f hd (br_f a0 (br_f a1 (br_f c0 (br_f c1 (br_f e (zy_ae (by omega) (fun q' => ?_) (fun _ n => br_t (nI_le (Nat.le_refl _) (by omega)) (br_t rfl ⟨rfl, zq_mk hR hV⟩))))))))
        obtain ⟨j, hj, q'⟩ := q'
        exact absurd q' (q j hj)
    · obtain ⟨j, hj, q⟩ := q
      exact absurd q (q' j hj)
  · have e : nc = nP := by omega
    subst e
    exact br_t rfl ⟨rfl, zq_mk hR hV⟩
end
section
/-! the owed statements: apply, unapply, cut -/
section ZY8
variable {LL PL EL cl lc ec : Int32} {tx it ef et eo dl nd ab st hed pa dy pl : Nat → Int32}
theorem zy_ap29 {post : Int32 → SY → Prop} {nc p : Nat} (hc : nc ≤ 12) (hp : p < 12) (h0 : (∀ q, q < nc → ¬ nd (p * 12 + q) = 0 → ¬ ab q = 0) → post 0 (LL, PL, EL, nI nc, lc, ec, tx, it, ef, et, eo, dl, nd, upd ab p 1, st, hed, pa, dy, pl)) (h1 : (∃ q, q < nc ∧ ¬ nd (p * 12 + q) = 0 ∧ ab q = 0) → post (-5) (LL, PL, EL, nI nc, lc, ec, tx, it, ef, et, eo, dl, nd, ab, st, hed, pa, dy, pl)) : ∃ n, wY_apply_29 post (nI p) LL PL EL (nI nc) lc ec tx it ef et eo dl nd ab st hed pa dy pl n 0 := by
  refine loop_0 (fun n i (_ : Unit) => wY_apply_29 post (nI p) LL PL EL (nI nc) lc ec tx it ef et eo dl nd ab st hed pa dy pl n (nI i)) (fun i _ => ∀ q, q < i → ¬ nd (p * 12 + q) = 0 → ¬ ab q = 0) nc () (fun k h => absurd h (by omega)) ?_ ?_
  · intro n s h
    refine br_t (nI_le (Nat.le_refl _) (by omega)) (And.intro (vp_in_nI hp (by decide)) (nm_r (e' := upd ab p 1) (by rw [nI_clamp (by omega), zb_v1]) (h0 h)))
  · intro n i s hi h ih
    have ix : nI p * 12 + nI i = nI (p * 12 + i) := zb_ix p i 12
    have nx : (¬ nd (p * 12 + i) = 0 → ¬ ab i = 0) → wY_apply_29 post (nI p) LL PL EL (nI nc) lc ec tx it ef et eo dl nd ab st hed pa dy pl n (nI (i + 1)) := fun q => ih () (fun k hk => by
      rcases Nat.lt_or_ge k i with z | z
      · exact h k z
      · have : k = i := by omega
        subst this; exact q)
    refine br_f (nI_ge hi (by omega)) (And.intro (by rw [ix]; exact vp_in_nI (by omega) (by decide)) ?_)
    rw [ix, nI_clamp (n := p * 12 + i) (by omega), nI_clamp (n := i) (by omega)]
    exact br_c (fun w => nm_r (nI_1 i) (nx fun y => absurd w y)) (fun w => And.intro (vp_in_nI (by omega) (by decide)) (br_c (fun w' => h1 ⟨i, hi, w, w'⟩) (fun w' => nm_r (nI_1 i) (nx fun _ => w'))))
theorem zy_un29 {post : Int32 → SY → Prop} {nc p : Nat} (hc : nc ≤ 12) (hp : p < 12) (h0 : (∀ q, q < nc → ¬ (¬ ab q = 0 ∧ ¬ nd (q * 12 + p) = 0)) → post 0 (LL, PL, EL, nI nc, lc, ec, tx, it, ef, et, eo, dl, nd, upd ab p 0, st, hed, pa, dy, pl)) (h1 : (∃ q, q < nc ∧ ¬ ab q = 0 ∧ ¬ nd (q * 12 + p) = 0) → post (-5) (LL, PL, EL, nI nc, lc, ec, tx, it, ef, et, eo, dl, nd, ab, st, hed, pa, dy, pl)) : ∃ n, wY_unapply_29 post (nI p) LL PL EL (nI nc) lc ec tx it ef et eo dl nd ab st hed pa dy pl n 0 := by
  refine loop_0 (fun n i (_ : Unit) => wY_unapply_29 post (nI p) LL PL EL (nI nc) lc ec tx it ef et eo dl nd ab st hed pa dy pl n (nI i)) (fun i _ => ∀ q, q < i → ¬ (¬ ab q = 0 ∧ ¬ nd (q * 12 + p) = 0)) nc () (fun k h => absurd h (by omega)) ?_ ?_
  · intro n s h
    refine br_t (nI_le (Nat.le_refl _) (by omega)) (And.intro (vp_in_nI hp (by decide)) (nm_r (e' := upd ab p 0) (by rw [nI_clamp (by omega), zb_v0]) (h0 h)))
  · intro n i s hi h ih
    have ix : nI i * 12 + nI p = nI (i * 12 + p) := zb_ix i p 12
    have nx : ¬ (¬ ab i = 0 ∧ ¬ nd (i * 12 + p) = 0) → wY_unapply_29 post (nI p) LL PL EL (nI nc) lc ec tx it ef et eo dl nd ab st hed pa dy pl n (nI (i + 1)) := fun q => ih () (fun k hk => by
      rcases Nat.lt_or_ge k i with z | z
      · exact h k z
      · have : k = i := by omega
        subst this; exact q)
    refine br_f (nI_ge hi (by omega)) (And.intro (vp_in_nI (by omega) (by decide)) ?_)
    rw [ix, nI_clamp (n := i * 12 + p) (by omega), nI_clamp (n := i) (by omega)]
    exact br_c (fun w => nm_r (nI_1 i) (nx fun y => y.1 w)) (fun w => And.intro (vp_in_nI (by omega) (by decide)) (br_c (fun w' => nm_r (nI_1 i) (nx fun y => y.2 w')) (fun w' => h1 ⟨i, hi, w, w'⟩)))
theorem zy_cut30 {post : Int32 → SY → Prop} {nc p : Nat} (hc : nc ≤ 12) (hp : p < 12) (h : ∀ ab', (∀ q, ¬ ab' q = 0 ↔ ¬ ab q = 0 ∧ ¬ (q < nc ∧ (q = p ∨ ¬ nd (q * 12 + p) = 0))) → post (nI (cn (fun q => ¬ ab q = 0 ∧ (q = p ∨ ¬ nd (q * 12 + p) = 0)) nc)) (LL, PL, EL, nI nc, lc, ec, tx, it, ef, et, eo, dl, nd, ab', st, hed, pa, dy, pl)) : ∃ n, wY_cut_30 post (nI p) LL PL EL (nI nc) lc ec n 0 0 tx it ef et eo dl nd ab st hed pa dy pl := by
  refine loop_0 (fun n i (s : Int32 × (Nat → Int32)) => wY_cut_30 post (nI p) LL PL EL (nI nc) lc ec n s.1 (nI i) tx it ef et eo dl nd s.2 st hed pa dy pl) (fun i s => s.1 = nI (cn (fun q => ¬ ab q = 0 ∧ (q = p ∨ ¬ nd (q * 12 + p) = 0)) i) ∧ (∀ q, i ≤ q → s.2 q = ab q) ∧ ∀ q, ¬ s.2 q = 0 ↔ ¬ ab q = 0 ∧ ¬ (q < i ∧ (q = p ∨ ¬ nd (q * 12 + p) = 0))) nc ((0 : Int32), ab) ⟨rfl, fun _ _ => rfl, fun q => ⟨fun z => ⟨z, fun y => by omega⟩, fun z => z.1⟩⟩ ?_ ?_
  · rintro n ⟨s1, s2⟩ ⟨y1, y2, y3⟩
    dsimp only at y1 y2 y3
    subst y1
    exact br_t (nI_le (Nat.le_refl _) (by omega)) (h s2 y3)
  · rintro n i ⟨s1, s2⟩ hi ⟨y1, y2, y3⟩ ih
    dsimp only at y1 y2 y3
    have ix : nI i * 12 + nI p = nI (i * 12 + p) := zb_ix i p 12
    have e := y2 i (Nat.le_refl _)
    have hno : ¬ (¬ ab i = 0 ∧ (i = p ∨ ¬ nd (i * 12 + p) = 0)) → wY_cut_30 post (nI p) LL PL EL (nI nc) lc ec n s1 (nI (i + 1)) tx it ef et eo dl nd s2 st hed pa dy pl := fun w => ih (s1, s2) ⟨by rw [zb_cnf (P := fun q => ¬ ab q = 0 ∧ (q = p ∨ ¬ nd (q * 12 + p) = 0)) w]; exact y1, fun q hq => y2 q (by omega), fun q => by
      rw [y3 q]
      constructor
      · rintro ⟨z1, z2⟩
        refine ⟨z1, fun z => ?_⟩
        rcases Nat.lt_or_ge q i with u | u
        · exact z2 ⟨u, z.2⟩
        · have : q = i := by omega
          subst this
          exact w ⟨z1, z.2⟩
      · rintro ⟨z1, z2⟩
        exact ⟨z1, fun z => z2 ⟨by omega, z.2⟩⟩⟩
    have hyes : ¬ ab i = 0 → (i = p ∨ ¬ nd (i * 12 + p) = 0) → wY_cut_66 post (wY_cut_30 post (nI p) LL PL EL (nI nc) lc ec n) (nI p) s1 (nI i) LL PL EL (nI nc) lc ec tx it ef et eo dl nd s2 st hed pa dy pl := fun w1 w2 => by
      refine And.intro (vp_in_nI (by omega) (by decide)) (nm_r (e' := upd s2 i 0) (by rw [nI_clamp (by omega), zb_v0]) (nm_e (nm_r (nI_1 i) (ih (s1 + 1, upd s2 i 0) ⟨?_, fun q hq => ?_, fun q => ?_⟩))))
      · dsimp only
        rw [zb_cnt (P := fun q => ¬ ab q = 0 ∧ (q = p ∨ ¬ nd (q * 12 + p) = 0)) ⟨w1, w2⟩, y1, nI_1]
      · dsimp only
        rw [pk_un (by omega)]; exact y2 q (by omega)
      · dsimp only
        rcases Classical.em (q = i) with u | u
        · subst u
          rw [pk_us]
          exact ⟨fun z => absurd rfl z, fun z => absurd ⟨by omega, w2⟩ z.2⟩
        · rw [pk_un u, y3 q]
          exact ⟨fun z => ⟨z.1, fun z' => z.2 ⟨by omega, z'.2⟩⟩, fun z => ⟨z.1, fun z' => z.2 ⟨by omega, z'.2⟩⟩⟩
    refine br_f (nI_ge hi (by omega)) (And.intro (vp_in_nI (by omega) (by decide)) ?_)
    rw [ix, nI_clamp (n := i * 12 + p) (by omega), nI_clamp (n := i) (by omega)]
    refine br_c (fun w => nm_r (nI_1 i) (hno fun y => y.1 (by rw [← e]; exact w))) (fun w => ?_)
    have w0 : ¬ ab i = 0 := fun y => w (by show s2 i = 0; rw [e]; exact y)
    refine pk_eq i p (fun w' => hyes w0 (Or.inl w')) (fun w' => And.intro (vp_in_nI (by omega) (by decide)) (br_c (fun w2 => nm_r (nI_1 i) (hno fun y => y.2.elim w' fun y => y w2)) (fun w2 => hyes w0 (Or.inr w2))))
end ZY8
theorem zr_core {ne nl : Nat} {it ef et eo dl nd ab ab' : Nat → Int32} (h : ∀ r, ¬ ab' r = 0 ↔ ¬ ab r = 0) : zq_E ne ef et eo ab' = zq_E ne ef et eo ab ∧ zq_D dl ab' = zq_D dl ab ∧ zq_N nd ab' = zq_N nd ab ∧ zq_P nl it ab' = zq_P nl it ab := by
  refine ⟨?_, ?_, ?_, ?_⟩
  · funext e a b; unfold zq_E; simp only [h]
  · funext d a; unfold zq_D; rw [h]
  · funext d e; unfold zq_N; rw [h, h]
  · funext a; unfold zq_P; rw [h]
theorem i_vc_apply {k : Nat} {u : SX} {v : SY} (I : i_Rel k u v) (hk : k + 3 ≤ 1539) (v1 : Int32) : wpX_apply (fun r u' => wpY_apply (fun r' v' => r' = r ∧ i_Rel (k + 3) u' v') v v1) u v1 := by
  refine zq_el (Q := fun u v => wpX_apply (fun r u' => wpY_apply (fun r' v' => r' = r ∧ i_Rel (k + 3) u' v') v v1) u v1) ?_ I
  intro nL nP nE nc nl ne ap lv gh zo cc ck rl nm dm it tx ef et eo re nx tc de rc dv be co cf ro dl nd ab st hed pa dy pl hR hV
  obtain ⟨b1, b2, b3, b4, b5, b6⟩ := hR.1
  unfold wpX_apply
  rcases pk_ix v1 (n := nc) (by omega) with w | w | ⟨p, hp, rfl⟩
  · exact zx_icN (Or.inl w) (br_t rfl (br_t w ⟨rfl, zq_mk hR hV⟩))
  · exact zx_icN (Or.inr w) (br_t rfl (br_c (fun _ => ⟨rfl, zq_mk hR hV⟩) (fun _ => br_f (Int32.not_lt.mpr w) ⟨rfl, zq_mk hR hV⟩)))
  have p0 : ¬ nI p < 0 := nI_pos (by omega)
  have p1 : nI p < nI nc := nI_lt hp (by omega)
  have hv : vp_in (nI p) 12 := vp_in_nI (by omega) (by decide)
  have c := nI_clamp (n := p) (by omega)
  have ha := hR.2.1.1
  have hn := hR.2.2.1 p (by omega)
  have hn' := hR.2.2.2.1.1
  refine zx_icY hp (by omega) (br_f zb_n1 (zx_hasb ha (by omega) (fun q => ?_) (fun q => And.intro hv ?_)))
  · refine br_f p0 (br_t p1 (And.intro hv ?_))
    rw [c]
    exact br_f q ⟨rfl, zq_mk hR hV⟩
  rw [c]
  have q' : ab p = 0 := Classical.byContradiction q
  have hm := zb_and hn (zb_not ha)
  refine br_c (fun z => nm_e ?_) (fun z => ?_)
  · have hz := (zb_z hm).mp z
    have hR1 : zq_RD nL nP nE nc nl ne (ap ||| ((1 : Int32) <<< (nI p &&& 31))) nm dm it ef et eo dl nd (upd ab p 1) := by
      refine zr_ap hR (zb_iff (zb_or ha (zb_bit (by omega))) fun r _ => ?_) (fun r hr => ?_)
      · rcases Classical.em (r = p) with y | y
        · subst y
          rw [pk_us]
          exact ⟨fun _ => zb_n1, fun _ => Or.inr rfl⟩
        · rw [pk_un y]
          exact ⟨fun h => h.resolve_right y, Or.inl⟩
      · rcases Classical.em (r = p) with y | y
        · rw [y]; exact hp
        · rw [pk_un y] at hr
          exact hR.2.1.2 r hr
    refine zx_rb hR1 (fun lv gh zo cc ck rl re nx tc de rc dv be co cf ro hV1 => ?_)
    refine br_f p0 (br_t p1 (And.intro hv ?_))
    rw [c]
    refine br_t q' (zy_ap29 (by omega) (by omega) (fun _ => ⟨rfl, zq_mk hR1 hV1⟩) (fun y => ?_))
    obtain ⟨r, h1, h2, h3⟩ := y
    exact absurd ⟨⟨by omega, h2⟩, fun y => y h3⟩ (hz r (by omega))
  · refine br_f p0 (br_t p1 (And.intro hv ?_))
    rw [c]
    refine br_t q' (zy_ap29 (by omega) (by omega) (fun y => ?_) (fun _ => ⟨rfl, zq_mk hR hV⟩))
    exact absurd ((zb_z hm).mpr fun r _ h => h.2 (y r (hn' p r (by omega) h.1.1 h.1.2) h.1.2)) z
theorem i_vc_unapply {k : Nat} {u : SX} {v : SY} (I : i_Rel k u v) (hk : k + 3 ≤ 1539) (v1 : Int32) : wpX_unapply (fun r u' => wpY_unapply (fun r' v' => r' = r ∧ i_Rel (k + 3) u' v') v v1) u v1 := by
  refine zq_el (Q := fun u v => wpX_unapply (fun r u' => wpY_unapply (fun r' v' => r' = r ∧ i_Rel (k + 3) u' v') v v1) u v1) ?_ I
  intro nL nP nE nc nl ne ap lv gh zo cc ck rl nm dm it tx ef et eo re nx tc de rc dv be co cf ro dl nd ab st hed pa dy pl hR hV
  obtain ⟨b1, b2, b3, b4, b5, b6⟩ := hR.1
  unfold wpX_unapply
  rcases pk_ix v1 (n := nc) (by omega) with w | w | ⟨p, hp, rfl⟩
  · exact zx_icN (Or.inl w) (br_t rfl (br_t w ⟨rfl, zq_mk hR hV⟩))
  · exact zx_icN (Or.inr w) (br_t rfl (br_c (fun _ => ⟨rfl, zq_mk hR hV⟩) (fun _ => br_f (Int32.not_lt.mpr w) ⟨rfl, zq_mk hR hV⟩)))
  have p0 : ¬ nI p < 0 := nI_pos (by omega)
  have p1 : nI p < nI nc := nI_lt hp (by omega)
  have hv : vp_in (nI p) 12 := vp_in_nI (by omega) (by decide)
  have c := nI_clamp (n := p) (by omega)
  have ha := hR.2.1.1
  refine zx_icY hp (by omega) (br_f zb_n1 (zx_hasb ha (by omega) (fun q => ?_) (fun q => ?_)))
  · refine zx_an (A := fun p => ¬ ab p = 0) (N := fun p q => q < 12 ∧ ¬ nd (p * 12 + q) = 0) (by omega) (by omega) ha hR.2.2.1 (fun m hm => br_c (fun z => nm_e ?_) (fun z => ?_))
    · have hz := (zb_z hm).mp z
      have hR1 : zq_RD nL nP nE nc nl ne (ap &&& (((1 : Int32) <<< (nI p &&& 31)) ^^^ (-1))) nm dm it ef et eo dl nd (upd ab p 0) := by
        refine zr_ap hR (zb_iff (zb_and ha (zb_not (zb_bit (by omega)))) fun r _ => ?_) (fun r hr => ?_)
        · rcases Classical.em (r = p) with y | y
          · subst y
            rw [pk_us]
            exact ⟨fun h => absurd rfl h.2, fun h => absurd rfl h⟩
          · rw [pk_un y]
            exact ⟨fun h => h.1, fun h => ⟨h, y⟩⟩
        · rcases Classical.em (r = p) with y | y
          · rw [y]; exact hp
          · rw [pk_un y] at hr
            exact hR.2.1.2 r hr
      refine zx_rb hR1 (fun lv gh zo cc ck rl re nx tc de rc dv be co cf ro hV1 => ?_)
      refine br_f p0 (br_t p1 (And.intro hv ?_))
      rw [c]
      refine br_f q (zy_un29 (by omega) (by omega) (fun _ => ⟨rfl, zq_mk hR1 hV1⟩) (fun y => ?_))
      obtain ⟨r, h1, h2, h3⟩ := y
      exact absurd ⟨h1, h2, by omega, h3⟩ (hz r (by omega))
    · refine br_f p0 (br_t p1 (And.intro hv ?_))
      rw [c]
      refine br_f q (zy_un29 (by omega) (by omega) (fun y => ?_) (fun _ => ⟨rfl, zq_mk hR hV⟩))
      exact absurd ((zb_z hm).mpr fun r _ h => y r h.1 ⟨h.2.1, h.2.2.2⟩) z
  · refine br_f p0 (br_t p1 (And.intro hv ?_))
    rw [c]
    exact br_t (Classical.byContradiction q) ⟨rfl, zq_mk hR hV⟩
theorem i_vc_cut {k : Nat} {u : SX} {v : SY} (I : i_Rel k u v) (hk : k + 3 ≤ 1539) (v1 : Int32) : wpX_cut (fun r u' => wpY_cut (fun r' v' => r' = r ∧ i_Rel (k + 3) u' v') v v1) u v1 := by
  refine zq_el (Q := fun u v => wpX_cut (fun r u' => wpY_cut (fun r' v' => r' = r ∧ i_Rel (k + 3) u' v') v v1) u v1) ?_ I
  intro nL nP nE nc nl ne ap lv gh zo cc ck rl nm dm it tx ef et eo re nx tc de rc dv be co cf ro dl nd ab st hed pa dy pl hR hV
  obtain ⟨b1, b2, b3, b4, b5, b6⟩ := hR.1
  unfold wpX_cut
  rcases pk_ix v1 (n := nc) (by omega) with w | w | ⟨p, hp, rfl⟩
  · exact zx_icN (Or.inl w) (br_t rfl (br_t w ⟨rfl, zq_mk hR hV⟩))
  · exact zx_icN (Or.inr w) (br_t rfl (br_c (fun _ => ⟨rfl, zq_mk hR hV⟩) (fun _ => br_f (Int32.not_lt.mpr w) ⟨rfl, zq_mk hR hV⟩)))
  have p0 : ¬ nI p < 0 := nI_pos (by omega)
  have p1 : nI p < nI nc := nI_lt hp (by omega)
  have hv : vp_in (nI p) 12 := vp_in_nI (by omega) (by decide)
  have c := nI_clamp (n := p) (by omega)
  have ha := hR.2.1.1
  refine zx_icY hp (by omega) (br_f zb_n1 (zx_hasb ha (by omega) (fun q => ?_) (fun q => ?_)))
  · refine zx_an (A := fun p => ¬ ab p = 0) (N := fun p q => q < 12 ∧ ¬ nd (p * 12 + q) = 0) (by omega) (by omega) ha hR.2.2.1 (fun m hm => nm_e (nm_e ?_))
    have hg : zb_mk (m ||| ((1 : Int32) <<< (nI p &&& 31))) (fun r => (r < nc ∧ ¬ ab r = 0 ∧ p < 12 ∧ ¬ nd (r * 12 + p) = 0) ∨ r = p) := zb_or hm (zb_bit (k := p) (by omega))
    have hR1 : ∀ ab', (∀ r, ¬ ab' r = 0 ↔ ¬ ab r = 0 ∧ ¬ (r < nc ∧ (r = p ∨ ¬ nd (r * 12 + p) = 0))) → zq_RD nL nP nE nc nl ne (ap &&& ((m ||| ((1 : Int32) <<< (nI p &&& 31))) ^^^ (-1))) nm dm it ef et eo dl nd ab' := by
      intro ab' h'
      refine zr_ap hR (zb_iff (zb_and ha (zb_not hg)) fun r _ => ?_) (fun r hr => hR.2.1.2 r ((h' r).mp hr).1)
      rw [h' r]
      constructor
      · rintro ⟨y1, y2⟩
        refine ⟨y1, fun z => y2 ?_⟩
        rcases z.2 with z' | z'
        · exact Or.inr z'
        · exact Or.inl ⟨z.1, y1, by omega, z'⟩
      · rintro ⟨y1, y2⟩
        refine ⟨y1, fun z => y2 ?_⟩
        rcases z with z | z
        · exact ⟨z.1, Or.inr z.2.2.2⟩
        · exact ⟨by omega, Or.inl z⟩
    have hcn : cn (fun r => (r < nc ∧ ¬ ab r = 0 ∧ p < 12 ∧ ¬ nd (r * 12 + p) = 0) ∨ r = p) 16 = cn (fun r => ¬ ab r = 0 ∧ (r = p ∨ ¬ nd (r * 12 + p) = 0)) nc := by
      have e : 16 = nc + (16 - nc) := by omega
      rw [e, zb_cnx (16 - nc) fun r hr z => by omega]
      refine cn_eq fun r hr => ?_
      constructor
      · rintro (z | z)
        · exact ⟨z.2.1, Or.inr z.2.2.2⟩
        · subst z; exact ⟨q, Or.inl rfl⟩
      · rintro ⟨z1, z2⟩
        exact z2.elim Or.inr fun z => Or.inl ⟨hr, z1, by omega, z⟩
    have h0 : ∀ r, ¬ (if bt (m ||| ((1 : Int32) <<< (nI p &&& 31))) r = true then (0 : Int32) else ab r) = 0 ↔ ¬ ab r = 0 ∧ ¬ (r < nc ∧ (r = p ∨ ¬ nd (r * 12 + p) = 0)) := by
      intro r
      rcases Classical.em (bt (m ||| ((1 : Int32) <<< (nI p &&& 31))) r = true) with y | y
      · rw [if_pos y]
        refine ⟨fun z => absurd rfl z, fun z => ?_⟩
        have hr : r < 32 := by have := hR.2.1.2 r z.1; omega
        rcases (hg r hr).mp y with y' | y'
        · exact absurd ⟨y'.1, Or.inr y'.2.2.2⟩ z.2
        · exact absurd ⟨by omega, Or.inl y'⟩ z.2
      · rw [if_neg y]
        refine ⟨fun z => ⟨z, fun z' => y ((hg r (by omega)).mpr ?_)⟩, fun z => z.1⟩
        rcases z'.2 with y' | y'
        · exact Or.inr y'
        · exact Or.inl ⟨z'.1, z, by omega, y'⟩
    refine zx_rb (hR1 _ h0) (fun lv gh zo cc ck rl re nx tc de rc dv be co cf ro hV1 => ?_)
    refine zx_cb hg ?_
    rw [hcn]
    refine br_f p0 (br_t p1 (And.intro hv ?_))
    rw [c]
    refine br_f q (zy_cut30 (by omega) (by omega) (fun ab' h' => ⟨rfl, zq_mk (hR1 ab' h') ?_⟩))
    obtain ⟨e1, e2, e3, e4⟩ := zr_core (ne := ne) (nl := nl) (it := it) (ef := ef) (et := et) (eo := eo) (dl := dl) (nd := nd) (fun r => (h' r).trans (h0 r).symm)
    rw [e1, e2, e3, e4]
    exact hV1
  · refine br_f p0 (br_t p1 (And.intro hv ?_))
    rw [c]
    exact br_t (Classical.byContradiction q) ⟨rfl, zq_mk hR hV⟩
end
section
/-! the owed statements: questions about patches and lines -/
theorem i_vc_patchState {k : Nat} {u : SX} {v : SY} (I : i_Rel k u v) (hk : k + 3 ≤ 1539) (v1 : Int32) : wpX_patchState (fun r => wpY_patchState (fun r' => r' = r ∧ i_Rel (k + 3) u v) v v1) u v1 := by
  have I' := I
  revert I'
  refine zq_el (Q := fun u v => i_Rel k u v → wpX_patchState (fun r => wpY_patchState (fun r' => r' = r ∧ i_Rel (k + 3) u v) v v1) u v1) ?_ I
  intro nL nP nE nc nl ne ap lv gh zo cc ck rl nm dm it tx ef et eo re nx tc de rc dv be co cf ro dl nd ab st hed pa dy pl hR hV I'
  obtain ⟨b1, b2, b3, b4, b5, b6⟩ := hR.1
  unfold wpX_patchState
  by_cases w : v1 < 0
  · have e : ¬ v1 = nI nc := fun z => nI_pos (n := nc) (by omega) (z ▸ w)
    exact zx_icN (Or.inl w) (br_t rfl (br_f e (br_t w (br_f e ⟨rfl, I'⟩))))
  obtain ⟨p, hp, rfl⟩ := nI_of w
  rcases Nat.lt_or_ge p nc with z | z
  · have hv : vp_in (nI p) 12 := vp_in_nI (by omega) (by decide)
    have c := nI_clamp (n := p) (by omega)
    refine zx_icY z (by omega) (br_f zb_n1 (zx_hasb hR.2.1.1 (by omega) (fun q => br_f w (br_f (nI_ge z (by omega)) (And.intro hv ?_))) (fun q => br_f w (br_f (nI_ge z (by omega)) (And.intro hv ?_)))))
    · rw [c]; exact br_f q ⟨rfl, I'⟩
    · rw [c]; exact br_t (Classical.byContradiction q) ⟨rfl, I'⟩
  · have hl : nI nc ≤ nI p := nI_le z hp
    refine zx_icN (Or.inr hl) (br_t rfl (pk_eq p nc (fun e => ?_) (fun e => ?_)))
    · subst e
      refine zx_hd (by omega) (by omega) (fun d => br_f w (br_t hl (br_t rfl (br_f (nI_ge d (by omega)) ⟨rfl, I'⟩)))) (fun d => br_f w (br_t hl (br_t rfl (br_t (nI_le d (by omega)) ⟨rfl, I'⟩))))
    · exact br_f w (br_t hl (br_f (fun y => e ((nI_eq hp (by omega)).mp y)) ⟨rfl, I'⟩))
theorem i_vc_needs {k : Nat} {u : SX} {v : SY} (I : i_Rel k u v) (hk : k + 3 ≤ 1539) (v1 : Int32) (v2 : Int32) : wpX_needs (fun r => wpY_needs (fun r' => r' = r ∧ i_Rel (k + 3) u v) v v1 v2) u v1 v2 := by
  have I' := I
  revert I'
  refine zq_el (Q := fun u v => i_Rel k u v → wpX_needs (fun r => wpY_needs (fun r' => r' = r ∧ i_Rel (k + 3) u v) v v1 v2) u v1 v2) ?_ I
  intro nL nP nE nc nl ne ap lv gh zo cc ck rl nm dm it tx ef et eo re nx tc de rc dv be co cf ro dl nd ab st hed pa dy pl hR hV I'
  obtain ⟨b1, b2, b3, b4, b5, b6⟩ := hR.1
  have I3 : i_Rel (k + 3) (nI nL, nI nP, nI nE, nI nc, nI nl, nI ne, ap, lv, gh, zo, cc, ck, rl, nm, dm, it, tx, ef, et, eo, re, nx, tc, de, rc, dv, be, co, cf, ro) (nI nL, nI nP, nI nE, nI nc, nI nl, nI ne, tx, it, ef, et, eo, dl, nd, ab, st, hed, pa, dy, pl) := I'
  have known : ∀ p, p ≤ nc → p < nP → wX_needs_28 (fun r => wpY_needs (fun r' => r' = r ∧ i_Rel (k + 3) (nI nL, nI nP, nI nE, nI nc, nI nl, nI ne, ap, lv, gh, zo, cc, ck, rl, nm, dm, it, tx, ef, et, eo, re, nx, tc, de, rc, dv, be, co, cf, ro) (nI nL, nI nP, nI nE, nI nc, nI nl, nI ne, tx, it, ef, et, eo, dl, nd, ab, st, hed, pa, dy, pl)) (nI nL, nI nP, nI nE, nI nc, nI nl, nI ne, tx, it, ef, et, eo, dl, nd, ab, st, hed, pa, dy, pl) (nI p) v2) (nI p) v2 1 (nI nL) (nI nP) (nI nE) (nI nc) (nI nl) (nI ne) ap lv gh zo cc ck rl nm dm it tx ef et eo re nx tc de rc dv be co cf ro := by
    intro p hp hp'
    have y0 : ¬ nI p < 0 := nI_pos (by omega)
    have y1 : ¬ nI nc < nI p := nI_nlt hp (by omega)
    have y2 : ¬ nI nP ≤ nI p := nI_ge hp' (by omega)
    refine br_f zb_n1 ?_
    rcases pk_ix v2 (n := nc) (by omega) with w | w | ⟨q, hq, rfl⟩
    · exact zx_icN (Or.inl w) (br_t rfl (br_f y0 (br_f y1 (br_f y2 (br_t w ⟨rfl, I3⟩)))))
    · exact zx_icN (Or.inr w) (br_t rfl (br_f y0 (br_f y1 (br_f y2 (br_c (fun _ => ⟨rfl, I3⟩) (fun _ => br_t w ⟨rfl, I3⟩))))))
    · have ix : nI p * 12 + nI q = nI (p * 12 + q) := zb_ix p q 12
      have hiv : vp_in (nI (p * 12 + q)) 144 := vp_in_nI (by omega) (by decide)
      refine zx_icY hq (by omega) (br_f zb_n1 (And.intro (vp_in_nI (by omega) (by decide)) ?_))
      rw [nI_clamp (n := p) (by omega)]
      refine zx_has (hR.2.2.1 p (by omega)) (by omega) (fun y => And.intro rfl (br_f y0 (br_f y1 (br_f y2 (br_f (nI_pos (by omega)) (br_f (nI_ge hq (by omega)) ?_)))))) (fun y => And.intro rfl (br_f y0 (br_f y1 (br_f y2 (br_f (nI_pos (by omega)) (br_f (nI_ge hq (by omega)) ?_))))))
      · rw [ix, nI_clamp (by omega)]
        exact And.intro hiv (br_f y.2 ⟨rfl, I3⟩)
      · rw [ix, nI_clamp (by omega)]
        exact And.intro hiv (br_t (Classical.byContradiction fun z => y ⟨by omega, z⟩) ⟨rfl, I3⟩)
  unfold wpX_needs
  by_cases w : v1 < 0
  · have e : ¬ v1 = nI nc := fun z => nI_pos (n := nc) (by omega) (z ▸ w)
    exact zx_icN (Or.inl w) (br_t rfl (br_f e (br_t rfl (br_t w ⟨rfl, I3⟩))))
  obtain ⟨p, hp, rfl⟩ := nI_of w
  rcases Nat.lt_or_ge p nc with z | z
  · exact zx_icY z (by omega) (br_f zb_n1 (known p (by omega) (by omega)))
  · have hl : nI nc ≤ nI p := nI_le z hp
    refine zx_icN (Or.inr hl) (br_t rfl (pk_eq p nc (fun e => ?_) (fun e => ?_)))
    · subst e
      refine zx_hd (by omega) (by omega) (fun d => known p (by omega) d) (fun d => br_t rfl (br_f w (br_f (nI_nlt (Nat.le_refl _) (by omega)) (br_t (nI_le d (by omega)) ⟨rfl, I3⟩))))
    · exact br_t rfl (br_f w (br_t (nI_lt (by omega) hp) ⟨rfl, I3⟩))
theorem i_vc_lineState {k : Nat} {u : SX} {v : SY} (I : i_Rel k u v) (hk : k + 3 ≤ 1539) (v1 : Int32) : wpX_lineState (fun r => wpY_lineState (fun r' => r' = r ∧ i_Rel (k + 3) u v) v v1) u v1 := by
  have I' := I
  revert I'
  refine zq_el (Q := fun u v => i_Rel k u v → wpX_lineState (fun r => wpY_lineState (fun r' => r' = r ∧ i_Rel (k + 3) u v) v v1) u v1) ?_ I
  intro nL nP nE nc nl ne ap lv gh zo cc ck rl nm dm it tx ef et eo re nx tc de rc dv be co cf ro dl nd ab st hed pa dy pl hR hV I'
  obtain ⟨b1, b2, b3, b4, b5, b6⟩ := hR.1
  obtain ⟨hlv, hgh, hzo, _⟩ := hV
  unfold wpX_lineState
  rcases pk_ix v1 (n := nl) (by omega) with w | w | ⟨a, hA, rfl⟩
  · exact zx_exN (Or.inl w) (br_t rfl (zy_lsN (Or.inl w) ⟨rfl, I'⟩))
  · exact zx_exN (Or.inr w) (br_t rfl (zy_lsN (Or.inr w) ⟨rfl, I'⟩))
  have hi := hR.2.2.2.2.2.1 a hA
  have he := hR.2.2.2.2.2.2
  have ha := hR.2.1.2
  refine zx_exY hA (by omega) (br_f zb_n1 (zx_hasb hlv (by omega) (fun y => ?_) (fun y => zx_hasb hzo (by omega) (fun y' => ?_) (fun y' => zx_hasb hgh (by omega) (fun y2 => ?_) (fun y2 => ?_)))))
  · exact zy_ls (nc := nc) (nl := nl) (ne := ne) (by omega) (by omega) (by omega) hA hi ha he (fun z => absurd y.1 z) (fun _ => ⟨rfl, I'⟩) (fun z => absurd z.2.1 y.2) (fun ⟨_, d, z, _⟩ => absurd ⟨d, z⟩ y.2)
  · exact zy_ls (nc := nc) (nl := nl) (ne := ne) (by omega) (by omega) (by omega) hA hi ha he (fun z => absurd y'.1 z) (fun z => absurd z y) (fun z => absurd y'.2 z.2.2) (fun _ => ⟨rfl, I'⟩)
  · exact zy_ls (nc := nc) (nl := nl) (ne := ne) (by omega) (by omega) (by omega) hA hi ha he (fun z => absurd y2.1 z) (fun z => absurd z y) (fun _ => ⟨rfl, I'⟩) (fun z => absurd z y')
  · exact zy_ls (nc := nc) (nl := nl) (ne := ne) (by omega) (by omega) (by omega) hA hi ha he (fun _ => ⟨rfl, I'⟩) (fun z => absurd z y) (fun z => absurd z y2) (fun z => absurd z y')
end
section
/-! the owed statements: questions about the file -/
section ZV1
variable {LL PL EL cl lc ec ap lv gh zo cc ck rl : Int32} {nm dm it tx ef et eo re nx tc de rc dv be co cf ro : Nat → Int32}
theorem zx_il {A B : Prop} {nl : Nat} {L : Nat → Prop} {w : Int32} (hn : nl ≤ 16) (hl : zb_mk lv L) (hB : ∀ a, a < nl → w = nI a → L a → B) (hA : (∀ a, a < nl → w = nI a → ¬ L a) → A) : wpX_isLive (fun r => (r = 0 → A) ∧ (¬ r = 0 → B)) (LL, PL, EL, cl, nI nl, ec, ap, lv, gh, zo, cc, ck, rl, nm, dm, it, tx, ef, et, eo, re, nx, tc, de, rc, dv, be, co, cf, ro) w := by
  unfold wpX_isLive
  rcases pk_ix w (n := nl) (by omega) with z | z | ⟨a, ha, rfl⟩
  · exact zx_exN (Or.inl z) (br_t rfl (br_t rfl (hA fun a ha e => absurd z (by rw [e]; exact nI_pos (by omega)))))
  · exact zx_exN (Or.inr z) (br_t rfl (br_t rfl (hA fun a ha e => absurd z (by rw [e]; exact nI_ge ha (by omega)))))
  · refine zx_exY ha (by omega) (br_f zb_n1 (zx_hasb hl (by omega) (fun q => br_f zb_n1 (hB a ha rfl q)) (fun q => br_t rfl (hA fun b hb e => ?_))))
    rw [nI_eq (by omega) (by omega)] at e
    rw [← e]; exact q
end ZV1
section ZV2
variable {LL PL EL cl lc ec : Int32} {tx it ef et eo dl nd ab st hed pa dy pl : Nat → Int32}
variable {nL nP nE nc nl ne : Nat} {ap : Int32} {nm dm : Nat → Int32}
theorem zy_il {A B : Prop} {w : Int32} (hR : zq_RD nL nP nE nc nl ne ap nm dm it ef et eo dl nd ab) (hA : ∀ a, a < nl → w = nI a → zq_Lv (zq_D dl ab) (zq_P nl it ab) a → A) (hB : (∀ a, a < nl → w = nI a → ¬ zq_Lv (zq_D dl ab) (zq_P nl it ab) a) → B) : wpY_lineState (fun r => (r = 1 → A) ∧ (¬ r = 1 → B)) (LL, PL, EL, nI nc, nI nl, nI ne, tx, it, ef, et, eo, dl, nd, ab, st, hed, pa, dy, pl) w := by
  obtain ⟨b1, b2, b3, b4, b5, b6⟩ := hR.1
  rcases pk_ix w (n := nl) (by omega) with z | z | ⟨a, ha, rfl⟩
  · exact zy_lsN (Or.inl z) (br_f (by decide) (hB fun a ha e => absurd z (by rw [e]; exact nI_pos (by omega))))
  · exact zy_lsN (Or.inr z) (br_f (by decide) (hB fun a ha e => absurd z (by rw [e]; exact nI_ge ha (by omega))))
  · have no : ¬ zq_Lv (zq_D dl ab) (zq_P nl it ab) a → B := fun q => hB fun b hb e => by
      rw [nI_eq (by omega) (by omega)] at e
      rw [← e]; exact q
    refine zy_ls (nc := nc) (nl := nl) (ne := ne) (by omega) (by omega) (by omega) ha (hR.2.2.2.2.2.1 a ha) hR.2.1.2 hR.2.2.2.2.2.2 (fun y => br_f (by decide) (no fun q => y q.1)) (fun y => br_t rfl (hA a ha rfl y)) (fun y => br_f (by decide) (no fun q => q.2 y.2.1)) (fun y => br_f (by decide) (no fun q => ?_))
    obtain ⟨_, d, z, _⟩ := y
    exact q.2 ⟨d, z⟩
theorem zy_sts {post : Int32 → SY → Prop} (hR : zq_RD nL nP nE nc nl ne ap nm dm it ef et eo dl nd ab) (h : ∀ st hed pa dy pl, post (zq_kd (zq_co (zq_E ne ef et eo ab) (zq_D dl ab) (zq_N nd ab) (zq_P nl it ab)) 1360) (LL, PL, EL, nI nc, nI nl, nI ne, tx, it, ef, et, eo, dl, nd, ab, st, hed, pa, dy, pl)) : wpY_status post (LL, PL, EL, nI nc, nI nl, nI ne, tx, it, ef, et, eo, dl, nd, ab, st, hed, pa, dy, pl) := by
  obtain ⟨b1, b2, b3, b4, b5, b6⟩ := hR.1
  unfold wpY_status
  refine zy_rf hR (fun st1 hed1 pa1 dy1 pl1 hY => ?_)
  exact zy_st8 (by omega) hR.2.1.2 hY (h st1 hed1 pa1 dy1 pl1)
theorem zy_lna {post : Int32 → SY → Prop} {w : Int32} (hR : zq_RD nL nP nE nc nl ne ap nm dm it ef et eo dl nd ab)
  (h0 : (∀ j, j < (zq_rw (zq_Lv (zq_D dl ab) (zq_P nl it ab)) (zq_R (zq_E ne ef et eo ab)) 16).length → ¬ w = nI j) → ∀ st hed pa dy pl, post (-1) (LL, PL, EL, nI nc, nI nl, nI ne, tx, it, ef, et, eo, dl, nd, ab, st, hed, pa, dy, pl))
  (h1 : ∀ j, j < (zq_rw (zq_Lv (zq_D dl ab) (zq_P nl it ab)) (zq_R (zq_E ne ef et eo ab)) 16).length → w = nI j → ∀ st hed pa dy pl, post (nI ((zq_rw (zq_Lv (zq_D dl ab) (zq_P nl it ab)) (zq_R (zq_E ne ef et eo ab)) 16).getD j 0)) (LL, PL, EL, nI nc, nI nl, nI ne, tx, it, ef, et, eo, dl, nd, ab, st, hed, pa, dy, pl)) : wpY_lineAt post (LL, PL, EL, nI nc, nI nl, nI ne, tx, it, ef, et, eo, dl, nd, ab, st, hed, pa, dy, pl) w := by
  unfold wpY_lineAt
  refine zy_rf hR (fun st1 hed1 pa1 dy1 pl1 hY => ?_)
  obtain ⟨y1, y2, y3, y4, y5⟩ := hY
  exact zy_la8 (L := zq_Lv (zq_D dl ab) (zq_P nl it ab)) (R := zq_R (zq_E ne ef et eo ab)) zq_R_tr (fun a ha => (y1 a ha).1) y3 y2 y5 (fun z pl => h0 z st1 hed1 pa1 dy1 pl) (fun j pl hj e => h1 j hj e st1 hed1 pa1 dy1 pl)
end ZV2
/-- an index into a list of n, or none -/
theorem zv_ix (w : Int32) {n : Nat} (hn : n < 2 ^ 31) : (∃ j, j < n ∧ w = nI j) ∨ ((w < 0 ∨ (¬ w < 0 ∧ ¬ w < nI n)) ∧ ∀ j, j < n → ¬ w = nI j) := by
  rcases pk_ix w hn with z | z | ⟨j, hj, e⟩
  · exact Or.inr ⟨Or.inl z, fun j hj e => absurd z (by rw [e]; exact nI_pos (by omega))⟩
  · refine Or.inr ⟨?_, fun j hj e => absurd z (by rw [e]; exact nI_ge hj hn)⟩
    by_cases q : w < 0
    · exact Or.inl q
    · exact Or.inr ⟨q, Int32.not_lt.mpr z⟩
  · exact Or.inl ⟨j, hj, e⟩
theorem i_vc_order {k : Nat} {u : SX} {v : SY} (I : i_Rel k u v) (hk : k + 3 ≤ 1539) (v1 : Int32) (v2 : Int32) : wpX_order (fun r => wpY_order (fun r' v' => r' = r ∧ i_Rel (k + 3) u v') v v1 v2) u v1 v2 := by
  refine zq_el (Q := fun u v => wpX_order (fun r => wpY_order (fun r' v' => r' = r ∧ i_Rel (k + 3) u v') v v1 v2) u v1 v2) ?_ I
  intro nL nP nE nc nl ne ap lv gh zo cc ck rl nm dm it tx ef et eo re nx tc de rc dv be co cf ro dl nd ab st hed pa dy pl hR hV
  obtain ⟨b1, b2, b3, b4, b5, b6⟩ := hR.1
  have hlv := hV.1
  have hrc := hV.2.2.2.1
  have hdv := hV.2.2.2.2.1
  unfold wpX_order
  refine zx_il (by omega) hlv (fun a ha e la => ?_) (fun na => ?_)
  · subst e
    refine zx_il (by omega) hlv (fun b hb e lb => ?_) (fun nb => ?_)
    · subst e
      have e1 : ∀ {c : Nat}, c < nl → nI a = nI c → a = c := fun hc e => (nI_eq (by omega) (by omega)).mp e
      have e2 : ∀ {c : Nat}, c < nl → nI b = nI c → b = c := fun hc e => (nI_eq (by omega) (by omega)).mp e
      have hv : vp_in (nI a) 16 := vp_in_nI (by omega) (by decide)
      have c := nI_clamp (n := a) (by omega)
      have ix : nI a * 16 + nI b = nI (a * 16 + b) := zb_ix a b 16
      have hiv : vp_in (nI (a * 16 + b)) 256 := vp_in_nI (by omega) (by decide)
      refine br_c (fun eq => ?_) (fun ne' => And.intro hv ?_)
      · unfold wpY_order
        refine zy_rf hR (fun st1 hed1 pa1 dy1 pl1 hY => ?_)
        exact zy_il hR (fun _ _ _ _ => zy_il hR (fun _ _ _ _ => br_t eq ⟨rfl, zq_mk hR hV⟩) (fun z => absurd lb (z b hb rfl))) (fun z => absurd la (z a ha rfl))
      · rw [c]
        refine zx_hasb (hdv a (by omega)) (by omega) (fun q => ?_) (fun q => And.intro hv (zx_hasb (hrc a (by omega)) (by omega) (fun q' => ?_) (fun q' => ?_)))
        · unfold wpY_order
          refine zy_rf hR (fun st1 hed1 pa1 dy1 pl1 hY => ?_)
          refine zy_il hR (fun _ _ _ _ => zy_il hR (fun _ _ _ _ => br_f ne' ?_) (fun z => absurd lb (z b hb rfl))) (fun z => absurd la (z a ha rfl))
          rw [ix, nI_clamp (by omega)]
          exact And.intro hiv (br_f ((hY.2.2.2.1 a b (by omega) (by omega)).mpr q) ⟨rfl, zq_mk hR hV⟩)
        · unfold wpY_order
          refine zy_rf hR (fun st1 hed1 pa1 dy1 pl1 hY => ?_)
          refine zy_il hR (fun _ _ _ _ => zy_il hR (fun _ _ _ _ => br_f ne' ?_) (fun z => absurd lb (z b hb rfl))) (fun z => absurd la (z a ha rfl))
          rw [ix, nI_clamp (by omega)]
          exact And.intro hiv (br_t (Classical.byContradiction fun z => q ((hY.2.2.2.1 a b (by omega) (by omega)).mp z)) (And.intro hiv (br_f ((hY.2.2.1 a b (by omega) (by omega)).mpr q') ⟨rfl, zq_mk hR hV⟩)))
        · unfold wpY_order
          refine zy_rf hR (fun st1 hed1 pa1 dy1 pl1 hY => ?_)
          refine zy_il hR (fun _ _ _ _ => zy_il hR (fun _ _ _ _ => br_f ne' ?_) (fun z => absurd lb (z b hb rfl))) (fun z => absurd la (z a ha rfl))
          rw [ix, nI_clamp (by omega)]
          exact And.intro hiv (br_t (Classical.byContradiction fun z => q ((hY.2.2.2.1 a b (by omega) (by omega)).mp z)) (And.intro hiv (br_t (Classical.byContradiction fun z => q' ((hY.2.2.1 a b (by omega) (by omega)).mp z)) ⟨rfl, zq_mk hR hV⟩)))
    · unfold wpY_order
      refine zy_rf hR (fun st1 hed1 pa1 dy1 pl1 hY => ?_)
      exact zy_il hR (fun _ _ _ _ => zy_il hR (fun b hb e lb => absurd lb (nb b hb e)) (fun _ => ⟨rfl, zq_mk hR hV⟩)) (fun z => absurd la (z a ha rfl))
  · unfold wpY_order
    refine zy_rf hR (fun st1 hed1 pa1 dy1 pl1 hY => ?_)
    exact zy_il hR (fun a ha e la => absurd la (na a ha e)) (fun _ => ⟨rfl, zq_mk hR hV⟩)
theorem i_vc_status {k : Nat} {u : SX} {v : SY} (I : i_Rel k u v) (hk : k + 3 ≤ 1539) : wpX_status (fun r => wpY_status (fun r' v' => r' = r ∧ i_Rel (k + 3) u v') v) u := by
  refine zq_el (Q := fun u v => wpX_status (fun r => wpY_status (fun r' v' => r' = r ∧ i_Rel (k + 3) u v') v) u) ?_ I
  intro nL nP nE nc nl ne ap lv gh zo cc ck rl nm dm it tx ef et eo re nx tc de rc dv be co cf ro dl nd ab st hed pa dy pl hR hV
  have hck := hV.2.2.2.2.2.1.1.2
  unfold wpX_status
  exact zy_sts hR (fun st1 hed1 pa1 dy1 pl1 => ⟨hck.symm, zq_mk hR hV⟩)
theorem i_vc_conflictAt {k : Nat} {u : SX} {v : SY} (I : i_Rel k u v) (hk : k + 3 ≤ 1539) (v1 : Int32) : wpX_conflictAt (fun r => wpY_conflictAt (fun r' v' => r' = r ∧ i_Rel (k + 3) u v') v v1) u v1 := by
  refine zq_el (Q := fun u v => wpX_conflictAt (fun r => wpY_conflictAt (fun r' v' => r' = r ∧ i_Rel (k + 3) u v') v v1) u v1) ?_ I
  intro nL nP nE nc nl ne ap lv gh zo cc ck rl nm dm it tx ef et eo re nx tc de rc dv be co cf ro dl nd ab st hed pa dy pl hR hV
  obtain ⟨b1, b2, b3, b4, b5, b6⟩ := hR.1
  obtain ⟨⟨⟨hcc, hcf⟩, _⟩, hle⟩ := hV.2.2.2.2.2.1
  have hY0 : ∀ r : Int32, ((∀ j, j < (zq_ls (zq_co (zq_E ne ef et eo ab) (zq_D dl ab) (zq_N nd ab) (zq_P nl it ab)) 1360).length → ¬ v1 = nI j) → (-1 : Int32) = r) → (∀ j, j < (zq_ls (zq_co (zq_E ne ef et eo ab) (zq_D dl ab) (zq_N nd ab) (zq_P nl it ab)) 1360).length → v1 = nI j → nI ((zq_ls (zq_co (zq_E ne ef et eo ab) (zq_D dl ab) (zq_N nd ab) (zq_P nl it ab)) 1360).getD j 0) = r) → wpY_conflictAt (fun r' v' => r' = r ∧ i_Rel (k + 3) (nI nL, nI nP, nI nE, nI nc, nI nl, nI ne, ap, lv, gh, zo, cc, ck, rl, nm, dm, it, tx, ef, et, eo, re, nx, tc, de, rc, dv, be, co, cf, ro) v') (nI nL, nI nP, nI nE, nI nc, nI nl, nI ne, tx, it, ef, et, eo, dl, nd, ab, st, hed, pa, dy, pl) v1 := by
    intro r h0 h1
    unfold wpY_conflictAt
    refine zy_rf hR (fun st1 hed1 pa1 dy1 pl1 hY => ?_)
    exact zy_ca8 (by omega) hR.2.1.2 hY hle (fun z => ⟨h0 z, zq_mk hR hV⟩) (fun j hj e => ⟨h1 j hj e, zq_mk hR hV⟩)
  generalize hl : zq_ls (zq_co (zq_E ne ef et eo ab) (zq_D dl ab) (zq_N nd ab) (zq_P nl it ab)) 1360 = l at *
  rcases zv_ix v1 (n := l.length) (by omega) with ⟨j, hj, e⟩ | ⟨z, hn⟩
  · subst e
    refine br_f (nI_pos (by omega)) (br_t (by rw [hcc]; exact nI_lt hj (by omega)) (And.intro (vp_in_nI (by omega) (by decide)) ?_))
    rw [nI_clamp (by omega)]
    refine hY0 _ (fun z => absurd rfl (z j hj)) (fun i hi e => ?_)
    rw [nI_eq (by omega) (by omega)] at e
    rw [← e]; exact (hcf j hj).symm
  · have fin := hY0 (-1) (fun _ => rfl) (fun j hj e => absurd e (hn j hj))
    exact br_c (fun _ => fin) (fun y => br_f (by rw [hcc]; exact (z.resolve_left y).2) fin)
theorem i_vc_lineAt {k : Nat} {u : SX} {v : SY} (I : i_Rel k u v) (hk : k + 3 ≤ 1539) (v1 : Int32) : wpX_lineAt (fun r => wpY_lineAt (fun r' v' => r' = r ∧ i_Rel (k + 3) u v') v v1) u v1 := by
  refine zq_el (Q := fun u v => wpX_lineAt (fun r => wpY_lineAt (fun r' v' => r' = r ∧ i_Rel (k + 3) u v') v v1) u v1) ?_ I
  intro nL nP nE nc nl ne ap lv gh zo cc ck rl nm dm it tx ef et eo re nx tc de rc dv be co cf ro dl nd ab st hed pa dy pl hR hV
  have h16 := zq_row16 (zq_RD_ck hR) 16
  obtain ⟨hrl, hro⟩ := hV.2.2.2.2.2.2
  have hY0 : ∀ r : Int32, ((∀ j, j < (zq_rw (zq_Lv (zq_D dl ab) (zq_P nl it ab)) (zq_R (zq_E ne ef et eo ab)) 16).length → ¬ v1 = nI j) → (-1 : Int32) = r) → (∀ j, j < (zq_rw (zq_Lv (zq_D dl ab) (zq_P nl it ab)) (zq_R (zq_E ne ef et eo ab)) 16).length → v1 = nI j → nI ((zq_rw (zq_Lv (zq_D dl ab) (zq_P nl it ab)) (zq_R (zq_E ne ef et eo ab)) 16).getD j 0) = r) → wpY_lineAt (fun r' v' => r' = r ∧ i_Rel (k + 3) (nI nL, nI nP, nI nE, nI nc, nI nl, nI ne, ap, lv, gh, zo, cc, ck, rl, nm, dm, it, tx, ef, et, eo, re, nx, tc, de, rc, dv, be, co, cf, ro) v') (nI nL, nI nP, nI nE, nI nc, nI nl, nI ne, tx, it, ef, et, eo, dl, nd, ab, st, hed, pa, dy, pl) v1 := by
    intro r h0 h1
    exact zy_lna hR (fun z st1 hed1 pa1 dy1 pl1 => ⟨h0 z, zq_mk hR hV⟩) (fun j hj e st1 hed1 pa1 dy1 pl1 => ⟨h1 j hj e, zq_mk hR hV⟩)
  generalize hl : zq_rw (zq_Lv (zq_D dl ab) (zq_P nl it ab)) (zq_R (zq_E ne ef et eo ab)) 16 = l at *
  rcases zv_ix v1 (n := l.length) (by omega) with ⟨j, hj, e⟩ | ⟨z, hn⟩
  · subst e
    refine br_f (nI_pos (by omega)) (br_t (by rw [hrl]; exact nI_lt hj (by omega)) (And.intro (vp_in_nI (by omega) (by decide)) ?_))
    rw [nI_clamp (by omega)]
    refine hY0 _ (fun z => absurd rfl (z j hj)) (fun i hi e => ?_)
    rw [nI_eq (by omega) (by omega)] at e
    rw [← e]; exact (hro j hj).symm
  · have fin := hY0 (-1) (fun _ => rfl) (fun j hj e => absurd e (hn j hj))
    exact br_c (fun _ => fin) (fun y => br_f (by rw [hrl]; exact (z.resolve_left y).2) fin)
theorem i_vc_textAt {k : Nat} {u : SX} {v : SY} (I : i_Rel k u v) (hk : k + 3 ≤ 1539) (v1 : Int32) : wpX_textAt (fun r => wpY_textAt (fun r' v' => r' = r ∧ i_Rel (k + 3) u v') v v1) u v1 := by
  refine zq_el (Q := fun u v => wpX_textAt (fun r => wpY_textAt (fun r' v' => r' = r ∧ i_Rel (k + 3) u v') v v1) u v1) ?_ I
  intro nL nP nE nc nl ne ap lv gh zo cc ck rl nm dm it tx ef et eo re nx tc de rc dv be co cf ro dl nd ab st hed pa dy pl hR hV
  have ckk := zq_RD_ck hR
  have h16 := zq_row16 ckk 16
  have hO := zq_RO_r (L := zq_Lv (zq_D dl ab) (zq_P nl it ab)) (R := zq_R (zq_E ne ef et eo ab)) zq_R_tr (zq_Lv16 ckk) 16
  obtain ⟨hrl, hro⟩ := hV.2.2.2.2.2.2
  obtain ⟨⟨⟨hcc, _⟩, _⟩, hle⟩ := hV.2.2.2.2.2.1
  have hk0 := zq_kd0 (L := zq_Lv (zq_D dl ab) (zq_P nl it ab)) (R := zq_R (zq_E ne ef et eo ab)) (Z := zq_Zo (zq_E ne ef et eo ab) (zq_D dl ab) (zq_N nd ab) (zq_P nl it ab)) (dc := zq_dc (zq_D dl ab)) 1360
  have hlt : ∀ j, j < (zq_rw (zq_Lv (zq_D dl ab) (zq_P nl it ab)) (zq_R (zq_E ne ef et eo ab)) 16).length → (zq_rw (zq_Lv (zq_D dl ab) (zq_P nl it ab)) (zq_R (zq_E ne ef et eo ab)) 16).getD j 0 < 16 := fun j hj => by
    refine zq_Lv16 ckk _ (hO.2.1 _ ?_)
    rw [List.getD_eq_getElem?_getD, List.getElem?_eq_getElem hj]
    exact List.getElem_mem hj
  have hY0 : (zq_ls (zq_co (zq_E ne ef et eo ab) (zq_D dl ab) (zq_N nd ab) (zq_P nl it ab)) 1360).length = 0 → ∀ r : Int32, ((∀ j, j < (zq_rw (zq_Lv (zq_D dl ab) (zq_P nl it ab)) (zq_R (zq_E ne ef et eo ab)) 16).length → ¬ v1 = nI j) → (-1 : Int32) = r) → (∀ j, j < (zq_rw (zq_Lv (zq_D dl ab) (zq_P nl it ab)) (zq_R (zq_E ne ef et eo ab)) 16).length → v1 = nI j → tx ((zq_rw (zq_Lv (zq_D dl ab) (zq_P nl it ab)) (zq_R (zq_E ne ef et eo ab)) 16).getD j 0) = r) → wpY_textAt (fun r' v' => r' = r ∧ i_Rel (k + 3) (nI nL, nI nP, nI nE, nI nc, nI nl, nI ne, ap, lv, gh, zo, cc, ck, rl, nm, dm, it, tx, ef, et, eo, re, nx, tc, de, rc, dv, be, co, cf, ro) v') (nI nL, nI nP, nI nE, nI nc, nI nl, nI ne, tx, it, ef, et, eo, dl, nd, ab, st, hed, pa, dy, pl) v1 := by
    intro hz r h0 h1
    unfold wpY_textAt
    refine zy_sts hR (fun st1 hed1 pa1 dy1 pl1 => br_t (hk0.mpr hz) ?_)
    refine zy_lna hR (fun z st1 hed1 pa1 dy1 pl1 => br_f (by decide) ⟨h0 z, zq_mk hR hV⟩) (fun j hj e st1 hed1 pa1 dy1 pl1 => ?_)
    have hj16 := hlt j hj
    refine br_t (nI_pos' (by omega)) (And.intro (vp_in_nI hj16 (by decide)) ?_)
    rw [nI_clamp (by omega)]
    exact ⟨h1 j hj e, zq_mk hR hV⟩
  have hY1 : ¬ (zq_ls (zq_co (zq_E ne ef et eo ab) (zq_D dl ab) (zq_N nd ab) (zq_P nl it ab)) 1360).length = 0 → wpY_textAt (fun r' v' => r' = -6 ∧ i_Rel (k + 3) (nI nL, nI nP, nI nE, nI nc, nI nl, nI ne, ap, lv, gh, zo, cc, ck, rl, nm, dm, it, tx, ef, et, eo, re, nx, tc, de, rc, dv, be, co, cf, ro) v') (nI nL, nI nP, nI nE, nI nc, nI nl, nI ne, tx, it, ef, et, eo, dl, nd, ab, st, hed, pa, dy, pl) v1 := by
    intro hz
    unfold wpY_textAt
    exact zy_sts hR (fun st1 hed1 pa1 dy1 pl1 => br_f (fun z => hz (hk0.mp z)) ⟨rfl, zq_mk hR hV⟩)
  generalize hl2 : (zq_ls (zq_co (zq_E ne ef et eo ab) (zq_D dl ab) (zq_N nd ab) (zq_P nl it ab)) 1360).length = n at *
  generalize hl : zq_rw (zq_Lv (zq_D dl ab) (zq_P nl it ab)) (zq_R (zq_E ne ef et eo ab)) 16 = l at *
  rcases Nat.eq_zero_or_pos n with zn | zn
  · refine br_t (by rw [hcc, zn]; decide) ?_
    rcases zv_ix v1 (n := l.length) (by omega) with ⟨j, hj, e⟩ | ⟨z, hn⟩
    · subst e
      have hj16 := hlt j hj
      refine br_f (nI_pos (by omega)) (br_t (by rw [hrl]; exact nI_lt hj (by omega)) (And.intro (vp_in_nI (by omega) (by decide)) ?_))
      rw [nI_clamp (n := j) (by omega), hro j hj]
      refine And.intro (vp_in_nI hj16 (by decide)) ?_
      rw [nI_clamp (by omega)]
      refine hY0 zn _ (fun z => absurd rfl (z j hj)) (fun i hi e => ?_)
      rw [nI_eq (by omega) (by omega)] at e
      rw [← e]
    · have fin := hY0 zn (-1) (fun _ => rfl) (fun j hj e => absurd e (hn j hj))
      exact br_c (fun _ => fin) (fun y => br_f (by rw [hrl]; exact (z.resolve_left y).2) fin)
  · exact br_f (by rw [hcc]; exact nI_nle zn (by omega)) (hY1 (by omega))
/-! the owed statements: the constructors -/
theorem zv_clamp (p : Int32) (lo hi : Nat) (hl : lo ≤ hi) (hh : hi < 2 ^ 31) : ∃ n : Nat, n ≤ hi ∧ (∀ (post : Int32 → Prop) (u : SX), post (nI n) → wpX_clamp post u p (nI lo) (nI hi)) ∧ ∀ A : Int32 → Prop, A (nI n) → ((nI lo ≤ p → ((p ≤ nI hi → A p) ∧ (¬ p ≤ nI hi → A (nI hi)))) ∧ (¬ nI lo ≤ p → A (nI lo))) := by
  by_cases h1 : nI lo ≤ p
  · by_cases h2 : p ≤ nI hi
    · have h0 : ¬ p < 0 := fun z => by
        have a := Int32.le_iff_toInt_le.mp h1
        have b := Int32.lt_iff_toInt_lt.mp z
        rw [nI_toInt (by omega)] at a
        have c : (0 : Int32).toInt = 0 := by decide
        rw [c] at b
        omega
      obtain ⟨n, hn, rfl⟩ := nI_of h0
      have h3 : n ≤ hi := (nI_leI hn hh).mp h2
      refine ⟨n, h3, fun post u hp => ?_, fun A hA => br_t h1 (br_t h2 hA)⟩
      obtain ⟨LL, PL, EL, cl, lc, ec, ap, lv, gh, zo, cc, ck, rl, nm, dm, it, tx, ef, et, eo, re, nx, tc, de, rc, dv, be, co, cf, ro⟩ := u
      exact br_t h1 (br_t h2 hp)
    · refine ⟨hi, Nat.le_refl _, fun post u hp => ?_, fun A hA => br_t h1 (br_f h2 hA)⟩
      obtain ⟨LL, PL, EL, cl, lc, ec, ap, lv, gh, zo, cc, ck, rl, nm, dm, it, tx, ef, et, eo, re, nx, tc, de, rc, dv, be, co, cf, ro⟩ := u
      exact br_t h1 (br_f h2 hp)
  · refine ⟨lo, hl, fun post u hp => ?_, fun A hA => br_f h1 hA⟩
    obtain ⟨LL, PL, EL, cl, lc, ec, ap, lv, gh, zo, cc, ck, rl, nm, dm, it, tx, ef, et, eo, re, nx, tc, de, rc, dv, be, co, cf, ro⟩ := u
    exact br_f h1 hp
theorem zv_rd0 {nL nP nE : Nat} (h1 : nL ≤ 16) (h2 : nP ≤ 12) (h3 : nE ≤ 48) : zq_RD nL nP nE 0 0 0 0 (fun _ => 0) (fun _ => 0) (fun _ => 0) (fun _ => 0) (fun _ => 0) (fun _ => 0) (fun _ => 0) (fun _ => 0) (fun _ => 0) :=
  ⟨⟨h1, h2, h3, by omega, by omega, by omega⟩, ⟨zb_iff zb_0 fun _ _ => ⟨fun z => z.elim, fun z => absurd rfl z⟩, fun p z => absurd rfl z⟩, fun p hp => zb_iff zb_0 fun _ _ => ⟨fun z => z.elim, fun z => absurd rfl z.2⟩, ⟨fun p q _ _ z => absurd rfl z, fun a ha => absurd ha (by omega)⟩, fun p hp => zb_iff zb_0 fun _ _ => ⟨fun z => z.elim, fun z => absurd rfl z.2⟩, fun a ha => absurd ha (by omega), fun a ha => absurd ha (by omega)⟩
theorem zv_vw0 {it ef et eo dl nd ab cf ro : Nat → Int32} : zq_VW (zq_E 0 ef et eo ab) (zq_D dl ab) (zq_N nd ab) (zq_P 0 it ab) 0 0 0 0 0 0 (fun _ => 0) (fun _ => 0) cf ro := by
  have hP : ∀ a, ¬ zq_P 0 it ab a := fun a z => absurd z.1 (by omega)
  have hG : ∀ a b, ¬ zq_G (zq_E 0 ef et eo ab) a b := fun a b ⟨_, _, z, _⟩ => absurd z (by omega)
  have hT : ∀ M a b, ¬ zq_T M (zq_G (zq_E 0 ef et eo ab)) a b := fun M a b z => z (fun _ => False) (fun f t g _ => hG f t g)
  have hc := zq_ls_e (L := zq_Lv (zq_D dl ab) (zq_P 0 it ab)) (R := zq_R (zq_E 0 ef et eo ab)) (Z := zq_Zo (zq_E 0 ef et eo ab) (zq_D dl ab) (zq_N nd ab) (zq_P 0 it ab)) (dc := zq_dc (zq_D dl ab)) (fun a z => hP a z.1) (fun a z => hP a z.1) 1360
  have hr := zq_rw_e (L := zq_Lv (zq_D dl ab) (zq_P 0 it ab)) (R := zq_R (zq_E 0 ef et eo ab)) (fun a z => hP a z.1) 16
  refine ⟨zb_iff zb_0 fun a _ => ⟨fun z => z.elim, fun z => hP a z.1⟩, zb_iff zb_0 fun a _ => ⟨fun z => z.elim, fun z => hP a z.1⟩, zb_iff zb_0 fun a _ => ⟨fun z => z.elim, fun z => hP a z.1⟩, fun a _ => zb_iff zb_0 fun b _ => ⟨fun z => z.elim, fun z => hT _ a b z⟩, fun a _ => zb_iff zb_0 fun b _ => ⟨fun z => z.elim, fun z => hT _ a b z⟩, ?_, ?_⟩
  · unfold zq_CS zq_co
    rw [hc.1, hc.2]
    exact ⟨⟨zq_LS_0, rfl⟩, by decide⟩
  · rw [hr]; exact zq_LS_0
theorem i_vc0 (k0 : Int32) (k1 : Int32) (k2 : Int32) : wpX_init (fun u => wpY_init (fun v => i_Rel 3 u v) k0 k1 k2) k0 k1 k2 := by
  obtain ⟨nL, l1, x1, y1⟩ := zv_clamp k0 2 16 (by omega) (by omega)
  obtain ⟨nP, l2, x2, y2⟩ := zv_clamp k1 2 12 (by omega) (by omega)
  obtain ⟨nE, l3, x3, y3⟩ := zv_clamp k2 4 48 (by omega) (by omega)
  unfold wpX_init
  refine x1 _ _ (x2 _ _ (x3 _ _ ?_))
  refine y1 (fun z => wY_init_134 _ k1 k2 z 0 0 0 0 0 0 (fun _ => 0) (fun _ => 0) (fun _ => 0) (fun _ => 0) (fun _ => 0) (fun _ => 0) (fun _ => 0) (fun _ => 0) (fun _ => 0) (fun _ => 0) (fun _ => 0) (fun _ => 0) (fun _ => 0)) ?_
  refine y2 (fun z => wY_init_159 _ k2 z (nI nL) 0 0 0 0 0 (fun _ => 0) (fun _ => 0) (fun _ => 0) (fun _ => 0) (fun _ => 0) (fun _ => 0) (fun _ => 0) (fun _ => 0) (fun _ => 0) (fun _ => 0) (fun _ => 0) (fun _ => 0) (fun _ => 0)) ?_
  refine y3 (fun z => i_Rel 3 (nI nL, nI nP, nI nE, 0, 0, 0, 0, 0, 0, 0, 0, 0, 0, (fun _ => 0), (fun _ => 0), (fun _ => 0), (fun _ => 0), (fun _ => 0), (fun _ => 0), (fun _ => 0), (fun _ => 0), (fun _ => 0), (fun _ => 0), (fun _ => 0), (fun _ => 0), (fun _ => 0), (fun _ => 0), (fun _ => 0), (fun _ => 0), (fun _ => 0)) (nI nL, nI nP, z, 0, 0, 0, (fun _ => 0), (fun _ => 0), (fun _ => 0), (fun _ => 0), (fun _ => 0), (fun _ => 0), (fun _ => 0), (fun _ => 0), (fun _ => 0), (fun _ => 0), (fun _ => 0), (fun _ => 0), (fun _ => 0))) ?_
  exact zq_mk (zv_rd0 l1 l2 l3) zv_vw0
end
