section
theorem pk_us {f : Nat → Int32} {k : Nat} {x : Int32} : upd f k x k = x := if_pos rfl
theorem pk_un {f : Nat → Int32} {k j : Nat} {x : Int32} (h : j ≠ k) : upd f k x j = f j := if_neg h
theorem pk_sub {a b : Nat} (h : b ≤ a) : nI a - nI b = nI (a - b) := by
  obtain ⟨c, rfl⟩ : ∃ c, a = c + b := ⟨a - b, by omega⟩
  rw [← nI_add, Int32.add_sub_cancel, Nat.add_sub_cancel]
theorem pk_m1 (n : Nat) : nI (n + 1) + (-1) = nI n := by
  rw [← nI_1, Int32.add_assoc, show (1 : Int32) + (-1) = 0 from rfl, Int32.add_zero]
theorem pk_mul (a b : Nat) : nI a * nI b = nI (a * b) := (Int32.ofNat_mul a b).symm
theorem pk_sub_toInt {a b : Nat} (ha : a < 2 ^ 30) (hb : b < 2 ^ 30) : (nI a - nI b).toInt = (a : Int) - b := by
  rw [Int32.toInt_sub, nI_toInt (by omega), nI_toInt (by omega)]
  exact Int.bmod_eq_of_le (by omega) (by omega)
theorem pk_ix (x : Int32) {n : Nat} (hn : n < 2 ^ 31) : x < 0 ∨ nI n ≤ x ∨ ∃ j : Nat, j < n ∧ x = nI j := by
  by_cases h : x < 0
  · exact Or.inl h
  · obtain ⟨j, hj, rfl⟩ := nI_of h
    by_cases h2 : j < n
    · exact Or.inr (Or.inr ⟨j, h2, rfl⟩)
    · exact Or.inr (Or.inl (nI_le (by omega) hj))
theorem pk_le {x y : Int32} {A B : Prop} (a b : Nat) (f : a ≤ b → A) (g : b < a → B) (hx : x = nI a := by rfl) (hy : y = nI b := by rfl) (ha : a < 2 ^ 31 := by omega) (hb : b < 2 ^ 31 := by omega) : (x ≤ y → A) ∧ (¬ x ≤ y → B) := by
  subst hx hy
  rw [nI_leI ha hb]
  exact ⟨f, fun z => g (by omega)⟩
theorem pk_lt {x y : Int32} {A B : Prop} (a b : Nat) (f : a < b → A) (g : b ≤ a → B) (hx : x = nI a := by rfl) (hy : y = nI b := by rfl) (ha : a < 2 ^ 31 := by omega) (hb : b < 2 ^ 31 := by omega) : (x < y → A) ∧ (¬ x < y → B) := by
  subst hx hy
  rw [nI_ltI ha hb]
  exact ⟨f, fun z => g (by omega)⟩
theorem pk_eq {x y : Int32} {A B : Prop} (a b : Nat) (f : a = b → A) (g : a ≠ b → B) (hx : x = nI a := by rfl) (hy : y = nI b := by rfl) (ha : a < 2 ^ 31 := by omega) (hb : b < 2 ^ 31 := by omega) : (x = y → A) ∧ (¬ x = y → B) := by
  subst hx hy
  rw [nI_eq ha hb]
  exact ⟨f, g⟩
theorem pk_in {x : Int32} (n N : Nat) (h : n < N) (hx : x = nI n := by rfl) (hN : N < 2 ^ 31 := by omega) : vp_in x N := by
  subst hx
  exact vp_in_nI h hN
theorem pk_cl {x : Int32} (n : Nat) (hx : x = nI n := by rfl) (h : n < 2 ^ 31 := by omega) : x.toNatClampNeg = n := by
  subst hx
  exact nI_clamp h
theorem pk_tn {n : Nat} (h : n < 2 ^ 32) : (nI n).toBitVec.toNat = n := Nat.mod_eq_of_lt h
theorem pk_and (x : Int32) {m : Int32} (k : Nat) (hm : m.toBitVec.toNat = 2 ^ k - 1) : x &&& m = nI (x.toBitVec.toNat % 2 ^ k) := by
  apply Int32.toBitVec_inj.mp
  apply BitVec.eq_of_toNat_eq
  rw [Int32.toBitVec_and, BitVec.toNat_and, hm, Nat.and_two_pow_sub_one_eq_mod]
  show _ = (BitVec.ofNat 32 _).toNat
  rw [BitVec.toNat_ofNat]
  exact (Nat.mod_eq_of_lt (Nat.lt_of_le_of_lt (Nat.mod_le _ _) x.toBitVec.isLt)).symm
theorem pk_andN {n : Nat} (h : n < 2 ^ 32) {m : Int32} (k : Nat) (hm : m.toBitVec.toNat = 2 ^ k - 1) : nI n &&& m = nI (n % 2 ^ k) := by
  rw [pk_and _ k hm, pk_tn h]
theorem pk_shr (a s : Int32) (k : Nat) (hs : (s.toBitVec.smod 32).toNat = k) : (a >>> s).toInt = a.toInt >>> k := by
  show (a.toBitVec.sshiftRight (s.toBitVec.smod 32).toNat).toInt = _
  rw [hs, BitVec.toInt_sshiftRight]
  rfl
theorem pk_shrN {n : Nat} (h : n < 2 ^ 31) (s : Int32) (k : Nat) (hs : (s.toBitVec.smod 32).toNat = k) : nI n >>> s = nI (n / 2 ^ k) := by
  apply Int32.toInt_inj.mp
  have h2 : n / 2 ^ k ≤ n := Nat.div_le_self _ _
  rw [pk_shr _ _ k hs, nI_toInt h, nI_toInt (by omega), Int.shiftRight_eq_div_pow]
  rfl
theorem pk_ushr (x s : Int32) (k : Nat) (hs : ((s.toUInt32 &&& Int32.toUInt32 31).toBitVec % 32).toNat = k) : (x.toUInt32 >>> (s.toUInt32 &&& Int32.toUInt32 31)).toInt32.toBitVec.toNat = x.toBitVec.toNat / 2 ^ k := by
  have e : (x.toUInt32 >>> (s.toUInt32 &&& Int32.toUInt32 31)).toInt32.toBitVec = x.toBitVec >>> k := by
    rw [← hs]
    exact UInt32.toBitVec_shiftRight _ _
  rw [e, BitVec.toNat_ushiftRight, Nat.shiftRight_eq_div_pow]
theorem pk_ushrN {n : Nat} (hn : n < 2 ^ 32) (s : Int32) (k : Nat) (hs : ((s.toUInt32 &&& Int32.toUInt32 31).toBitVec % 32).toNat = k) : ((nI n).toUInt32 >>> (s.toUInt32 &&& Int32.toUInt32 31)).toInt32 = nI (n / 2 ^ k) := by
  apply Int32.toBitVec_inj.mp
  apply BitVec.eq_of_toNat_eq
  rw [pk_ushr _ s k hs, pk_tn hn, pk_tn (Nat.lt_of_le_of_lt (Nat.div_le_self _ _) hn)]
theorem pk_least (P : Nat → Prop) (h : ∃ k, P k) : ∃ k, P k ∧ ∀ j, j < k → ¬ P j := by
  obtain ⟨k, hk⟩ := h
  induction k using Nat.strongRecOn with
  | ind k ih =>
    by_cases e : ∃ j, j < k ∧ P j
    · obtain ⟨j, hj, pj⟩ := e
      exact ih j hj pj
    · exact ⟨k, hk, fun j hj pj => e ⟨j, hj, pj⟩⟩
def bt (x : Int32) (i : Nat) : Bool := x.toBitVec.getLsbD i
theorem b_ext {x y : Int32} (h : ∀ i, i < 32 → bt x i = bt y i) : x = y := Int32.toBitVec_inj.mp (BitVec.eq_of_getLsbD_eq (fun i hi => h i hi))
theorem b_or (x y : Int32) (i : Nat) : bt (x ||| y) i = (bt x i || bt y i) := by unfold bt; rw [Int32.toBitVec_or, BitVec.getLsbD_or]
theorem b_and (x y : Int32) (i : Nat) : bt (x &&& y) i = (bt x i && bt y i) := by unfold bt; rw [Int32.toBitVec_and, BitVec.getLsbD_and]
theorem b_xor (x y : Int32) (i : Nat) : bt (x ^^^ y) i = (bt x i ^^ bt y i) := by unfold bt; rw [Int32.toBitVec_xor, BitVec.getLsbD_xor]
theorem b_big {x : Int32} {i : Nat} (h : 32 ≤ i) : bt x i = false := BitVec.getLsbD_of_ge _ _ h
theorem b_m1 : ∀ i, i < 32 → bt (-1) i = true := by decide +kernel
theorem b_0 (i : Nat) : bt 0 i = false := BitVec.getLsbD_zero
theorem s_l : ∀ n, n < 32 → ((nI n &&& 31).toBitVec.smod 32).toNat = n := by decide +kernel
theorem s_u : ∀ n, n < 32 → (((nI n).toUInt32 &&& Int32.toUInt32 31).toBitVec % 32).toNat = n := by decide +kernel
theorem b_shl (n : Nat) (hn : n < 32) (x : Int32) {i : Nat} (hi : i < 32) : bt (x <<< (nI n &&& 31)) i = (decide (n ≤ i) && bt x (i - n)) := by
  unfold bt
  rw [Int32.toBitVec_shiftLeft]
  show (x.toBitVec <<< ((nI n &&& 31).toBitVec.smod 32).toNat).getLsbD i = _
  rw [s_l n hn, BitVec.getLsbD_shiftLeft]
  rcases Nat.lt_or_ge i n with h | h
  · simp [h, Nat.not_le.mpr h]
  · simp [hi, h, Nat.not_lt.mpr h]
theorem b_ushr (n : Nat) (hn : n < 32) (x : Int32) (i : Nat) : bt ((x.toUInt32 >>> ((nI n).toUInt32 &&& Int32.toUInt32 31)).toInt32) i = bt x (n + i) := by
  show (x.toUInt32 >>> ((nI n).toUInt32 &&& Int32.toUInt32 31)).toBitVec.getLsbD i = x.toUInt32.toBitVec.getLsbD (n + i)
  rw [UInt32.toBitVec_shiftRight]
  show (x.toUInt32.toBitVec >>> (((nI n).toUInt32 &&& Int32.toUInt32 31).toBitVec % 32).toNat).getLsbD i = _
  rw [s_u n hn, BitVec.getLsbD_ushiftRight]
theorem b_sshr (n : Nat) (hn : n < 32) (x : Int32) {i : Nat} (hi : i < 32) : bt (x >>> (nI n &&& 31)) i = if n + i < 32 then bt x (n + i) else bt x 31 := by
  unfold bt
  rw [Int32.toBitVec_shiftRight]
  show (x.toBitVec.sshiftRight ((nI n &&& 31).toBitVec.smod 32).toNat).getLsbD i = _
  rw [s_l n hn, BitVec.getLsbD_sshiftRight, BitVec.msb_eq_getLsbD_last]
  simp [hi]
end
section
/-! counting -/
noncomputable def gr_b1 (P : Prop) : Nat := @ite Nat P (Classical.propDecidable P) 1 0
theorem gr_b1_t {P : Prop} (h : P) : gr_b1 P = 1 := by unfold gr_b1; rw [if_pos h]
theorem gr_b1_f {P : Prop} (h : ¬ P) : gr_b1 P = 0 := by unfold gr_b1; rw [if_neg h]
theorem gr_b1_le (P : Prop) : gr_b1 P ≤ 1 := by
  rcases Classical.em P with h | h
  · rw [gr_b1_t h]; omega
  · rw [gr_b1_f h]; omega
theorem gr_b1_mono {P Q : Prop} (h : P → Q) : gr_b1 P ≤ gr_b1 Q := by
  rcases Classical.em P with hp | hp
  · rw [gr_b1_t hp, gr_b1_t (h hp)]; omega
  · rw [gr_b1_f hp]; omega
theorem gr_b1_iff {P Q : Prop} (h : P ↔ Q) : gr_b1 P = gr_b1 Q := Nat.le_antisymm (gr_b1_mono h.mp) (gr_b1_mono h.mpr)
noncomputable def gr_cn (P : Nat → Prop) : Nat → Nat
  | 0 => 0
  | k + 1 => gr_cn P k + gr_b1 (P k)
theorem gr_cn_mono {P Q : Nat → Prop} : ∀ {N : Nat}, (∀ k, k < N → P k → Q k) → gr_cn P N ≤ gr_cn Q N
  | 0, _ => Nat.le_refl _
  | N + 1, h => by
    have a := gr_cn_mono (P := P) (Q := Q) (N := N) (fun k hk => h k (by omega))
    have b := gr_b1_mono (h N (by omega))
    simp only [gr_cn]; omega
theorem gr_cn_le (P : Nat → Prop) : ∀ N, gr_cn P N ≤ N
  | 0 => Nat.le_refl _
  | N + 1 => by have := gr_cn_le P N; have := gr_b1_le (P N); simp only [gr_cn]; omega
theorem gr_cn_eq {P Q : Nat → Prop} {N : Nat} (h : ∀ k, k < N → (P k ↔ Q k)) : gr_cn P N = gr_cn Q N :=
  Nat.le_antisymm (gr_cn_mono fun k hk => (h k hk).mp) (gr_cn_mono fun k hk => (h k hk).mpr)
theorem gr_cn_zero {P : Nat → Prop} {N : Nat} (h : ∀ k, k < N → ¬ P k) : gr_cn P N = 0 := by
  have a := gr_cn_mono (P := P) (Q := fun _ => False) (N := N) (fun k hk p => h k hk p)
  have b : ∀ M, gr_cn (fun _ => False) M = 0 := by
    intro M
    induction M with
    | zero => rfl
    | succ M ih => simp only [gr_cn]; rw [ih, gr_b1_f (fun z => z)]
  have := b N
  omega
theorem gr_cn_pos {P : Nat → Prop} {a : Nat} (hp : P a) : ∀ {N : Nat}, a < N → 0 < gr_cn P N
  | 0, h => by omega
  | N + 1, h => by
    simp only [gr_cn]
    rcases Nat.lt_or_ge a N with z | z
    · have := gr_cn_pos hp z; omega
    · have e : a = N := by omega
      subst e
      rw [gr_b1_t hp]; omega
theorem gr_cn_of0 {P : Nat → Prop} {N : Nat} (h : gr_cn P N = 0) : ∀ k, k < N → ¬ P k := by
  intro k hk hp
  have := gr_cn_pos (P := P) hp hk
  omega
theorem gr_cn_add {P : Nat → Prop} {a : Nat} (hp : ¬ P a) : ∀ {N : Nat}, a < N → gr_cn (fun k => P k ∨ k = a) N = gr_cn P N + 1
  | 0, h => by omega
  | N + 1, h => by
    simp only [gr_cn]
    rcases Nat.lt_or_ge a N with z | z
    · rw [gr_cn_add hp z]
      have : gr_b1 (P N ∨ N = a) = gr_b1 (P N) := gr_b1_iff ⟨fun q => q.elim id (fun e => by omega), Or.inl⟩
      omega
    · have e : a = N := by omega
      subst e
      rw [gr_cn_eq (P := fun k => P k ∨ k = a) (Q := P) (fun k hk => ⟨fun q => q.elim id (fun e => by omega), Or.inl⟩), gr_b1_t (Or.inr rfl), gr_b1_f hp]
theorem gr_cn_two {P : Nat → Prop} {a b N : Nat} (ha : a < N) (hb : b < N) (hne : a ≠ b) (pa : P a) (pb : P b) : 2 ≤ gr_cn P N := by
  have h1 := gr_cn_add (P := fun k => k = a) (a := b) (fun e => hne e.symm) hb
  have h2 := gr_cn_pos (P := fun k => k = a) (a := a) rfl ha
  have h3 := gr_cn_mono (P := fun k => k = a ∨ k = b) (Q := P) (N := N) (fun k _ q => q.elim (fun e => e ▸ pa) (fun e => e ▸ pb))
  have h4 : gr_cn (fun k => (fun k => k = a) k ∨ k = b) N = gr_cn (fun k => k = a ∨ k = b) N := rfl
  omega
theorem gr_cn_uniq {P : Nat → Prop} {a b N : Nat} (h : gr_cn P N < 2) (ha : a < N) (hb : b < N) (pa : P a) (pb : P b) : a = b := by
  rcases Nat.decEq a b with z | z
  · have := gr_cn_two ha hb z pa pb; omega
  · exact z
theorem gr_cn_rm {P : Nat → Prop} {a : Nat} : ∀ {N : Nat}, gr_cn P N ≤ gr_cn (fun k => P k ∧ k ≠ a) N + 1
  | 0 => by simp only [gr_cn]; omega
  | N + 1 => by
    simp only [gr_cn]
    rcases Nat.decEq N a with z | z
    · have h := gr_cn_rm (P := P) (a := a) (N := N)
      have e : gr_b1 (P N ∧ N ≠ a) = gr_b1 (P N) := gr_b1_iff ⟨fun q => q.1, fun q => ⟨q, z⟩⟩
      omega
    · subst z
      have e := gr_cn_mono (P := P) (Q := fun k => P k ∧ k ≠ N) (N := N) (fun k hk p => ⟨p, by omega⟩)
      have := gr_b1_le (P N)
      omega
theorem gr_cn_list : ∀ (L : List Nat) {P : Nat → Prop} {N : Nat}, (∀ k, k < N → P k → k ∈ L) → gr_cn P N ≤ L.length
  | [], P, N, h => by
    rw [gr_cn_zero (P := P) (N := N) (fun k hk p => by have := h k hk p; simp at this)]
    exact Nat.zero_le _
  | a :: L, P, N, h => by
    have h1 := gr_cn_rm (P := P) (a := a) (N := N)
    have h2 := gr_cn_list L (P := fun k => P k ∧ k ≠ a) (N := N) (fun k hk p => by
      have := h k hk p.1
      rcases List.mem_cons.mp this with e | e
      · exact absurd e p.2
      · exact e)
    rw [List.length_cons]
    omega
theorem gr_inj {g : Nat → Nat} {N : Nat} : ∀ m, (∀ i, i < m → g i < N) → (∀ i j, i < j → j < m → g i ≠ g j) → gr_cn (fun t => ∃ i, i < m ∧ g i = t) N = m
  | 0, _, _ => gr_cn_zero (fun k _ ⟨i, hi, _⟩ => by omega)
  | m + 1, h1, h2 => by
    have ih := gr_inj (g := g) (N := N) m (fun i hi => h1 i (by omega)) (fun i j hij hj => h2 i j hij (by omega))
    have e := gr_cn_add (P := fun t => ∃ i, i < m ∧ g i = t) (a := g m) (fun ⟨i, hi, e⟩ => h2 i m hi (by omega) e) (h1 m (by omega))
    rw [ih] at e
    rw [← e]
    refine gr_cn_eq (fun k _ => ⟨fun q => ?_, fun q => ?_⟩)
    · obtain ⟨i, hi, e'⟩ := q
      rcases Nat.lt_or_ge i m with z | z
      · exact Or.inl ⟨i, z, e'⟩
      · have : i = m := by omega
        rw [this] at e'
        exact Or.inr e'.symm
    · rcases q with ⟨i, hi, e'⟩ | e'
      · exact ⟨i, by omega, e'⟩
      · exact ⟨m, by omega, e'.symm⟩
def gr_up {α : Type} (g : Nat → α) (a : Nat) (x : α) : Nat → α := fun j => if j = a then x else g j
theorem gr_up_s {α : Type} {g : Nat → α} {a : Nat} {x : α} : gr_up g a x a = x := if_pos rfl
theorem gr_up_n {α : Type} {g : Nat → α} {a j : Nat} {x : α} (h : j ≠ a) : gr_up g a x j = g j := if_neg h
theorem gr_cn_upd {g : Nat → Nat} {a x t : Nat} : ∀ {N : Nat}, a < N → gr_cn (fun w => gr_up g a x w = t) N + gr_b1 (g a = t) = gr_cn (fun w => g w = t) N + gr_b1 (x = t)
  | 0, h => by omega
  | N + 1, h => by
    simp only [gr_cn]
    rcases Nat.lt_or_ge a N with z | z
    · have ih := gr_cn_upd (g := g) (a := a) (x := x) (t := t) z
      rw [gr_up_n (show N ≠ a by omega)]
      omega
    · have e : a = N := by omega
      subst e
      rw [gr_up_s, gr_cn_eq (P := fun w => gr_up g a x w = t) (Q := fun w => g w = t) (fun k hk => by rw [gr_up_n (show k ≠ a by omega)])]
      omega
/-! codes of nodes: 40 null, 41 free -/
def gr_en (j : Nat) : Int32 := if j = 40 then -1 else if j = 41 then -8 else nI j
def gr_ex (j : Nat) : Int32 := if j < 40 then nI j else -1
def gr_b (b : Bool) : Int32 := if b then 1 else 0
theorem gr_en_n {j : Nat} (h : j < 40) : gr_en j = nI j := by unfold gr_en; rw [if_neg (by omega), if_neg (by omega)]
theorem gr_en_40 : gr_en 40 = -1 := rfl
theorem gr_en_41 : gr_en 41 = -8 := rfl
theorem gr_ex_n {j : Nat} (h : j < 40) : gr_ex j = nI j := if_pos h
theorem gr_ex_g {j : Nat} (h : 40 ≤ j) : gr_ex j = -1 := if_neg (by omega)
theorem gr_nm1 {j : Nat} (h : j < 2 ^ 31) : ¬ nI j = -1 := by
  intro e
  have := congrArg Int32.toInt e
  rw [nI_toInt h, show (-1 : Int32).toInt = -1 from by decide] at this
  omega
theorem gr_nm8 {j : Nat} (h : j < 2 ^ 31) : ¬ nI j = -8 := by
  intro e
  have := congrArg Int32.toInt e
  rw [nI_toInt h, show (-8 : Int32).toInt = -8 from by decide] at this
  omega
theorem gr_ex_m {j : Nat} : gr_ex j = -1 ↔ 40 ≤ j := by
  rcases Nat.lt_or_ge j 40 with z | z
  · rw [gr_ex_n z]; exact ⟨fun e => absurd e (gr_nm1 (by omega)), fun e => by omega⟩
  · rw [gr_ex_g z]; exact ⟨fun _ => z, fun _ => rfl⟩
theorem gr_en_neg {j : Nat} (h : j ≤ 41) : gr_en j < 0 ↔ 40 ≤ j := by
  rcases Nat.lt_or_ge j 40 with z | z
  · rw [gr_en_n z]; exact ⟨fun e => absurd e (nI_pos (by omega)), fun e => by omega⟩
  · refine ⟨fun _ => z, fun _ => ?_⟩
    rcases (show j = 40 ∨ j = 41 by omega) with e | e <;> subst e <;> decide
theorem gr_en_m {j : Nat} (h : j ≤ 41) : gr_en j = -1 ↔ j = 40 := by
  rcases Nat.lt_or_ge j 40 with z | z
  · rw [gr_en_n z]; exact ⟨fun e => absurd e (gr_nm1 (by omega)), fun e => by omega⟩
  · rcases (show j = 40 ∨ j = 41 by omega) with e | e <;> subst e <;> decide
theorem gr_en_8 {j : Nat} (h : j ≤ 41) : gr_en j = -8 ↔ j = 41 := by
  rcases Nat.lt_or_ge j 40 with z | z
  · rw [gr_en_n z]; exact ⟨fun e => absurd e (gr_nm8 (by omega)), fun e => by omega⟩
  · rcases (show j = 40 ∨ j = 41 by omega) with e | e <;> subst e <;> decide
theorem gr_en_i : ∀ a b, a ≤ 41 → b ≤ 41 → gr_en a = gr_en b → a = b := by
  have h : ∀ a, a < 42 → ∀ b, b < 42 → gr_en a = gr_en b → a = b := by decide +kernel
  exact fun a b ha hb => h a (by omega) b (by omega)
theorem gr_ex_i : ∀ a b, a ≤ 40 → b ≤ 40 → gr_ex a = gr_ex b → a = b := by
  have h : ∀ a, a < 41 → ∀ b, b < 41 → gr_ex a = gr_ex b → a = b := by decide +kernel
  exact fun a b ha hb => h a (by omega) b (by omega)
theorem gr_ex_en {a : Nat} (h : a ≤ 40) : gr_ex a = gr_en a := by
  rcases Nat.lt_or_ge a 40 with z | z
  · rw [gr_en_n z, gr_ex_n z]
  · have e : a = 40 := by omega
    subst e; decide
theorem gr_b_0 {b : Bool} : gr_b b = 0 ↔ b = false := by cases b <;> decide
theorem gr_b_n {b : Bool} : vp_nar .boolean (gr_b b) = gr_b b := by cases b <;> rfl
/-! truth values -/
def gr_tv (r : Int32) (P : Prop) : Prop := (r = 0 ∧ ¬ P) ∨ (r = 1 ∧ P)
theorem gr_tv_t {P : Prop} (h : P) : gr_tv 1 P := Or.inr ⟨rfl, h⟩
theorem gr_tv_f {P : Prop} (h : ¬ P) : gr_tv 0 P := Or.inl ⟨rfl, h⟩
theorem gr_tv_u {P : Prop} {r s : Int32} (h : gr_tv r P) (h' : gr_tv s P) : s = r := by
  rcases h with ⟨rfl, a⟩ | ⟨rfl, a⟩ <;> rcases h' with ⟨rfl, b⟩ | ⟨rfl, b⟩
  · rfl
  · exact absurd b a
  · exact absurd a b
  · rfl
theorem gr_tv_iff {P Q : Prop} {r : Int32} (e : P ↔ Q) (h : gr_tv r P) : gr_tv r Q := by
  rcases h with ⟨rfl, a⟩ | ⟨rfl, a⟩
  · exact gr_tv_f (fun q => a (e.mpr q))
  · exact gr_tv_t (e.mp a)
theorem gr_tv_nar {P : Prop} {r : Int32} (h : gr_tv r P) : narrow .boolean (.int r) = .int r := by
  rcases h with ⟨rfl, a⟩ | ⟨rfl, a⟩ <;> rfl
/-! iterates and graphs -/
def gr_it (h : Nat → Nat) : Nat → Nat → Nat
  | 0, u => u
  | k + 1, u => gr_it h k (h u)
theorem gr_it_s (h : Nat → Nat) : ∀ k u, gr_it h (k + 1) u = h (gr_it h k u)
  | 0, _ => rfl
  | k + 1, u => gr_it_s h k (h u)
theorem gr_it_add (h : Nat → Nat) (b : Nat) : ∀ a u, gr_it h (a + b) u = gr_it h b (gr_it h a u)
  | 0, u => by rw [Nat.zero_add]; rfl
  | a + 1, u => by rw [show a + 1 + b = (a + b) + 1 by omega]; exact gr_it_add h b a (h u)
def gr_G (n : Nat) (h : Nat → Nat) : Prop := n ≤ 40 ∧ (∀ u, h u < n ∨ h u = 40 ∨ h u = 41) ∧ ∀ u, n ≤ u → h u = 40
def gr_to (h : Nat → Nat) (u v : Nat) : Prop := ∃ k, gr_it h k u = v
def gr_ld (h : Nat → Nat) (u v : Nat) : Prop := gr_to h (h u) v
def gr_R (h va : Nat → Nat) (vs u : Nat) : Prop := u < 40 ∧ ∃ x, x < vs ∧ gr_to h (va x) u
section
variable {n : Nat} {h : Nat → Nat}
theorem gr_le41 (G : gr_G n h) (u : Nat) : h u ≤ 41 := by
  have := G.1
  rcases G.2.1 u with z | z | z <;> omega
theorem gr_it_hi (G : gr_G n h) : ∀ k u, 40 ≤ u → 40 ≤ gr_it h k u
  | 0, _, z => z
  | k + 1, u, z => by
    have : h u = 40 := G.2.2 u (by have := G.1; omega)
    show 40 ≤ gr_it h k (h u)
    rw [this]
    exact gr_it_hi G k 40 (Nat.le_refl _)
theorem gr_it_lo (G : gr_G n h) {k i u : Nat} (hi : i ≤ k) (hk : gr_it h k u < 40) : gr_it h i u < 40 := by
  rcases Nat.lt_or_ge (gr_it h i u) 40 with z | z
  · exact z
  · have := gr_it_hi G (k - i) _ z
    rw [← gr_it_add, show i + (k - i) = k by omega] at this
    omega
theorem gr_it_n (G : gr_G n h) {k u : Nat} (hu : u < n) (hk : gr_it h k u < 40) : gr_it h k u < n := by
  cases k with
  | zero => exact hu
  | succ k =>
    rw [gr_it_s] at hk ⊢
    rcases G.2.1 (gr_it h k u) with z | z | z <;> omega
/-- a node that is reached is reached in fewer than n steps -/
theorem gr_ph (G : gr_G n h) {u v k : Nat} (hu : u < n) (hv : v < 40) (e : gr_it h k u = v) : ∃ k', k' < n ∧ gr_it h k' u = v := by
  obtain ⟨m, hm, hl⟩ := pk_least (fun k => gr_it h k u = v) ⟨k, e⟩
  have h1 : ∀ i, i < m + 1 → gr_it h i u < n := fun i hi => gr_it_n G hu (gr_it_lo G (show i ≤ m by omega) (by rw [hm]; exact hv))
  have h2 : ∀ i j, i < j → j < m + 1 → gr_it h i u ≠ gr_it h j u := by
    intro i j hij hj e2
    have e3 : gr_it h (i + (m - j)) u = v := by rw [gr_it_add, e2, ← gr_it_add, show j + (m - j) = m by omega]; exact hm
    exact hl _ (by omega) e3
  have h3 := gr_inj (g := fun i => gr_it h i u) (N := n) (m + 1) h1 h2
  have h4 : m + 1 ≤ n := Nat.le_trans (Nat.le_of_eq h3.symm) (gr_cn_le _ _)
  exact ⟨m, by omega, hm⟩
theorem gr_ph1 (G : gr_G n h) {u v : Nat} (hv : v < 40) (e : gr_ld h u v) : ∃ k', k' < n ∧ gr_it h (k' + 1) u = v := by
  obtain ⟨k, hk⟩ := e
  have h1 : h u < 40 := gr_it_lo G (k := k) (i := 0) (by omega) (by rw [hk]; exact hv)
  have h2 : h u < n := by rcases G.2.1 u with z | z | z <;> omega
  exact gr_ph G h2 hv hk
theorem gr_to_hi (G : gr_G n h) {u v : Nat} (hu : 40 ≤ u) (hv : v < 40) : ¬ gr_to h u v := by
  intro ⟨k, e⟩
  have := gr_it_hi G k u hu
  omega
theorem gr_to_step {u v : Nat} : gr_to h u v ↔ u = v ∨ gr_ld h u v := by
  constructor
  · intro ⟨k, e⟩
    cases k with
    | zero => exact Or.inl e
    | succ k => exact Or.inr ⟨k, e⟩
  · intro q
    rcases q with e | ⟨k, e⟩
    · exact ⟨0, e⟩
    · exact ⟨k + 1, e⟩
theorem gr_to_trans {u v w : Nat} (a : gr_to h u v) (b : gr_to h v w) : gr_to h u w := by
  obtain ⟨i, e⟩ := a
  obtain ⟨j, e2⟩ := b
  exact ⟨i + j, by rw [gr_it_add, e, e2]⟩
variable {va : Nat → Nat} {vs : Nat}
theorem gr_R_n (G : gr_G n h) (hva : ∀ x, x < vs → va x < n ∨ va x = 40) {u : Nat} (r : gr_R h va vs u) : u < n := by
  obtain ⟨hu, x, hx, k, e⟩ := r
  have h1 : va x < 40 := gr_it_lo G (k := k) (i := 0) (by omega) (by rw [e]; exact hu)
  rcases hva x hx with z | z
  · have := gr_it_n G (k := k) z (by rw [e]; exact hu)
    omega
  · omega
theorem gr_R_v {x : Nat} (hx : x < vs) (h1 : va x < 40) : gr_R h va vs (va x) := ⟨h1, x, hx, 0, rfl⟩
theorem gr_R_s {u : Nat} (r : gr_R h va vs u) (h1 : h u < 40) : gr_R h va vs (h u) := by
  obtain ⟨hu, x, hx, k, e⟩ := r
  exact ⟨h1, x, hx, k + 1, by rw [gr_it_s, e]⟩
theorem gr_R_it (G : gr_G n h) {u : Nat} (r : gr_R h va vs u) {k : Nat} (h1 : gr_it h k u < 40) : gr_R h va vs (gr_it h k u) := by
  obtain ⟨hu, x, hx, i, e⟩ := r
  exact ⟨h1, x, hx, i + k, by rw [gr_it_add, e]⟩
theorem gr_cl_it (G : gr_G n h) {M : Nat → Prop} (hc : ∀ u, M u → h u < 40 → M (h u)) : ∀ k w, M w → gr_it h k w < 40 → M (gr_it h k w)
  | 0, _, a, _ => a
  | k + 1, w, a, b => by
    have h1 : h w < 40 := gr_it_lo G (k := k) (i := 0) (u := h w) (by omega) b
    exact gr_cl_it G hc k (h w) (hc w a h1) b
theorem gr_R_sub (G : gr_G n h) {M : Nat → Prop} (h0 : ∀ x, x < vs → va x < 40 → M (va x)) (hc : ∀ u, M u → h u < 40 → M (h u)) {u : Nat} (r : gr_R h va vs u) : M u := by
  obtain ⟨hu, x, hx, k, e⟩ := r
  have h1 : va x < 40 := gr_it_lo G (k := k) (i := 0) (by omega) (by rw [e]; exact hu)
  have := gr_cl_it G hc k (va x) (h0 x hx h1) (by rw [e]; exact hu)
  rw [e] at this
  exact this
/-! each walk adds at most one node with two predecessors -/
theorem gr_Tw (G : gr_G n h) : ∀ (m : Nat) (M : Nat → Prop) (cur : Nat) (T : List Nat), gr_cn (fun u => ¬ M u) 40 ≤ m → (∀ u, M u → u < 40) → (∀ u, M u → h u < 40 → M (h u) ∨ h u = cur) →
    (∀ t, t < 40 → ¬ t ∈ T → gr_cn (fun w => M w ∧ h w = t) 40 ≤ gr_b1 (M t ∨ t = cur)) →
    ∃ (M' : Nat → Prop) (T' : List Nat), T'.length ≤ T.length + 1 ∧ (∀ u, M u → M' u) ∧ (cur < 40 → M' cur) ∧ (∀ u, M' u → h u < 40 → M' (h u)) ∧ (∀ u, M' u → u < 40 ∧ (M u ∨ gr_to h cur u)) ∧
      (∀ t, t < 40 → ¬ t ∈ T' → gr_cn (fun w => M' w ∧ h w = t) 40 ≤ 1) := by
  intro m
  induction m with
  | zero =>
    intro M cur T hm hM hc hd
    have hall : ∀ k, k < 40 → M k := fun k hk => Classical.not_not.mp (gr_cn_of0 (Nat.le_zero.mp hm) k hk)
    refine ⟨M, cur :: T, by simp, fun _ a => a, fun z => hall _ z, fun u a b => hall _ b, fun u a => ⟨hM u a, Or.inl a⟩, fun t ht hn => ?_⟩
    exact Nat.le_trans (hd t ht (fun z => hn (List.mem_cons_of_mem _ z))) (gr_b1_le _)
  | succ m ih =>
    intro M cur T hm hM hc hd
    rcases Nat.lt_or_ge cur 40 with hcur | hcur
    · rcases Classical.em (M cur) with mc | mc
      · refine ⟨M, cur :: T, by simp, fun _ a => a, fun _ => mc, fun u a b => ?_, fun u a => ⟨hM u a, Or.inl a⟩, fun t ht hn => ?_⟩
        · rcases hc u a b with z | z
          · exact z
          · rw [z]; exact mc
        · exact Nat.le_trans (hd t ht (fun z => hn (List.mem_cons_of_mem _ z))) (gr_b1_le _)
      · have hM1 : ∀ u, (M u ∨ u = cur) → u < 40 := fun u q => q.elim (hM u) (fun e => e ▸ hcur)
        have hcn : ∀ t, h cur ≠ t → gr_cn (fun w => (M w ∨ w = cur) ∧ h w = t) 40 = gr_cn (fun w => M w ∧ h w = t) 40 := fun t hne =>
          gr_cn_eq (fun k _ => ⟨fun q => ⟨q.1.elim id (fun e => absurd (e ▸ q.2) hne), q.2⟩, fun q => ⟨Or.inl q.1, q.2⟩⟩)
        rcases Classical.em (h cur < 40 ∧ (M (h cur) ∨ h cur = cur)) with q | q
        · refine ⟨fun u => M u ∨ u = cur, h cur :: T, by simp, fun _ a => Or.inl a, fun _ => Or.inr rfl, fun u a b => ?_, fun u a => ⟨hM1 u a, ?_⟩, fun t ht hn => ?_⟩
          · rcases a with a | a
            · exact hc u a b
            · rw [a]; exact q.2
          · rcases a with a | a
            · exact Or.inl a
            · exact Or.inr ⟨0, a.symm⟩
          · have hne : h cur ≠ t := fun e => hn (by rw [e]; exact List.mem_cons_self)
            rw [hcn t hne]
            exact Nat.le_trans (hd t ht (fun z => hn (List.mem_cons_of_mem _ z))) (gr_b1_le _)
        · have hm2 : gr_cn (fun u => ¬ (M u ∨ u = cur)) 40 ≤ m := by
            have e := gr_cn_add (P := fun u => ¬ (M u ∨ u = cur)) (a := cur) (fun z => z (Or.inr rfl)) hcur
            have e2 : gr_cn (fun k => ¬ (M k ∨ k = cur) ∨ k = cur) 40 = gr_cn (fun u => ¬ M u) 40 := gr_cn_eq (fun k _ => by
              constructor
              · intro z
                rcases z with z | z
                · exact fun y => z (Or.inl y)
                · rw [z]; exact mc
              · intro z
                rcases Nat.decEq k cur with y | y
                · exact Or.inl (fun w => w.elim z y)
                · exact Or.inr y)
            have e3 : gr_cn (fun k => (fun u => ¬ (M u ∨ u = cur)) k ∨ k = cur) 40 = gr_cn (fun k => ¬ (M k ∨ k = cur) ∨ k = cur) 40 := rfl
            omega
          obtain ⟨M', T', a1, a2, a3, a4, a5, a6⟩ := ih (fun u => M u ∨ u = cur) (h cur) T hm2 hM1 (fun u a b => by
              rcases a with a | a
              · exact Or.inl (hc u a b)
              · rw [a]; exact Or.inr rfl) (fun t ht hn => by
              have h1 := hd t ht hn
              rcases Nat.decEq (h cur) t with e | e
              · rw [hcn t e]
                exact Nat.le_trans h1 (gr_b1_mono (fun y => Or.inl y))
              · have hnot : ¬ (M t ∨ t = cur) := fun y => q ⟨by omega, by rw [e]; exact y⟩
                rw [gr_b1_f hnot] at h1
                rw [gr_b1_t (show (M t ∨ t = cur) ∨ t = h cur from Or.inr e.symm)]
                have e4 := gr_cn_add (P := fun w => M w ∧ h w = t) (a := cur) (fun y => mc y.1) hcur
                have e5 : gr_cn (fun w => (M w ∨ w = cur) ∧ h w = t) 40 ≤ gr_cn (fun k => (M k ∧ h k = t) ∨ k = cur) 40 :=
                  gr_cn_mono (fun k _ y => y.1.elim (fun z => Or.inl ⟨z, y.2⟩) Or.inr)
                omega)
          refine ⟨M', T', a1, fun u a => a2 u (Or.inl a), fun _ => a2 cur (Or.inr rfl), a4, fun u a => ⟨(a5 u a).1, ?_⟩, a6⟩
          rcases (a5 u a).2 with (z | z) | ⟨k, z⟩
          · exact Or.inl z
          · exact Or.inr ⟨0, z.symm⟩
          · exact Or.inr ⟨k + 1, z⟩
    · refine ⟨M, T, by omega, fun _ a => a, fun z => by omega, fun u a b => ?_, fun u a => ⟨hM u a, Or.inl a⟩, fun t ht hn => Nat.le_trans (hd t ht hn) (gr_b1_le _)⟩
      rcases hc u a b with z | z
      · exact z
      · omega
theorem gr_T (G : gr_G n h) : ∀ vs, ∃ T : List Nat, T.length ≤ vs ∧ ∀ t, t < 40 → ¬ t ∈ T → gr_cn (fun w => gr_R h va vs w ∧ h w = t) 40 ≤ 1
  | 0 => ⟨[], Nat.le_refl _, fun t _ _ => by
      rw [gr_cn_zero (fun k _ q => by obtain ⟨⟨_, x, hx, _⟩, _⟩ := q; omega)]
      omega⟩
  | vs + 1 => by
    obtain ⟨T, hT, hd⟩ := gr_T G vs
    obtain ⟨M', T', a1, a2, a3, a4, a5, a6⟩ := gr_Tw G 40 (gr_R h va vs) (va vs) T (gr_cn_le _ _) (fun u a => a.1) (fun u a b => Or.inl (gr_R_s a b)) (fun t ht hn => by
      rcases Classical.em (gr_R h va vs t ∨ t = va vs) with z | z
      · rw [gr_b1_t z]; exact hd t ht hn
      · rw [gr_b1_f z, gr_cn_zero (fun k _ q => z (Or.inl (by rw [← q.2]; exact gr_R_s q.1 (by rw [q.2]; exact ht))))]
        exact Nat.le_refl _)
    refine ⟨T', by omega, fun t ht hn => ?_⟩
    have e : gr_cn (fun w => gr_R h va (vs + 1) w ∧ h w = t) 40 = gr_cn (fun w => M' w ∧ h w = t) 40 := gr_cn_eq (fun k _ => by
      have key : gr_R h va (vs + 1) k ↔ M' k := by
        constructor
        · intro r
          refine gr_R_sub G (va := va) (vs := vs + 1) (M := M') (fun x hx h1 => ?_) a4 r
          rcases Nat.lt_or_ge x vs with z | z
          · exact a2 _ (gr_R_v z h1)
          · have : x = vs := by omega
            subst this
            exact a3 h1
        · intro q
          rcases (a5 k q).2 with z | z
          · exact ⟨z.1, z.2.elim (fun x hx => ⟨x, by omega, hx.2⟩)⟩
          · exact ⟨(a5 k q).1, vs, by omega, z⟩
      rw [key])
    rw [e]
    exact a6 t ht hn
end
end
section
/-! the pure normal form: blur, then numbering -/
theorem gr_cn_N {P : Nat → Prop} {a b : Nat} (h : a ≤ b) : gr_cn P a ≤ gr_cn P b := by
  induction b with
  | zero => have : a = 0 := by omega
            subst this; exact Nat.le_refl _
  | succ b ih =>
    rcases Nat.lt_or_ge b a with z | z
    · have : a = b + 1 := by omega
      subst this; exact Nat.le_refl _
    · have := ih z
      simp only [gr_cn]; omega
noncomputable def gr_fc (h va : Nat → Nat) (vs : Nat) (u : Nat) : Nat := @ite Nat (gr_R h va vs u) (Classical.propDecidable _) (h u) 41
def gr_P (n : Nat) (g va : Nat → Nat) (vs t : Nat) : Prop := (∀ x, x < vs → va x ≠ t) ∧ gr_cn (fun w => g w = t) n < 2
theorem gr_fc_t {h va : Nat → Nat} {vs u : Nat} (r : gr_R h va vs u) : gr_fc h va vs u = h u := by unfold gr_fc; rw [if_pos r]
theorem gr_fc_f {h va : Nat → Nat} {vs u : Nat} (r : ¬ gr_R h va vs u) : gr_fc h va vs u = 41 := by unfold gr_fc; rw [if_neg r]
noncomputable def gr_bl1 (P : Nat → Prop) (u : Nat) : Nat → (Nat → Nat) × (Nat → Bool) → (Nat → Nat) × (Nat → Bool)
  | 0, s => s
  | k + 1, s => @ite _ (s.1 u < 40 ∧ s.1 u ≠ u ∧ P (s.1 u)) (Classical.propDecidable _) (gr_bl1 P u k (gr_up (gr_up s.1 u (s.1 (s.1 u))) (s.1 u) 41, gr_up s.2 u true)) s
noncomputable def gr_bl (P : Nat → Prop) : Nat → (Nat → Nat) × (Nat → Bool) → (Nat → Nat) × (Nat → Bool)
  | 0, s => s
  | m + 1, s => @ite _ (P m) (Classical.propDecidable _) (gr_bl1 P m 40 (gr_bl P m s)) (gr_bl P m s)
theorem gr_bl1_t {P : Nat → Prop} {u k : Nat} {s : (Nat → Nat) × (Nat → Bool)} (c : s.1 u < 40 ∧ s.1 u ≠ u ∧ P (s.1 u)) : gr_bl1 P u (k + 1) s = gr_bl1 P u k (gr_up (gr_up s.1 u (s.1 (s.1 u))) (s.1 u) 41, gr_up s.2 u true) := by
  rw [gr_bl1, if_pos c]
theorem gr_bl1_f {P : Nat → Prop} {u k : Nat} {s : (Nat → Nat) × (Nat → Bool)} (c : ¬ (s.1 u < 40 ∧ s.1 u ≠ u ∧ P (s.1 u))) : gr_bl1 P u (k + 1) s = s := by
  rw [gr_bl1, if_neg c]
theorem gr_bl_t {P : Nat → Prop} {m : Nat} {s : (Nat → Nat) × (Nat → Bool)} (c : P m) : gr_bl P (m + 1) s = gr_bl1 P m 40 (gr_bl P m s) := by
  rw [gr_bl, if_pos c]
theorem gr_bl_f {P : Nat → Prop} {m : Nat} {s : (Nat → Nat) × (Nat → Bool)} (c : ¬ P m) : gr_bl P (m + 1) s = gr_bl P m s := by
  rw [gr_bl, if_neg c]
section
variable {n vs : Nat} {h va : Nat → Nat} {sm : Nat → Bool}
def gr_PP (n vs : Nat) (h va : Nat → Nat) : Nat → Prop := gr_P n (gr_fc h va vs) va vs
/-- hypotheses on a structure that is to be normalised -/
def gr_W (n vs : Nat) (h va : Nat → Nat) : Prop := gr_G n h ∧ (∀ x, x < vs → va x < n ∨ va x = 40) ∧ ∀ u, gr_R h va vs u → h u ≠ 41
def gr_BR (n vs : Nat) (h va : Nat → Nat) (sm : Nat → Bool) (g : Nat → Nat) (mm : Nat → Bool) (u j : Nat) : Prop :=
  g u = gr_it h (j + 1) u ∧ (∀ i, 1 ≤ i → i ≤ j → gr_PP n vs h va (gr_it h i u) ∧ gr_it h i u < 40 ∧ g (gr_it h i u) = 41) ∧ (0 < j → gr_PP n vs h va u) ∧ (mm u = true ↔ sm u = true ∨ 0 < j)
def gr_CT (n vs : Nat) (h va : Nat → Nat) (sm : Nat → Bool) (g : Nat → Nat) (mm : Nat → Bool) : Prop :=
  (∀ u, g u ≠ 41 → gr_R h va vs u) ∧
  (∀ u, g u ≠ 41 → ∃ j, gr_BR n vs h va sm g mm u j) ∧
  (∀ u, gr_R h va vs u → ¬ gr_PP n vs h va u → g u ≠ 41) ∧
  (∀ t, t < 40 → g t ≠ 41 → gr_cn (fun w => g w = t) n = gr_cn (fun w => gr_fc h va vs w = t) n) ∧
  (∀ u, g u < 40 → g (g u) ≠ 41) ∧ (∀ u, g u ≤ 41)
theorem gr_CT0 (W : gr_W n vs h va) : gr_CT n vs h va sm (gr_fc h va vs) sm := by
  have key : ∀ u, gr_fc h va vs u ≠ 41 → gr_R h va vs u := fun u z => Classical.byContradiction fun y => z (gr_fc_f y)
  refine ⟨key, fun u z => ⟨0, ?_, fun i a b => by omega, fun z => by omega, ⟨Or.inl, fun q => q.elim id (fun z => by omega)⟩⟩, fun u r _ => ?_, fun _ _ _ => rfl, fun u z => ?_, fun u => ?_⟩
  · rw [gr_fc_t (key u z)]; rfl
  · rw [gr_fc_t r]; exact W.2.2 u r
  · have r := key u (by omega)
    rw [gr_fc_t r] at z ⊢
    have r2 := gr_R_s r z
    rw [gr_fc_t r2]
    exact W.2.2 _ r2
  · rcases Classical.em (gr_R h va vs u) with r | r
    · rw [gr_fc_t r]; exact gr_le41 W.1 u
    · rw [gr_fc_f r]; omega
theorem gr_CTs (W : gr_W n vs h va) {g : Nat → Nat} {mm : Nat → Bool} (C : gr_CT n vs h va sm g mm) {u : Nat} (pu : gr_PP n vs h va u) (hv : g u < 40) (hne : g u ≠ u) (pv : gr_PP n vs h va (g u)) :
    gr_CT n vs h va sm (gr_up (gr_up g u (g (g u))) (g u) 41) (gr_up mm u true) := by
  obtain ⟨c1, c2, c3, c4, c5, c6⟩ := C
  have hu41 : g u ≠ 41 := by omega
  have ku : g (g u) ≠ 41 := c5 u hv
  have un : u < n := gr_R_n W.1 W.2.1 (c1 u hu41)
  have vn : g u < n := gr_R_n W.1 W.2.1 (c1 _ ku)
  have cv : gr_cn (fun w => g w = g u) n < 2 := by rw [c4 _ hv ku]; exact pv.2
  have uniq : ∀ w, g w = g u → w = u := fun w e => by
    have wn : w < n := gr_R_n W.1 W.2.1 (c1 w (by omega))
    exact gr_cn_uniq cv wn un e rfl
  have tv : g (g u) ≠ g u := fun e => hne (uniq _ e)
  generalize hV : g u = v at *
  generalize hT : g v = t at *
  have hg' : ∀ w, w ≠ v → w ≠ u → gr_up (gr_up g u t) v 41 w = g w := fun w a b => by rw [gr_up_n a, gr_up_n b]
  have hgv : gr_up (gr_up g u t) v 41 v = 41 := gr_up_s
  have hgu : gr_up (gr_up g u t) v 41 u = t := by rw [gr_up_n (Ne.symm hne), gr_up_s]
  have g41 : ∀ w, g w = 41 → gr_up (gr_up g u t) v 41 w = 41 := fun w e => by
    rcases Nat.decEq w v with a | a
    · rw [hg' w a (fun z => hu41 (by rw [← hV, ← z]; exact e))]; exact e
    · rw [a]; exact hgv
  have kept : ∀ w, gr_up (gr_up g u t) v 41 w ≠ 41 → w ≠ v ∧ g w ≠ 41 := fun w z => ⟨fun e => z (by rw [e]; exact hgv), fun e => z (g41 w e)⟩
  refine ⟨fun w z => c1 w (kept w z).2, fun w z => ?_, fun w r hp => ?_, fun x hx z => ?_, fun w z => ?_, fun w => ?_⟩
  · obtain ⟨wv, w41⟩ := kept w z
    obtain ⟨j, b1, b2, b3, b4⟩ := c2 w w41
    rcases Nat.decEq w u with e | e
    · exact ⟨j, by rw [hg' w wv e]; exact b1, fun i p q => ⟨(b2 i p q).1, (b2 i p q).2.1, g41 _ (b2 i p q).2.2⟩, b3, by rw [gr_up_n e]; exact b4⟩
    · subst e
      obtain ⟨j2, d1, d2, d3, d4⟩ := c2 v (by rw [hT]; exact ku)
      have ev : gr_it h (j + 1) w = v := by rw [← b1]; exact hV
      refine ⟨j + 1 + j2, ?_, fun i p q => ?_, fun _ => pu, ?_⟩
      · have e3 : gr_it h (j + 1 + j2 + 1) w = gr_it h (j2 + 1) v := by rw [show j + 1 + j2 + 1 = (j + 1) + (j2 + 1) by omega, gr_it_add, ev]
        rw [hgu, ← hT, d1, e3]
      · rcases Nat.lt_or_ge j i with y | y
        · rcases Nat.lt_or_ge (j + 1) i with y2 | y2
          · have e2 : gr_it h i w = gr_it h (i - (j + 1)) v := by rw [← ev, ← gr_it_add]; exact congrArg (fun k => gr_it h k w) (by omega)
            rw [e2]
            have := d2 (i - (j + 1)) (by omega) (by omega)
            exact ⟨this.1, this.2.1, g41 _ this.2.2⟩
          · have e2 : i = j + 1 := by omega
            rw [e2, ev]
            exact ⟨pv, hv, hgv⟩
        · exact ⟨(b2 i p y).1, (b2 i p y).2.1, g41 _ (b2 i p y).2.2⟩
      · rw [gr_up_s]; exact ⟨fun _ => Or.inr (by omega), fun _ => rfl⟩
  · rw [hg' w (fun e => hp (e ▸ pv)) (fun e => hp (e ▸ pu))]
    exact c3 w r hp
  · obtain ⟨xv, x41⟩ := kept x z
    rw [← c4 x hx x41]
    have e1 := gr_cn_upd (g := g) (a := u) (x := t) (t := x) un
    have e2 := gr_cn_upd (g := gr_up g u t) (a := v) (x := 41) (t := x) vn
    rw [gr_up_n (show v ≠ u from hne), hT, gr_b1_f (show ¬ 41 = x by omega)] at e2
    rw [hV, gr_b1_f (fun e => xv e.symm)] at e1
    omega
  · rcases Nat.decEq w u with e | e
    · obtain ⟨wv, w41⟩ := kept w (by omega)
      rw [hg' w wv e] at z ⊢
      have k2 := c5 w z
      have nv : g w ≠ v := fun y => e (uniq w y)
      rcases Nat.decEq (g w) u with y | y
      · rw [hg' _ nv y]; exact k2
      · rw [y, hgu]; exact ku
    · subst e
      rw [hgu] at z ⊢
      have k2 : g t ≠ 41 := by rw [← hT]; exact c5 v (by rw [hT]; exact z)
      rcases Nat.decEq t w with y | y
      · rw [hg' t tv y]; exact k2
      · have e5 : gr_up (gr_up g w t) v 41 t = t := (congrArg (gr_up (gr_up g w t) v 41) y).trans hgu
        rw [e5]; omega
  · rcases Nat.decEq w v with a | a
    · rcases Nat.decEq w u with b | b
      · rw [hg' w a b]; exact c6 w
      · rw [b, hgu, ← hT]; exact c6 v
    · rw [a, hgv]; omega
def gr_D (n vs : Nat) (h va g : Nat → Nat) (u : Nat) : Prop := g u ≠ 41 → gr_PP n vs h va u → 40 ≤ g u ∨ g u = u ∨ ¬ gr_PP n vs h va (g u)
theorem gr_bl1_ok (W : gr_W n vs h va) {u : Nat} (pu : gr_PP n vs h va u) : ∀ (k : Nat) (s : (Nat → Nat) × (Nat → Bool)), gr_CT n vs h va sm s.1 s.2 → gr_cn (fun w => s.1 w ≠ 41) 40 ≤ k →
    gr_CT n vs h va sm (gr_bl1 (gr_PP n vs h va) u k s).1 (gr_bl1 (gr_PP n vs h va) u k s).2 ∧ gr_D n vs h va (gr_bl1 (gr_PP n vs h va) u k s).1 u ∧
    ∀ w, w ≠ u → gr_D n vs h va s.1 w → gr_D n vs h va (gr_bl1 (gr_PP n vs h va) u k s).1 w := by
  intro k
  induction k with
  | zero =>
    intro s C hk
    refine ⟨C, fun z _ => ?_, fun w _ d => d⟩
    exact absurd z (gr_cn_of0 (Nat.le_zero.mp hk) u (C.1 u z).1)
  | succ k ih =>
    intro s C hk
    rcases Classical.em (s.1 u < 40 ∧ s.1 u ≠ u ∧ gr_PP n vs h va (s.1 u)) with c | c
    · rw [gr_bl1_t c]
      have C2 := gr_CTs W C pu c.1 c.2.1 c.2.2
      have kv : s.1 (s.1 u) ≠ 41 := C.2.2.2.2.1 u c.1
      have hk2 : gr_cn (fun w => gr_up (gr_up s.1 u (s.1 (s.1 u))) (s.1 u) 41 w ≠ 41) 40 ≤ k := by
        have e := gr_cn_add (P := fun w => gr_up (gr_up s.1 u (s.1 (s.1 u))) (s.1 u) 41 w ≠ 41) (a := s.1 u) (fun z => z gr_up_s) c.1
        have e2 : gr_cn (fun k => gr_up (gr_up s.1 u (s.1 (s.1 u))) (s.1 u) 41 k ≠ 41 ∨ k = s.1 u) 40 = gr_cn (fun w => s.1 w ≠ 41) 40 := by
          refine gr_cn_eq (fun w _ => ?_)
          show gr_up (gr_up s.1 u (s.1 (s.1 u))) (s.1 u) 41 w ≠ 41 ∨ w = s.1 u ↔ s.1 w ≠ 41
          rcases Nat.decEq w (s.1 u) with a | a
          · rw [gr_up_n a]
            rcases Nat.decEq w u with b | b
            · rw [gr_up_n b]; exact ⟨fun q => q.elim id (fun z => absurd z a), Or.inl⟩
            · rw [b, gr_up_s]; exact ⟨fun _ => by have := c.1; omega, fun _ => Or.inl kv⟩
          · exact ⟨fun _ => by rw [a]; exact kv, fun _ => Or.inr a⟩
        omega
      obtain ⟨i1, i2, i3⟩ := ih (gr_up (gr_up s.1 u (s.1 (s.1 u))) (s.1 u) 41, gr_up s.2 u true) C2 hk2
      refine ⟨i1, i2, fun w hw d => i3 w hw ?_⟩
      intro z p
      have wv : w ≠ s.1 u := fun e => z (by rw [e]; exact gr_up_s)
      have e : gr_up (gr_up s.1 u (s.1 (s.1 u))) (s.1 u) 41 w = s.1 w := by rw [gr_up_n wv, gr_up_n hw]
      show 40 ≤ gr_up (gr_up s.1 u (s.1 (s.1 u))) (s.1 u) 41 w ∨ gr_up (gr_up s.1 u (s.1 (s.1 u))) (s.1 u) 41 w = w ∨ ¬ gr_PP n vs h va (gr_up (gr_up s.1 u (s.1 (s.1 u))) (s.1 u) 41 w)
      rw [e]
      exact d (by rw [← e]; exact z) p
    · rw [gr_bl1_f c]
      refine ⟨C, fun z _ => ?_, fun w _ d => d⟩
      rcases Nat.lt_or_ge (s.1 u) 40 with a | a
      · rcases Nat.decEq (s.1 u) u with b | b
        · exact Or.inr (Or.inr (fun p => c ⟨a, b, p⟩))
        · exact Or.inr (Or.inl b)
      · exact Or.inl a
noncomputable def gr_B (n vs : Nat) (h va : Nat → Nat) (sm : Nat → Bool) (m : Nat) : (Nat → Nat) × (Nat → Bool) := gr_bl (gr_PP n vs h va) m (gr_fc h va vs, sm)
theorem gr_B_ok (W : gr_W n vs h va) : ∀ m, gr_CT n vs h va sm (gr_B n vs h va sm m).1 (gr_B n vs h va sm m).2 ∧ ∀ u, u < m → gr_D n vs h va (gr_B n vs h va sm m).1 u
  | 0 => ⟨gr_CT0 W, fun u z => by omega⟩
  | m + 1 => by
    obtain ⟨C, D⟩ := gr_B_ok W m
    rcases Classical.em (gr_PP n vs h va m) with p | p
    · have e : gr_B n vs h va sm (m + 1) = gr_bl1 (gr_PP n vs h va) m 40 (gr_B n vs h va sm m) := gr_bl_t p
      rw [e]
      obtain ⟨i1, i2, i3⟩ := gr_bl1_ok W p 40 (gr_B n vs h va sm m) C (gr_cn_le _ _)
      refine ⟨i1, fun u hu => ?_⟩
      rcases Nat.decEq u m with z | z
      · exact i3 u z (D u (by omega))
      · rw [z]; exact i2
    · have e : gr_B n vs h va sm (m + 1) = gr_B n vs h va sm m := gr_bl_f p
      rw [e]
      refine ⟨C, fun u hu => ?_⟩
      rcases Nat.decEq u m with z | z
      · exact D u (by omega)
      · exact fun _ q => absurd (z ▸ q) p
/-- the blurred structure -/
noncomputable def gr_g (n vs : Nat) (h va : Nat → Nat) (sm : Nat → Bool) : Nat → Nat := (gr_B n vs h va sm n).1
noncomputable def gr_mm (n vs : Nat) (h va : Nat → Nat) (sm : Nat → Bool) : Nat → Bool := (gr_B n vs h va sm n).2
theorem gr_g_CT (W : gr_W n vs h va) : gr_CT n vs h va sm (gr_g n vs h va sm) (gr_mm n vs h va sm) := (gr_B_ok W n).1
theorem gr_g_D (W : gr_W n vs h va) (u : Nat) : gr_D n vs h va (gr_g n vs h va sm) u := by
  rcases Nat.lt_or_ge u n with z | z
  · exact (gr_B_ok W n).2 u z
  · intro k
    have := gr_R_n W.1 W.2.1 ((gr_g_CT W).1 u k)
    omega
/-- the block's length, chosen -/
theorem gr_J (W : gr_W n vs h va) : ∃ J : Nat → Nat, ∀ u, gr_g n vs h va sm u ≠ 41 → gr_BR n vs h va sm (gr_g n vs h va sm) (gr_mm n vs h va sm) u (J u) := by
  have key : ∀ u, ∃ j, gr_g n vs h va sm u ≠ 41 → gr_BR n vs h va sm (gr_g n vs h va sm) (gr_mm n vs h va sm) u j := fun u => by
    rcases Nat.decEq (gr_g n vs h va sm u) 41 with z | z
    · obtain ⟨j, hj⟩ := (gr_g_CT W).2.1 u z
      exact ⟨j, fun _ => hj⟩
    · exact ⟨0, fun y => absurd z y⟩
  exact ⟨fun u => (key u).choose, fun u z => (key u).choose_spec z⟩
theorem gr_it_R (W : gr_W n vs h va) {J : Nat → Nat} (hJ : ∀ u, gr_g n vs h va sm u ≠ 41 → gr_BR n vs h va sm (gr_g n vs h va sm) (gr_mm n vs h va sm) u (J u)) {w i : Nat} (kw : gr_g n vs h va sm w ≠ 41) (hi : i ≤ J w) : gr_R h va vs (gr_it h i w) := by
  have r := (gr_g_CT W).1 w kw
  rcases Nat.eq_zero_or_pos i with z | z
  · subst z; exact r
  · exact gr_R_it W.1 r ((hJ w kw).2.1 i z hi).2.1
theorem gr_DJ (W : gr_W n vs h va) {J : Nat → Nat} (hJ : ∀ u, gr_g n vs h va sm u ≠ 41 → gr_BR n vs h va sm (gr_g n vs h va sm) (gr_mm n vs h va sm) u (J u)) {w w' : Nat} (kw : gr_g n vs h va sm w ≠ 41) (kw' : gr_g n vs h va sm w' ≠ 41) :
    ∀ i i', i ≤ J w → i' ≤ J w' → gr_it h i w = gr_it h i' w' → w = w' ∧ i = i'
  | 0, 0, _, _, e => ⟨e, rfl⟩
  | 0, i' + 1, _, hi', e => by
    have := ((hJ w' kw').2.1 (i' + 1) (by omega) hi').2.2
    rw [← e] at this
    exact absurd this kw
  | i + 1, 0, hi, _, e => by
    have := ((hJ w kw).2.1 (i + 1) (by omega) hi).2.2
    rw [e] at this
    exact absurd this kw'
  | i + 1, i' + 1, hi, hi', e => by
    have p := ((hJ w kw).2.1 (i + 1) (by omega) hi).1
    have r1 := gr_it_R W hJ kw (i := i) (by omega)
    have r2 := gr_it_R W hJ kw' (i := i') (by omega)
    have e1 : gr_fc h va vs (gr_it h i w) = gr_it h (i + 1) w := by rw [gr_fc_t r1, gr_it_s]
    have e2 : gr_fc h va vs (gr_it h i' w') = gr_it h (i + 1) w := by rw [gr_fc_t r2, e, gr_it_s]
    have e3 := gr_cn_uniq p.2 (gr_R_n W.1 W.2.1 r1) (gr_R_n W.1 W.2.1 r2) e1 e2
    have := gr_DJ W hJ kw kw' i i' (by omega) (by omega) e3
    exact ⟨this.1, by omega⟩
/-! numbering -/
def gr_nw1 (g : Nat → Nat) : Nat → Nat → Nat × (Nat → Nat) × (Nat → Nat) → Nat × (Nat → Nat) × (Nat → Nat)
  | 0, _, s => s
  | k + 1, p, s => if p < 40 ∧ s.2.1 p = 40 then gr_nw1 g k (g p) (s.1 + 1, gr_up s.2.1 p s.1, gr_up s.2.2 s.1 p) else s
def gr_nw (g va : Nat → Nat) : Nat → Nat × (Nat → Nat) × (Nat → Nat)
  | 0 => (0, fun _ => 40, fun _ => 40)
  | x + 1 => gr_nw1 g 40 (va x) (gr_nw g va x)
theorem gr_nw1_t {g : Nat → Nat} {k p : Nat} {s : Nat × (Nat → Nat) × (Nat → Nat)} (c : p < 40 ∧ s.2.1 p = 40) : gr_nw1 g (k + 1) p s = gr_nw1 g k (g p) (s.1 + 1, gr_up s.2.1 p s.1, gr_up s.2.2 s.1 p) := by
  rw [gr_nw1, if_pos c]
theorem gr_nw1_f {g : Nat → Nat} {k p : Nat} {s : Nat × (Nat → Nat) × (Nat → Nat)} (c : ¬ (p < 40 ∧ s.2.1 p = 40)) : gr_nw1 g k p s = s := by
  cases k with
  | zero => rfl
  | succ k => rw [gr_nw1, if_neg c]
def gr_HD (n vs : Nat) (h va : Nat → Nat) (u : Nat) : Prop := ¬ gr_PP n vs h va u ∨ ∃ w, gr_R h va vs w ∧ ¬ gr_PP n vs h va w ∧ h w = u
theorem gr_cover (W : gr_W n vs h va) (hvs : vs ≤ 3) : ∃ L : List Nat, L.length ≤ 12 ∧ ∀ u, gr_R h va vs u → gr_HD n vs h va u → u ∈ L := by
  obtain ⟨T, hT, hd⟩ := gr_T (va := va) W.1 vs
  have key : ∀ w, gr_R h va vs w → ¬ gr_PP n vs h va w → w ∈ (List.range vs).map va ++ T := by
    intro w r p
    rcases Classical.em (∃ x, x < vs ∧ va x = w) with ⟨x, hx, e⟩ | q
    · exact List.mem_append.mpr (Or.inl (List.mem_map.mpr ⟨x, List.mem_range.mpr hx, e⟩))
    · refine List.mem_append.mpr (Or.inr (Classical.byContradiction fun z => p ⟨fun x hx e => q ⟨x, hx, e⟩, ?_⟩))
      have h1 := hd w r.1 z
      have h2 := gr_cn_N (P := fun k => gr_fc h va vs k = w) W.1.1
      have h3 : gr_cn (fun k => gr_fc h va vs k = w) 40 = gr_cn (fun k => gr_R h va vs k ∧ h k = w) 40 := gr_cn_eq (fun k _ => by
        rcases Classical.em (gr_R h va vs k) with y | y
        · rw [gr_fc_t y]; exact ⟨fun e => ⟨y, e⟩, fun e => e.2⟩
        · rw [gr_fc_f y]; exact ⟨fun e => by have := r.1; omega, fun e => absurd e.1 y⟩)
      omega
  refine ⟨((List.range vs).map va ++ T) ++ ((List.range vs).map va ++ T).map h, ?_, fun u r q => ?_⟩
  · simp only [List.length_append, List.length_map, List.length_range]; omega
  · rcases q with q | ⟨w, rw', pw, e⟩
    · exact List.mem_append.mpr (Or.inl (key u r q))
    · exact List.mem_append.mpr (Or.inr (List.mem_map.mpr ⟨w, key w rw' pw, e⟩))
def gr_NI (n vs : Nat) (h va : Nat → Nat) (g : Nat → Nat) (s : Nat × (Nat → Nat) × (Nat → Nat)) (cur : Nat) : Prop :=
  s.1 ≤ 12 ∧ (∀ u, s.2.1 u ≠ 40 → u < 40 ∧ g u ≠ 41 ∧ s.2.1 u < s.1 ∧ s.2.2 (s.2.1 u) = u) ∧
  (∀ i, i < s.1 → s.2.2 i < 40 ∧ g (s.2.2 i) ≠ 41 ∧ s.2.1 (s.2.2 i) = i ∧ gr_HD n vs h va (s.2.2 i)) ∧
  (∀ u, s.2.1 u ≠ 40 → g u < 40 → s.2.1 (g u) ≠ 40 ∨ g u = cur) ∧ (cur < 40 → g cur ≠ 41 ∧ gr_HD n vs h va cur)
theorem gr_NI_next (W : gr_W n vs h va) {p : Nat} (kp : gr_g n vs h va sm p ≠ 41) (hd : gr_HD n vs h va p) (hl : gr_g n vs h va sm p < 40) :
    gr_g n vs h va sm (gr_g n vs h va sm p) ≠ 41 ∧ gr_HD n vs h va (gr_g n vs h va sm p) := by
  have C := gr_g_CT (sm := sm) W
  refine ⟨C.2.2.2.2.1 p hl, ?_⟩
  rcases Classical.em (gr_PP n vs h va p) with q | q
  · rcases gr_g_D W p kp q with z | z | z
    · omega
    · rw [z]; exact hd
    · exact Or.inl z
  · obtain ⟨j, b1, b2, b3, b4⟩ := C.2.1 p kp
    have : j = 0 := Nat.eq_zero_of_not_pos (fun z => q (b3 z))
    subst this
    exact Or.inr ⟨p, C.1 p kp, q, b1.symm⟩
theorem gr_NIs (W : gr_W n vs h va) (hvs : vs ≤ 3) {s : Nat × (Nat → Nat) × (Nat → Nat)} {p : Nat} (I : gr_NI n vs h va (gr_g n vs h va sm) s p) (hp : p < 40) (hn : s.2.1 p = 40) :
    gr_NI n vs h va (gr_g n vs h va sm) (s.1 + 1, gr_up s.2.1 p s.1, gr_up s.2.2 s.1 p) (gr_g n vs h va sm p) := by
  obtain ⟨n1, n2, n3, n4, n5⟩ := I
  obtain ⟨kp, hdp⟩ := n5 hp
  have C := gr_g_CT (sm := sm) W
  have hvis : ∀ i, i < s.1 → s.2.2 i ≠ p := fun i hi e => by
    have := (n3 i hi).2.2.1
    rw [e, hn] at this
    omega
  have m3 : ∀ i, i < s.1 + 1 → gr_up s.2.2 s.1 p i < 40 ∧ gr_g n vs h va sm (gr_up s.2.2 s.1 p i) ≠ 41 ∧ gr_up s.2.1 p s.1 (gr_up s.2.2 s.1 p i) = i ∧ gr_HD n vs h va (gr_up s.2.2 s.1 p i) := by
    intro i hi
    rcases Nat.decEq i s.1 with z | z
    · rw [gr_up_n z, gr_up_n (hvis i (by omega))]
      exact n3 i (by omega)
    · rw [z, gr_up_s, gr_up_s]
      exact ⟨hp, kp, rfl, hdp⟩
  have hc : s.1 + 1 ≤ 12 := by
    obtain ⟨L, hL, hin⟩ := gr_cover W hvs
    have h1 := gr_inj (g := gr_up s.2.2 s.1 p) (N := 40) (s.1 + 1) (fun i hi => (m3 i hi).1) (fun i j hij hj e => by
      have a := (m3 i (by omega)).2.2.1
      have b := (m3 j hj).2.2.1
      rw [e] at a
      omega)
    have h2 := gr_cn_list L (P := fun t => ∃ i, i < s.1 + 1 ∧ gr_up s.2.2 s.1 p i = t) (N := 40) (fun k _ q => by
      obtain ⟨i, hi, e⟩ := q
      rw [← e]
      exact hin _ (C.1 _ (m3 i hi).2.1) (m3 i hi).2.2.2)
    omega
  refine ⟨hc, fun u hu => ?_, m3, fun u hu hg => ?_, fun hl => gr_NI_next W kp hdp hl⟩
  · rcases Nat.decEq u p with z | z
    · rw [show (s.1 + 1, gr_up s.2.1 p s.1, gr_up s.2.2 s.1 p).2.1 u = s.2.1 u from gr_up_n z] at hu ⊢
      obtain ⟨a, b, c, d⟩ := n2 u hu
      refine ⟨a, b, by show s.2.1 u < s.1 + 1; omega, ?_⟩
      show gr_up s.2.2 s.1 p (s.2.1 u) = u
      rw [gr_up_n (by omega)]
      exact d
    · subst z
      refine ⟨hp, kp, ?_, ?_⟩
      · show gr_up s.2.1 u s.1 u < s.1 + 1
        rw [gr_up_s]; omega
      · show gr_up s.2.2 s.1 u (gr_up s.2.1 u s.1 u) = u
        rw [gr_up_s, gr_up_s]
  · rcases Nat.decEq u p with z | z
    · rw [show (s.1 + 1, gr_up s.2.1 p s.1, gr_up s.2.2 s.1 p).2.1 u = s.2.1 u from gr_up_n z] at hu
      refine Or.inl ?_
      show gr_up s.2.1 p s.1 (gr_g n vs h va sm u) ≠ 40
      rcases Nat.decEq (gr_g n vs h va sm u) p with y | y
      · rw [gr_up_n y]
        rcases n4 u hu hg with w | w
        · exact w
        · exact absurd w y
      · rw [y, gr_up_s]; omega
    · rw [z]; exact Or.inr rfl
theorem gr_nw1_ok (W : gr_W n vs h va) (hvs : vs ≤ 3) : ∀ (k p : Nat) (s : Nat × (Nat → Nat) × (Nat → Nat)), gr_NI n vs h va (gr_g n vs h va sm) s p → 40 ≤ k + s.1 →
    gr_NI n vs h va (gr_g n vs h va sm) (gr_nw1 (gr_g n vs h va sm) k p s) 40 ∧ (p < 40 → (gr_nw1 (gr_g n vs h va sm) k p s).2.1 p ≠ 40) ∧ ∀ u, s.2.1 u ≠ 40 → (gr_nw1 (gr_g n vs h va sm) k p s).2.1 u ≠ 40 := by
  intro k
  induction k with
  | zero => intro p s I hk; have := I.1; omega
  | succ k ih =>
    intro p s I hk
    rcases Classical.em (p < 40 ∧ s.2.1 p = 40) with c | c
    · rw [gr_nw1_t c]
      have h1 := I.1
      obtain ⟨a, b, d⟩ := ih (gr_g n vs h va sm p) (s.1 + 1, gr_up s.2.1 p s.1, gr_up s.2.2 s.1 p) (gr_NIs W hvs I c.1 c.2) (by show 40 ≤ k + (s.1 + 1); omega)
      refine ⟨a, fun _ => d p ?_, fun u hu => d u ?_⟩
      · show gr_up s.2.1 p s.1 p ≠ 40
        rw [gr_up_s]; omega
      · show gr_up s.2.1 p s.1 u ≠ 40
        rw [gr_up_n (fun e => hu (by rw [e]; exact c.2))]; exact hu
    · rw [gr_nw1_f c]
      obtain ⟨n1, n2, n3, n4, n5⟩ := I
      refine ⟨⟨n1, n2, n3, fun u hu hg => ?_, fun z => by omega⟩, fun hp z => c ⟨hp, z⟩, fun u hu => hu⟩
      rcases n4 u hu hg with w | w
      · exact Or.inl w
      · exact Or.inl (fun z => c ⟨by omega, by rw [← w]; exact z⟩)
theorem gr_va_HD (W : gr_W n vs h va) {x : Nat} (hx : x < vs) (hv : va x < 40) : gr_g n vs h va sm (va x) ≠ 41 ∧ gr_HD n vs h va (va x) := by
  have hp : ¬ gr_PP n vs h va (va x) := fun p => p.1 x hx rfl
  exact ⟨(gr_g_CT W).2.2.1 _ (gr_R_v hx hv) hp, Or.inl hp⟩
theorem gr_NI_cur (W : gr_W n vs h va) {s : Nat × (Nat → Nat) × (Nat → Nat)} {x : Nat} (hx : x < vs) (I : gr_NI n vs h va (gr_g n vs h va sm) s 40) : gr_NI n vs h va (gr_g n vs h va sm) s (va x) := by
  obtain ⟨n1, n2, n3, n4, n5⟩ := I
  refine ⟨n1, n2, n3, fun u hu hg => ?_, fun z => gr_va_HD W hx z⟩
  rcases n4 u hu hg with w | w
  · exact Or.inl w
  · omega
theorem gr_nw_ok (W : gr_W n vs h va) (hvs : vs ≤ 3) : ∀ x, x ≤ vs → gr_NI n vs h va (gr_g n vs h va sm) (gr_nw (gr_g n vs h va sm) va x) 40 ∧ ∀ y, y < x → va y < 40 → (gr_nw (gr_g n vs h va sm) va x).2.1 (va y) ≠ 40
  | 0, _ => ⟨⟨by show 0 ≤ 12; omega, fun u z => absurd rfl z, fun i z => absurd z (by show ¬ i < 0; omega), fun u z => absurd rfl z, fun z => by omega⟩, fun y z => by omega⟩
  | x + 1, hx => by
    obtain ⟨I, hv⟩ := gr_nw_ok W hvs x (by omega)
    obtain ⟨a, b, d⟩ := gr_nw1_ok W hvs 40 (va x) (gr_nw (gr_g n vs h va sm) va x) (gr_NI_cur W (by omega) I) (by omega)
    refine ⟨a, fun y hy h1 => ?_⟩
    rcases Nat.decEq y x with z | z
    · exact d _ (hv y (by omega) h1)
    · rw [z] at h1 ⊢; exact b h1
/-! the normal form -/
noncomputable def gr_nf (n vs : Nat) (h va : Nat → Nat) (sm : Nat → Bool) : Nat × (Nat → Nat) × (Nat → Nat) := gr_nw (gr_g n vs h va sm) va vs
noncomputable def gr_nfn (n vs : Nat) (h va : Nat → Nat) (sm : Nat → Bool) : Nat := (gr_nf n vs h va sm).1
noncomputable def gr_nfc (n vs : Nat) (h va : Nat → Nat) (sm : Nat → Bool) (u : Nat) : Nat := if u < 40 then (gr_nf n vs h va sm).2.1 u else 40
noncomputable def gr_nfv (n vs : Nat) (h va : Nat → Nat) (sm : Nat → Bool) (x : Nat) : Nat := gr_nfc n vs h va sm (va x)
noncomputable def gr_nfh (n vs : Nat) (h va : Nat → Nat) (sm : Nat → Bool) (i : Nat) : Nat := if i < gr_nfn n vs h va sm then gr_nfc n vs h va sm (gr_g n vs h va sm ((gr_nf n vs h va sm).2.2 i)) else 40
noncomputable def gr_nfs (n vs : Nat) (h va : Nat → Nat) (sm : Nat → Bool) (i : Nat) : Bool := gr_mm n vs h va sm ((gr_nf n vs h va sm).2.2 i)
theorem gr_nf_NI (W : gr_W n vs h va) (hvs : vs ≤ 3) : gr_NI n vs h va (gr_g n vs h va sm) (gr_nf n vs h va sm) 40 := (gr_nw_ok W hvs vs (Nat.le_refl _)).1
theorem gr_nfc_lt (W : gr_W n vs h va) (hvs : vs ≤ 3) {u : Nat} (hu : (gr_nf n vs h va sm).2.1 u ≠ 40) : gr_nfc n vs h va sm u < gr_nfn n vs h va sm := by
  have := (gr_nf_NI W hvs).2.1 u hu
  unfold gr_nfc
  rw [if_pos this.1]
  exact this.2.2.1
/-- what the table holds of an entry -/
def gr_E (n vs : Nat) (h va : Nat → Nat) : Prop := n ≤ 12 ∧ (∀ u, h u < n ∨ h u = 40) ∧ (∀ u, n ≤ u → h u = 40) ∧ ∀ x, x < vs → va x < n ∨ va x = 40
theorem gr_nf_E (W : gr_W n vs h va) (hvs : vs ≤ 3) : gr_E (gr_nfn n vs h va sm) vs (gr_nfh n vs h va sm) (gr_nfv n vs h va sm) := by
  have I := gr_nf_NI (sm := sm) W hvs
  refine ⟨I.1, fun i => ?_, fun i hi => if_neg (by omega), fun x hx => ?_⟩
  · rcases Nat.lt_or_ge i (gr_nfn n vs h va sm) with z | z
    · rw [show gr_nfh n vs h va sm i = gr_nfc n vs h va sm (gr_g n vs h va sm ((gr_nf n vs h va sm).2.2 i)) from if_pos z]
      rcases Nat.lt_or_ge (gr_g n vs h va sm ((gr_nf n vs h va sm).2.2 i)) 40 with y | y
      · have a := I.2.2.1 i z
        have ne : (gr_nf n vs h va sm).2.1 ((gr_nf n vs h va sm).2.2 i) ≠ 40 := by
          rw [a.2.2.1]
          have := I.1
          have : i < (gr_nf n vs h va sm).1 := z
          omega
        rcases I.2.2.2.1 _ ne y with w | w
        · exact Or.inl (gr_nfc_lt W hvs w)
        · omega
      · exact Or.inr (if_neg (by omega))
    · exact Or.inr (if_neg (by omega))
  · rcases Nat.lt_or_ge (va x) 40 with z | z
    · exact Or.inl (gr_nfc_lt W hvs ((gr_nw_ok W hvs vs (Nat.le_refl _)).2 x hx z))
    · exact Or.inr (if_neg (by omega))
theorem gr_E_W {n vs : Nat} {h va : Nat → Nat} (E : gr_E n vs h va) : gr_W n vs h va :=
  ⟨⟨by have := E.1; omega, fun u => (E.2.1 u).elim Or.inl (fun z => Or.inr (Or.inl z)), E.2.2.1⟩, E.2.2.2, fun u _ z => by
    have := E.1
    rcases E.2.1 u with y | y <;> omega⟩
end
end
section
/-! X: markReached -/
theorem ix_12 (s i : Nat) : nI s * 12 + nI i = nI (s * 12 + i) := by rw [show (12 : Int32) = nI 12 from rfl, pk_mul, nI_add]
theorem ix_3 (s i : Nat) : nI s * 3 + nI i = nI (s * 3 + i) := by rw [show (3 : Int32) = nI 3 from rfl, pk_mul, nI_add]
theorem ix_40 (s i : Nat) : nI s * 40 + nI i = nI (s * 40 + i) := by rw [show (40 : Int32) = nI 40 from rfl, pk_mul, nI_add]
theorem ix_4 (s i : Nat) : nI s * 4 + nI i = nI (s * 4 + i) := by rw [show (4 : Int32) = nI 4 from rfl, pk_mul, nI_add]
/-- marking: M0 was marked, the walk began at s and stands at cur -/
def xm_I (h va : Nat → Nat) (vs : Nat) (mk0 : Nat → Int32) (s cur : Nat) (mk : Nat → Int32) : Prop :=
  (∀ u, u < 40 → ¬ mk u = 0 → gr_R h va vs u) ∧ (∀ u, u < 40 → ¬ mk u = 0 → h u < 40 → ¬ mk (h u) = 0 ∨ h u = cur) ∧ (s < 40 → ¬ mk s = 0 ∨ s = cur) ∧
  (∀ u, u < 40 → ¬ mk0 u = 0 → ¬ mk u = 0) ∧ (cur < 40 → gr_R h va vs cur)
section
variable {n vs : Nat} {h va : Nat → Nat} {sm : Nat → Bool}
theorem xm_end {mk0 mk : Nat → Int32} {s cur : Nat} (I : xm_I h va vs mk0 s cur mk) (e : 40 ≤ cur ∨ (cur < 40 ∧ ¬ mk cur = 0)) : xm_I h va vs mk0 s 40 mk := by
  obtain ⟨a, b, c, d, f⟩ := I
  refine ⟨a, fun u hu m hl => ?_, fun hs => ?_, d, fun z => by omega⟩
  · rcases b u hu m hl with z | z
    · exact Or.inl z
    · rcases e with e | e
      · omega
      · rw [z]; exact Or.inl e.2
  · rcases c hs with z | z
    · exact Or.inl z
    · rcases e with e | e
      · omega
      · rw [z]; exact Or.inl e.2
theorem xm_step {mk0 mk : Nat → Int32} {s cur : Nat} (I : xm_I h va vs mk0 s cur mk) (hc : cur < 40) : xm_I h va vs mk0 s (h cur) (upd mk cur 1) := by
  obtain ⟨a, b, c, d, f⟩ := I
  have up : ∀ u, (¬ mk u = 0 ∨ u = cur) → ¬ upd mk cur 1 u = 0 := by
    intro u q
    rcases Nat.decEq u cur with z | z
    · rw [pk_un z]; exact q.elim id (fun e => absurd e z)
    · rw [z, pk_us]; decide
  have dn : ∀ u, ¬ upd mk cur 1 u = 0 → ¬ mk u = 0 ∨ u = cur := by
    intro u q
    rcases Nat.decEq u cur with z | z
    · rw [pk_un z] at q; exact Or.inl q
    · exact Or.inr z
  refine ⟨fun u hu m => ?_, fun u hu m hl => ?_, fun hs => ?_, fun u hu m => up u (Or.inl (d u hu m)), fun hl => gr_R_s (f hc) hl⟩
  · rcases dn u m with z | z
    · exact a u hu z
    · rw [z]; exact f hc
  · rcases dn u m with z | z
    · exact Or.inl (up _ (b u hu z hl))
    · rw [z]; exact Or.inr rfl
  · exact Or.inl (up s (c hs))
theorem xm_cn {mk : Nat → Int32} {cur d : Nat} (hc : cur < 40) (z : mk cur = 0) (hd : gr_cn (fun u => mk u = 0) 40 ≤ d + 1) : gr_cn (fun u => upd mk cur 1 u = 0) 40 ≤ d := by
  have e := gr_cn_add (P := fun u => upd mk cur 1 u = 0) (a := cur) (fun q => by rw [pk_us] at q; exact absurd q (by decide)) hc
  have e2 : gr_cn (fun k => upd mk cur 1 k = 0 ∨ k = cur) 40 = gr_cn (fun u => mk u = 0) 40 := by
    refine gr_cn_eq (fun k _ => ?_)
    show upd mk cur 1 k = 0 ∨ k = cur ↔ mk k = 0
    rcases Nat.decEq k cur with y | y
    · rw [pk_un y]; exact ⟨fun q => q.elim id (fun w => absurd w y), Or.inl⟩
    · rw [y]; exact ⟨fun _ => z, fun _ => Or.inr rfl⟩
  omega
variable {f_vars f_cells f_lengthLimit f_entryLimit f_count f_fixed f_machine f_machinePc f_lostCount f_coinBits f_analysis f_entryCount f_outCount f_outLost f_wCount f_workLost f_numbered f_sumMask f_walkCount f_walkSummary f_walkRing : Int32} {a_opOf a_aOf a_bOf a_tOf a_machineVar a_cellUsed a_cellLink a_tabNodes a_tabSum a_tabVar a_tabSucc a_entPoint a_entPending a_outPoint a_wVar a_wSucc a_wSum a_mark a_head a_preds a_number a_rawNext : Nat → Int32}
theorem xm_93 {post : SX → Prop} (hn : n ≤ 40) (K : ∀ wl, gr_tv wl (∃ u, u < n ∧ a_mark u = 0) → post (f_vars, f_cells, f_lengthLimit, f_entryLimit, f_count, f_fixed, f_machine, f_machinePc, f_lostCount, f_coinBits, f_analysis, f_entryCount, f_outCount, f_outLost, nI n, wl, f_numbered, f_sumMask, f_walkCount, f_walkSummary, f_walkRing, a_opOf, a_aOf, a_bOf, a_tOf, a_machineVar, a_cellUsed, a_cellLink, a_tabNodes, a_tabSum, a_tabVar, a_tabSucc, a_entPoint, a_entPending, a_outPoint, a_wVar, a_wSucc, a_wSum, a_mark, a_head, a_preds, a_number, a_rawNext)) :
    ∀ d i wl, i + d = n → gr_tv wl (∃ u, u < i ∧ a_mark u = 0) → wX_markReached_93 post f_vars f_cells f_lengthLimit f_entryLimit f_count f_fixed f_machine f_machinePc f_lostCount f_coinBits f_analysis f_entryCount f_outCount f_outLost (nI n) f_numbered f_sumMask f_walkCount f_walkSummary f_walkRing a_opOf a_aOf a_bOf a_tOf a_machineVar a_cellUsed a_cellLink a_tabNodes a_tabSum a_tabVar a_tabSucc a_entPoint a_entPending a_outPoint a_wVar a_wSucc a_wSum a_mark a_head a_preds a_number a_rawNext (d + 1) (nI i) wl := by
  intro d
  induction d with
  | zero =>
    intro i wl hi ht
    have e : i = n := by omega
    subst e
    exact br_t (nI_le (by omega) (by omega)) (K wl ht)
  | succ d ih =>
    intro i wl hi ht
    refine br_f (nI_ge (by omega) (by omega)) ⟨vp_in_nI (by omega) (by omega), br_c (fun z => nm_r (nI_1 i) (ih (i + 1) 1 (by omega) ?_)) (fun z => nm_r (nI_1 i) (ih (i + 1) wl (by omega) ?_))⟩
    · rw [nI_clamp (by omega)] at z
      exact gr_tv_t ⟨i, by omega, z⟩
    · rw [nI_clamp (by omega)] at z
      refine gr_tv_iff ⟨fun ⟨u, a, b⟩ => ⟨u, by omega, b⟩, fun ⟨u, a, b⟩ => ⟨u, ?_, b⟩⟩ ht
      rcases Nat.decEq u i with y | y
      · omega
      · rw [y] at b; exact absurd b z
theorem xm_40 {post : SX → Prop} {J23 : Int32 → (Nat → Int32) → (Nat → Int32) → (Nat → Int32) → (Nat → Int32) → (Nat → Int32) → (Nat → Int32) → (Nat → Int32) → (Nat → Int32) → (Nat → Int32) → (Nat → Int32) → (Nat → Int32) → (Nat → Int32) → (Nat → Int32) → (Nat → Int32) → (Nat → Int32) → (Nat → Int32) → (Nat → Int32) → (Nat → Int32) → (Nat → Int32) → (Nat → Int32) → (Nat → Int32) → (Nat → Int32) → Prop} (W : gr_W n vs h va) (hS : ∀ u, u < n → a_wSucc u = gr_ex (h u)) {x s : Nat} {mk0 : Nat → Int32}
    (K : ∀ mk, xm_I h va vs mk0 s 40 mk → J23 (nI (x + 1)) a_opOf a_aOf a_bOf a_tOf a_machineVar a_cellUsed a_cellLink a_tabNodes a_tabSum a_tabVar a_tabSucc a_entPoint a_entPending a_outPoint a_wVar a_wSucc a_wSum mk a_head a_preds a_number a_rawNext) :
    ∀ d k cur mk, k + d = 40 → gr_cn (fun u => mk u = 0) 40 ≤ d → xm_I h va vs mk0 s cur mk → wX_markReached_40 post J23 (nI x) f_vars f_cells f_lengthLimit f_entryLimit f_count f_fixed f_machine f_machinePc f_lostCount f_coinBits f_analysis f_entryCount f_outCount f_outLost f_wCount f_workLost f_numbered f_sumMask f_walkCount f_walkSummary f_walkRing (d + 1) (gr_ex cur) (nI k) a_opOf a_aOf a_bOf a_tOf a_machineVar a_cellUsed a_cellLink a_tabNodes a_tabSum a_tabVar a_tabSucc a_entPoint a_entPending a_outPoint a_wVar a_wSucc a_wSum mk a_head a_preds a_number a_rawNext := by
  intro d
  induction d with
  | zero =>
    intro k cur mk hk hd I
    refine br_t (nI_le (a := 40) (by omega) (by omega)) (nm_r (nI_1 x) (K mk (xm_end I ?_)))
    rcases Nat.lt_or_ge cur 40 with z | z
    · exact Or.inr ⟨z, gr_cn_of0 (P := fun u => mk u = 0) (Nat.le_zero.mp hd) cur z⟩
    · exact Or.inl z
  | succ d ih =>
    intro k cur mk hk hd I
    refine br_f (nI_ge (b := 40) (by omega) (by omega)) ?_
    rcases Nat.lt_or_ge cur 40 with z | z
    · have r := I.2.2.2.2 z
      have cn := gr_R_n W.1 W.2.1 r
      rw [gr_ex_n z]
      refine br_f (gr_nm1 (by omega)) ⟨vp_in_nI z (by omega), br_c (fun m => ⟨vp_in_nI z (by omega), nm_e ⟨vp_in_nI z (by omega), ?_⟩⟩) (fun m => nm_r (nI_1 x) (K mk (xm_end I (Or.inr ⟨z, ?_⟩))))⟩
      · rw [nI_clamp (by omega)] at m
        rw [nI_clamp (by omega)]
        refine nm_r (hS cur cn) (nm_r (nI_1 k) ?_)
        exact ih (k + 1) (h cur) (upd mk cur 1) (by omega) (xm_cn z m hd) (xm_step I z)
      · rw [nI_clamp (by omega)] at m
        exact m
    · rw [gr_ex_g z]
      exact br_t rfl (nm_r (nI_1 x) (K mk (xm_end I (Or.inl z))))
theorem xm_23 {post : SX → Prop} (W : gr_W n vs h va) (hvs : vs ≤ 3) (hV : ∀ x, x < vs → a_wVar x = gr_ex (va x)) (hS : ∀ u, u < n → a_wSucc u = gr_ex (h u))
    (K : ∀ mk wl, (∀ u, u < 40 → (¬ mk u = 0 ↔ gr_R h va vs u)) → gr_tv wl (∃ u, u < n ∧ ¬ gr_R h va vs u) → post (nI vs, f_cells, f_lengthLimit, f_entryLimit, f_count, f_fixed, f_machine, f_machinePc, f_lostCount, f_coinBits, f_analysis, f_entryCount, f_outCount, f_outLost, nI n, wl, f_numbered, f_sumMask, f_walkCount, f_walkSummary, f_walkRing, a_opOf, a_aOf, a_bOf, a_tOf, a_machineVar, a_cellUsed, a_cellLink, a_tabNodes, a_tabSum, a_tabVar, a_tabSucc, a_entPoint, a_entPending, a_outPoint, a_wVar, a_wSucc, a_wSum, mk, a_head, a_preds, a_number, a_rawNext)) :
    ∀ d x mk, x + d = vs → (∀ u, u < 40 → ¬ mk u = 0 → gr_R h va vs u) → (∀ u, u < 40 → ¬ mk u = 0 → h u < 40 → ¬ mk (h u) = 0) → (∀ y, y < x → va y < 40 → ¬ mk (va y) = 0) →
      wX_markReached_23 post (nI vs) f_cells f_lengthLimit f_entryLimit f_count f_fixed f_machine f_machinePc f_lostCount f_coinBits f_analysis f_entryCount f_outCount f_outLost (nI n) f_workLost f_numbered f_sumMask f_walkCount f_walkSummary f_walkRing (d + 1) (nI x) a_opOf a_aOf a_bOf a_tOf a_machineVar a_cellUsed a_cellLink a_tabNodes a_tabSum a_tabVar a_tabSucc a_entPoint a_entPending a_outPoint a_wVar a_wSucc a_wSum mk a_head a_preds a_number a_rawNext := by
  intro d
  induction d with
  | zero =>
    intro x mk hx h1 h2 h3
    have e : x = vs := by omega
    subst e
    have key : ∀ u, u < 40 → (¬ mk u = 0 ↔ gr_R h va x u) := fun u hu => ⟨h1 u hu, fun r =>
      (gr_R_sub W.1 (va := va) (vs := x) (M := fun u => u < 40 ∧ ¬ mk u = 0) (fun y hy hl => ⟨hl, h3 y hy hl⟩) (fun u q hl => ⟨hl, h2 u q.1 q.2 hl⟩) r).2⟩
    refine br_t (nI_le (by omega) (by omega)) (Exists.intro (n + 1) (xm_93 (a_mark := mk) W.1.1 (fun wl ht => K mk wl key (gr_tv_iff ⟨fun ⟨u, a, b⟩ => ⟨u, a, fun r => ?_⟩, fun ⟨u, a, b⟩ => ⟨u, a, ?_⟩⟩ ht)) n 0 0 (by omega) (gr_tv_f (fun ⟨u, a, _⟩ => by omega))))
    · exact (key u r.1).mpr r b
    · exact Classical.byContradiction fun z => b ((key u (by have := W.1.1; omega)).mp z)
  | succ d ih =>
    intro x mk hx h1 h2 h3
    refine br_f (nI_ge (by omega) (by omega)) ⟨vp_in_nI (by omega) (by omega), ?_⟩
    rw [nI_clamp (by omega)]
    refine nm_r (hV x (by omega)) (Exists.intro 41 ?_)
    refine xm_40 (s := va x) (mk0 := mk) W hS (fun mk' I => ?_) 40 0 (va x) mk (by omega) (gr_cn_le _ _) ⟨h1, fun u a b c => Or.inl (h2 u a b c), fun _ => Or.inr rfl, fun u _ a => a, fun z => gr_R_v (by omega) z⟩
    refine ih (x + 1) mk' (by omega) I.1 (fun u a b c => ?_) (fun y hy hl => ?_)
    · rcases I.2.1 u a b c with z | z
      · exact z
      · omega
    · rcases Nat.decEq y x with z | z
      · exact I.2.2.2.1 _ hl (h3 y (by omega) hl)
      · rw [z] at hl ⊢
        rcases I.2.2.1 hl with w | w
        · exact w
        · omega
theorem xm_2 {post : SX → Prop} (K : ∀ mk, (∀ u, u < 40 → mk u = 0) → ∃ n23 : Nat, wX_markReached_23 post f_vars f_cells f_lengthLimit f_entryLimit f_count f_fixed f_machine f_machinePc f_lostCount f_coinBits f_analysis f_entryCount f_outCount f_outLost f_wCount f_workLost f_numbered f_sumMask f_walkCount f_walkSummary f_walkRing n23 0 a_opOf a_aOf a_bOf a_tOf a_machineVar a_cellUsed a_cellLink a_tabNodes a_tabSum a_tabVar a_tabSucc a_entPoint a_entPending a_outPoint a_wVar a_wSucc a_wSum mk a_head a_preds a_number a_rawNext) :
    ∀ d i mk, i + d = 40 → (∀ u, u < i → mk u = 0) → wX_markReached_2 post f_vars f_cells f_lengthLimit f_entryLimit f_count f_fixed f_machine f_machinePc f_lostCount f_coinBits f_analysis f_entryCount f_outCount f_outLost f_wCount f_workLost f_numbered f_sumMask f_walkCount f_walkSummary f_walkRing (d + 1) (nI i) a_opOf a_aOf a_bOf a_tOf a_machineVar a_cellUsed a_cellLink a_tabNodes a_tabSum a_tabVar a_tabSucc a_entPoint a_entPending a_outPoint a_wVar a_wSucc a_wSum mk a_head a_preds a_number a_rawNext := by
  intro d
  induction d with
  | zero =>
    intro i mk hi hz
    exact br_t (nI_le (a := 40) (by omega) (by omega)) (K mk (fun u hu => hz u (by omega)))
  | succ d ih =>
    intro i mk hi hz
    refine br_f (nI_ge (b := 40) (by omega) (by omega)) ⟨vp_in_nI (by omega) (by omega), nm_e (nm_r (nI_1 i) ?_)⟩
    rw [nI_clamp (by omega)]
    refine ih (i + 1) _ (by omega) (fun u hu => ?_)
    rcases Nat.decEq u i with z | z
    · rw [pk_un z]; exact hz u (by omega)
    · rw [z, pk_us]; rfl
theorem xm_ok {post : SX → Prop} (W : gr_W n vs h va) (hvs : vs ≤ 3) (hV : ∀ x, x < vs → a_wVar x = gr_ex (va x)) (hS : ∀ u, u < n → a_wSucc u = gr_ex (h u))
    (K : ∀ mk wl, (∀ u, u < 40 → (¬ mk u = 0 ↔ gr_R h va vs u)) → gr_tv wl (∃ u, u < n ∧ ¬ gr_R h va vs u) → post (nI vs, f_cells, f_lengthLimit, f_entryLimit, f_count, f_fixed, f_machine, f_machinePc, f_lostCount, f_coinBits, f_analysis, f_entryCount, f_outCount, f_outLost, nI n, wl, f_numbered, f_sumMask, f_walkCount, f_walkSummary, f_walkRing, a_opOf, a_aOf, a_bOf, a_tOf, a_machineVar, a_cellUsed, a_cellLink, a_tabNodes, a_tabSum, a_tabVar, a_tabSucc, a_entPoint, a_entPending, a_outPoint, a_wVar, a_wSucc, a_wSum, mk, a_head, a_preds, a_number, a_rawNext)) :
    wpX_markReached post (nI vs, f_cells, f_lengthLimit, f_entryLimit, f_count, f_fixed, f_machine, f_machinePc, f_lostCount, f_coinBits, f_analysis, f_entryCount, f_outCount, f_outLost, nI n, f_workLost, f_numbered, f_sumMask, f_walkCount, f_walkSummary, f_walkRing, a_opOf, a_aOf, a_bOf, a_tOf, a_machineVar, a_cellUsed, a_cellLink, a_tabNodes, a_tabSum, a_tabVar, a_tabSucc, a_entPoint, a_entPending, a_outPoint, a_wVar, a_wSucc, a_wSum, a_mark, a_head, a_preds, a_number, a_rawNext) := by
  refine Exists.intro 41 (xm_2 (fun mk hz => Exists.intro (vs + 1) (xm_23 W hvs hV hS K vs 0 mk (by omega) (fun u a b => absurd (hz u a) b) (fun u a b => absurd (hz u a) b) (fun y hy => by omega))) 40 0 a_mark (by omega) (fun u hu => by omega))
/-! X: findHeads -/
theorem xh_105 {post : SX → Prop} (hvs : vs ≤ 3) (hva : ∀ x, x < vs → va x < 40 ∨ va x = 40) (hV : ∀ x, x < vs → a_wVar x = gr_ex (va x)) {Q : Nat → Prop}
    (K : ∀ hd, (∀ u, u < 40 → (hd u = 0 ↔ ((∀ x, x < vs → va x ≠ u) ∧ Q u))) → post (nI vs, f_cells, f_lengthLimit, f_entryLimit, f_count, f_fixed, f_machine, f_machinePc, f_lostCount, f_coinBits, f_analysis, f_entryCount, f_outCount, f_outLost, f_wCount, f_workLost, f_numbered, f_sumMask, f_walkCount, f_walkSummary, f_walkRing, a_opOf, a_aOf, a_bOf, a_tOf, a_machineVar, a_cellUsed, a_cellLink, a_tabNodes, a_tabSum, a_tabVar, a_tabSucc, a_entPoint, a_entPending, a_outPoint, a_wVar, a_wSucc, a_wSum, a_mark, hd, a_preds, a_number, a_rawNext)) :
    ∀ d x hd, x + d = vs → (∀ u, u < 40 → (hd u = 0 ↔ ((∀ y, y < x → va y ≠ u) ∧ Q u))) → wX_findHeads_105 post (nI vs) f_cells f_lengthLimit f_entryLimit f_count f_fixed f_machine f_machinePc f_lostCount f_coinBits f_analysis f_entryCount f_outCount f_outLost f_wCount f_workLost f_numbered f_sumMask f_walkCount f_walkSummary f_walkRing (d + 1) (nI x) a_opOf a_aOf a_bOf a_tOf a_machineVar a_cellUsed a_cellLink a_tabNodes a_tabSum a_tabVar a_tabSucc a_entPoint a_entPending a_outPoint a_wVar a_wSucc a_wSum a_mark hd a_preds a_number a_rawNext := by
  intro d
  induction d with
  | zero =>
    intro x hd hx hq
    have e : x = vs := by omega
    subst e
    exact br_t (nI_le (by omega) (by omega)) (K hd hq)
  | succ d ih =>
    intro x hd hx hq
    refine br_f (nI_ge (by omega) (by omega)) ⟨vp_in_nI (by omega) (by omega), ?_⟩
    rw [nI_clamp (by omega), hV x (by omega)]
    rcases Nat.lt_or_ge (va x) 40 with z | z
    · refine br_f (fun e => absurd (gr_ex_m.mp e) (by omega)) ⟨vp_in_nI (by omega) (by omega), ?_⟩
      rw [gr_ex_n z]
      refine ⟨vp_in_nI z (by omega), nm_e (nm_r (nI_1 x) ?_)⟩
      rw [nI_clamp (by omega)]
      refine ih (x + 1) _ (by omega) (fun u hu => ?_)
      rcases Nat.decEq u (va x) with y | y
      · rw [pk_un y, hq u hu]
        refine ⟨fun q => ⟨fun w hw e => ?_, q.2⟩, fun q => ⟨fun w hw => q.1 w (by omega), q.2⟩⟩
        rcases Nat.decEq w x with t | t
        · exact q.1 w (by omega) e
        · rw [t] at e; exact y e.symm
      · rw [y, pk_us]
        exact ⟨fun e => absurd e (by decide), fun q => absurd rfl (q.1 x (by omega))⟩
    · refine br_t (gr_ex_m.mpr z) (nm_r (nI_1 x) (ih (x + 1) hd (by omega) (fun u hu => ?_)))
      rw [hq u hu]
      refine ⟨fun q => ⟨fun w hw e => ?_, q.2⟩, fun q => ⟨fun w hw => q.1 w (by omega), q.2⟩⟩
      rcases Nat.decEq w x with t | t
      · exact q.1 w (by omega) e
      · rw [t] at e; omega
theorem xh_70 {post : SX → Prop} {c : Nat → Nat} (hc : ∀ u, u < 40 → a_preds u = nI (c u) ∧ c u ≤ 40)
    (K : ∀ hd, (∀ u, u < 40 → (hd u = 0 ↔ c u < 2)) → ∃ n105 : Nat, wX_findHeads_105 post f_vars f_cells f_lengthLimit f_entryLimit f_count f_fixed f_machine f_machinePc f_lostCount f_coinBits f_analysis f_entryCount f_outCount f_outLost f_wCount f_workLost f_numbered f_sumMask f_walkCount f_walkSummary f_walkRing n105 0 a_opOf a_aOf a_bOf a_tOf a_machineVar a_cellUsed a_cellLink a_tabNodes a_tabSum a_tabVar a_tabSucc a_entPoint a_entPending a_outPoint a_wVar a_wSucc a_wSum a_mark hd a_preds a_number a_rawNext) :
    ∀ d i hd, i + d = 40 → (∀ u, u < i → (hd u = 0 ↔ c u < 2)) → wX_findHeads_70 post f_vars f_cells f_lengthLimit f_entryLimit f_count f_fixed f_machine f_machinePc f_lostCount f_coinBits f_analysis f_entryCount f_outCount f_outLost f_wCount f_workLost f_numbered f_sumMask f_walkCount f_walkSummary f_walkRing (d + 1) (nI i) a_opOf a_aOf a_bOf a_tOf a_machineVar a_cellUsed a_cellLink a_tabNodes a_tabSum a_tabVar a_tabSucc a_entPoint a_entPending a_outPoint a_wVar a_wSucc a_wSum a_mark hd a_preds a_number a_rawNext := by
  intro d
  induction d with
  | zero =>
    intro i hd hi hq
    exact br_t (nI_le (a := 40) (by omega) (by omega)) (K hd (fun u hu => hq u (by omega)))
  | succ d ih =>
    intro i hd hi hq
    have hci := hc i (by omega)
    refine br_f (nI_ge (b := 40) (by omega) (by omega)) ⟨vp_in_nI (by omega) (by omega), ?_⟩
    rw [nI_clamp (by omega), hci.1]
    refine pk_lt (c i) 2 (fun z => ⟨vp_in_nI (by omega) (by omega), nm_e (nm_r (nI_1 i) (ih (i + 1) _ (by omega) (fun u hu => ?_)))⟩) (fun z => ⟨vp_in_nI (by omega) (by omega), nm_e (nm_r (nI_1 i) (ih (i + 1) _ (by omega) (fun u hu => ?_)))⟩)
    · rcases Nat.decEq u i with y | y
      · rw [pk_un y]; exact hq u (by omega)
      · rw [y, pk_us]; exact ⟨fun _ => z, fun _ => rfl⟩
    · rcases Nat.decEq u i with y | y
      · rw [pk_un y]; exact hq u (by omega)
      · rw [y, pk_us]; exact ⟨fun e => absurd e (by decide), fun e => by omega⟩
theorem xh_23 {post : SX → Prop} (G : gr_G n h) (hS : ∀ u, u < n → a_wSucc u = gr_ex (h u)) {M : Nat → Prop} (hM : ∀ u, u < 40 → (¬ a_mark u = 0 ↔ M u))
    (K : ∀ pr, (∀ u, u < 40 → pr u = nI (gr_cn (fun w => M w ∧ h w = u) n)) → ∃ n70 : Nat, wX_findHeads_70 post f_vars f_cells f_lengthLimit f_entryLimit f_count f_fixed f_machine f_machinePc f_lostCount f_coinBits f_analysis f_entryCount f_outCount f_outLost (nI n) f_workLost f_numbered f_sumMask f_walkCount f_walkSummary f_walkRing n70 0 a_opOf a_aOf a_bOf a_tOf a_machineVar a_cellUsed a_cellLink a_tabNodes a_tabSum a_tabVar a_tabSucc a_entPoint a_entPending a_outPoint a_wVar a_wSucc a_wSum a_mark a_head pr a_number a_rawNext) :
    ∀ d i pr, i + d = n → (∀ u, u < 40 → pr u = nI (gr_cn (fun w => M w ∧ h w = u) i)) → wX_findHeads_23 post f_vars f_cells f_lengthLimit f_entryLimit f_count f_fixed f_machine f_machinePc f_lostCount f_coinBits f_analysis f_entryCount f_outCount f_outLost (nI n) f_workLost f_numbered f_sumMask f_walkCount f_walkSummary f_walkRing (d + 1) (nI i) a_opOf a_aOf a_bOf a_tOf a_machineVar a_cellUsed a_cellLink a_tabNodes a_tabSum a_tabVar a_tabSucc a_entPoint a_entPending a_outPoint a_wVar a_wSucc a_wSum a_mark a_head pr a_number a_rawNext := by
  intro d
  have hn := G.1
  induction d with
  | zero =>
    intro i pr hi hq
    have e : i = n := by omega
    subst e
    exact br_t (nI_le (by omega) (by omega)) (K pr hq)
  | succ d ih =>
    intro i pr hi hq
    refine br_f (nI_ge (by omega) (by omega)) ⟨vp_in_nI (by omega) (by omega), ?_⟩
    rw [nI_clamp (by omega)]
    refine nm_r (hS i (by omega)) ⟨vp_in_nI (by omega) (by omega), br_c (fun m => nm_r (nI_1 i) (ih (i + 1) pr (by omega) (fun u hu => ?_))) (fun m => ?_)⟩
    · rw [hq u hu]
      simp only [gr_cn]
      rw [gr_b1_f (fun q => (hM i (by omega)).mpr q.1 m)]
      rfl
    · have mi := (hM i (by omega)).mp m
      rcases Nat.lt_or_ge (h i) 40 with z | z
      · rw [gr_ex_n z]
        refine br_f (gr_nm1 (by omega)) ⟨vp_in_nI z (by omega), vp_in_nI z (by omega), nm_e (nm_r (nI_1 i) ?_)⟩
        rw [nI_clamp (by omega)]
        refine ih (i + 1) _ (by omega) (fun u hu => ?_)
        simp only [gr_cn]
        rcases Nat.decEq u (h i) with y | y
        · rw [pk_un y, hq u hu, gr_b1_f (fun q => y q.2.symm)]
          rfl
        · rw [y, pk_us, hq _ z, nI_1, gr_b1_t ⟨mi, rfl⟩]
      · rw [gr_ex_g z]
        refine br_t rfl (nm_r (nI_1 i) (ih (i + 1) pr (by omega) (fun u hu => ?_)))
        rw [hq u hu]
        simp only [gr_cn]
        rw [gr_b1_f (fun q => by have := q.2; omega)]
        rfl
theorem xh_2 {post : SX → Prop} (K : ∀ pr, (∀ u, u < 40 → pr u = 0) → ∃ n23 : Nat, wX_findHeads_23 post f_vars f_cells f_lengthLimit f_entryLimit f_count f_fixed f_machine f_machinePc f_lostCount f_coinBits f_analysis f_entryCount f_outCount f_outLost f_wCount f_workLost f_numbered f_sumMask f_walkCount f_walkSummary f_walkRing n23 0 a_opOf a_aOf a_bOf a_tOf a_machineVar a_cellUsed a_cellLink a_tabNodes a_tabSum a_tabVar a_tabSucc a_entPoint a_entPending a_outPoint a_wVar a_wSucc a_wSum a_mark a_head pr a_number a_rawNext) :
    ∀ d i pr, i + d = 40 → (∀ u, u < i → pr u = 0) → wX_findHeads_2 post f_vars f_cells f_lengthLimit f_entryLimit f_count f_fixed f_machine f_machinePc f_lostCount f_coinBits f_analysis f_entryCount f_outCount f_outLost f_wCount f_workLost f_numbered f_sumMask f_walkCount f_walkSummary f_walkRing (d + 1) (nI i) a_opOf a_aOf a_bOf a_tOf a_machineVar a_cellUsed a_cellLink a_tabNodes a_tabSum a_tabVar a_tabSucc a_entPoint a_entPending a_outPoint a_wVar a_wSucc a_wSum a_mark a_head pr a_number a_rawNext := by
  intro d
  induction d with
  | zero =>
    intro i mk hi hz
    exact br_t (nI_le (a := 40) (by omega) (by omega)) (K mk (fun u hu => hz u (by omega)))
  | succ d ih =>
    intro i mk hi hz
    refine br_f (nI_ge (b := 40) (by omega) (by omega)) ⟨vp_in_nI (by omega) (by omega), nm_e (nm_r (nI_1 i) ?_)⟩
    rw [nI_clamp (by omega)]
    refine ih (i + 1) _ (by omega) (fun u hu => ?_)
    rcases Nat.decEq u i with z | z
    · rw [pk_un z]; exact hz u (by omega)
    · rw [z, pk_us]
theorem xh_ok {post : SX → Prop} (W : gr_W n vs h va) (hvs : vs ≤ 3) (hV : ∀ x, x < vs → a_wVar x = gr_ex (va x)) (hS : ∀ u, u < n → a_wSucc u = gr_ex (h u)) (hM : ∀ u, u < 40 → (¬ a_mark u = 0 ↔ gr_R h va vs u))
    (K : ∀ pr hd, (∀ u, u < 40 → (hd u = 0 ↔ gr_PP n vs h va u)) → post (nI vs, f_cells, f_lengthLimit, f_entryLimit, f_count, f_fixed, f_machine, f_machinePc, f_lostCount, f_coinBits, f_analysis, f_entryCount, f_outCount, f_outLost, nI n, f_workLost, f_numbered, f_sumMask, f_walkCount, f_walkSummary, f_walkRing, a_opOf, a_aOf, a_bOf, a_tOf, a_machineVar, a_cellUsed, a_cellLink, a_tabNodes, a_tabSum, a_tabVar, a_tabSucc, a_entPoint, a_entPending, a_outPoint, a_wVar, a_wSucc, a_wSum, a_mark, hd, pr, a_number, a_rawNext)) :
    wpX_findHeads post (nI vs, f_cells, f_lengthLimit, f_entryLimit, f_count, f_fixed, f_machine, f_machinePc, f_lostCount, f_coinBits, f_analysis, f_entryCount, f_outCount, f_outLost, nI n, f_workLost, f_numbered, f_sumMask, f_walkCount, f_walkSummary, f_walkRing, a_opOf, a_aOf, a_bOf, a_tOf, a_machineVar, a_cellUsed, a_cellLink, a_tabNodes, a_tabSum, a_tabVar, a_tabSucc, a_entPoint, a_entPending, a_outPoint, a_wVar, a_wSucc, a_wSum, a_mark, a_head, a_preds, a_number, a_rawNext) := by
  have hn := W.1.1
  refine Exists.intro 41 (xh_2 (fun pr hz => Exists.intro (n + 1) (xh_23 W.1 hS hM (fun pr' hp => Exists.intro 41 (xh_70 (a_preds := pr') (c := fun u => gr_cn (fun w => gr_R h va vs w ∧ h w = u) n) (fun u hu => ⟨hp u hu, by
    have := gr_cn_le (fun w => gr_R h va vs w ∧ h w = u) n
    show gr_cn (fun w => gr_R h va vs w ∧ h w = u) n ≤ 40
    omega⟩) (fun hd hq => Exists.intro (vs + 1) (xh_105 (Q := fun u => gr_cn (fun w => gr_R h va vs w ∧ h w = u) n < 2) hvs (fun x hx => (W.2.1 x hx).elim (fun z => Or.inl (by omega)) Or.inr) hV (fun hd' hq' => K pr' hd' (fun u hu => ?_)) vs 0 hd (by omega) (fun u hu => ?_))) 40 0 a_head (by omega) (fun u hu => by omega))) n 0 pr (by omega) (fun u hu => ?_))) 40 0 a_preds (by omega) (fun u hu => by omega))
  · rw [hq' u hu]
    show _ ↔ (∀ x, x < vs → va x ≠ u) ∧ gr_cn (fun w => gr_fc h va vs w = u) n < 2
    rw [gr_cn_eq (P := fun w => gr_fc h va vs w = u) (Q := fun w => gr_R h va vs w ∧ h w = u) (fun k _ => ?_)]
    rcases Classical.em (gr_R h va vs k) with r | r
    · rw [gr_fc_t r]; exact ⟨fun e => ⟨r, e⟩, fun e => e.2⟩
    · rw [gr_fc_f r]; exact ⟨fun e => by omega, fun e => absurd e.1 r⟩
  · rw [hq u hu]
    exact ⟨fun q => ⟨fun y hy => by omega, q⟩, fun q => q.2⟩
  · rw [hz u hu]; rfl
end
end
section
/-! X: numberBlock, numberNodes -/
/-- X's numbers: every node of a numbered block has the block's number -/
def xn_I (h J num : Nat → Nat) (nu : Nat → Int32) : Prop :=
  (∀ u, u < 40 → nu u = -1 ∨ ∃ w i, num w ≠ 40 ∧ i ≤ J w ∧ u = gr_it h i w ∧ nu u = nI (num w)) ∧ (∀ w i, num w ≠ 40 → i ≤ J w → nu (gr_it h i w) = nI (num w))
section
variable {n vs : Nat} {h va : Nat → Nat} {sm : Nat → Bool} {J : Nat → Nat}
def xn_J (n vs : Nat) (h va : Nat → Nat) (sm : Nat → Bool) (J : Nat → Nat) : Prop := ∀ u, gr_g n vs h va sm u ≠ 41 → gr_BR n vs h va sm (gr_g n vs h va sm) (gr_mm n vs h va sm) u (J u)
theorem xn_J39 (W : gr_W n vs h va) (hJ : xn_J n vs h va sm J) {w : Nat} (kw : gr_g n vs h va sm w ≠ 41) : J w < 40 := by
  have h1 := gr_inj (g := fun i => gr_it h i w) (N := 40) (J w + 1) (fun i hi => (gr_it_R W hJ kw (show i ≤ J w by omega)).1) (fun i j hij hj e => by
    have := (gr_DJ W hJ kw kw i j (by omega) (by omega) e).2
    omega)
  have h2 : J w + 1 ≤ 40 := Nat.le_trans (Nat.le_of_eq h1.symm) (gr_cn_le _ _)
  omega
/-- within a block: i nodes behind its first are numbered -/
def xn_B (h J num : Nat → Nat) (cur c i : Nat) (nu : Nat → Int32) : Prop :=
  (∀ u, u < 40 → nu u = -1 ∨ (∃ w i, num w ≠ 40 ∧ i ≤ J w ∧ u = gr_it h i w ∧ nu u = nI (num w)) ∨ ∃ i', i' ≤ i ∧ u = gr_it h i' cur ∧ nu u = nI c) ∧
  (∀ w i, num w ≠ 40 → i ≤ J w → nu (gr_it h i w) = nI (num w)) ∧ ∀ i', i' ≤ i → nu (gr_it h i' cur) = nI c
theorem xn_B_end {num : Nat → Nat} {cur c : Nat} {nu : Nat → Int32} (hc : c < 40) (hu : num cur = 40) (B : xn_B h J num cur c (J cur) nu) : xn_I h J (gr_up num cur c) nu := by
  obtain ⟨b1, b2, b3⟩ := B
  refine ⟨fun u hu' => ?_, fun w i hw hi => ?_⟩
  · rcases b1 u hu' with z | ⟨w, i, z1, z2, z3, z4⟩ | ⟨i', z1, z2, z3⟩
    · exact Or.inl z
    · have : w ≠ cur := fun e => z1 (by rw [e]; exact hu)
      exact Or.inr ⟨w, i, by rw [gr_up_n this]; exact z1, z2, z3, by rw [gr_up_n this]; exact z4⟩
    · exact Or.inr ⟨cur, i', by rw [gr_up_s]; omega, z1, z2, by rw [gr_up_s]; exact z3⟩
  · rcases Nat.decEq w cur with e | e
    · rw [gr_up_n e] at hw ⊢
      exact b2 w i hw hi
    · subst e
      rw [gr_up_s]
      exact b3 i hi
theorem xn_B_0 (W : gr_W n vs h va) (hJ : xn_J n vs h va sm J) {num : Nat → Nat} {cur c : Nat} {nu : Nat → Int32} (I : xn_I h J num nu) (hk : ∀ u, num u ≠ 40 → gr_g n vs h va sm u ≠ 41) (kc : gr_g n vs h va sm cur ≠ 41) (hu : num cur = 40) : xn_B h J num cur c 0 (upd nu cur (nI c)) := by
  refine ⟨fun u hu' => ?_, fun w i hw hi => ?_, fun i' hi' => ?_⟩
  · rcases Nat.decEq u cur with e | e
    · rw [pk_un e]
      rcases I.1 u hu' with z | z
      · exact Or.inl z
      · exact Or.inr (Or.inl z)
    · exact Or.inr (Or.inr ⟨0, Nat.le_refl _, e, by rw [e, pk_us]⟩)
  · rw [pk_un (fun e => ?_)]
    · exact I.2 w i hw hi
    · have := (gr_DJ W hJ (hk w hw) kc i 0 hi (Nat.zero_le _) e).1
      exact hw (by rw [this]; exact hu)
  · have : i' = 0 := by omega
    subst this
    exact pk_us
/-- the next node of a block has no number yet -/
theorem xn_B_free (W : gr_W n vs h va) (hJ : xn_J n vs h va sm J) {num : Nat → Nat} {cur c i : Nat} {nu : Nat → Int32} (B : xn_B h J num cur c i nu) (hk : ∀ u, num u ≠ 40 → gr_g n vs h va sm u ≠ 41) (kc : gr_g n vs h va sm cur ≠ 41) (hu : num cur = 40) (hi : i < J cur) (hl : gr_it h (i + 1) cur < 40) : nu (gr_it h (i + 1) cur) = -1 := by
  rcases B.1 _ hl with z | ⟨w, i', z1, z2, z3, z4⟩ | ⟨i', z1, z2, z3⟩
  · exact z
  · have := (gr_DJ W hJ kc (hk w z1) (i + 1) i' (by omega) z2 z3).1
    exact absurd (by rw [← this]; exact hu) z1
  · have := (gr_DJ W hJ kc kc (i + 1) i' (by omega) (by omega) z2).2
    omega
theorem xn_B_s (W : gr_W n vs h va) (hJ : xn_J n vs h va sm J) {num : Nat → Nat} {cur c i : Nat} {nu : Nat → Int32} (B : xn_B h J num cur c i nu) (hk : ∀ u, num u ≠ 40 → gr_g n vs h va sm u ≠ 41) (kc : gr_g n vs h va sm cur ≠ 41) (hu : num cur = 40) (hi : i < J cur) : xn_B h J num cur c (i + 1) (upd nu (gr_it h (i + 1) cur) (nI c)) := by
  refine ⟨fun u hu' => ?_, fun w i' hw hi' => ?_, fun i' hi' => ?_⟩
  · rcases Nat.decEq u (gr_it h (i + 1) cur) with e | e
    · rw [pk_un e]
      rcases B.1 u hu' with z | z | ⟨i', z1, z2, z3⟩
      · exact Or.inl z
      · exact Or.inr (Or.inl z)
      · exact Or.inr (Or.inr ⟨i', by omega, z2, z3⟩)
    · exact Or.inr (Or.inr ⟨i + 1, Nat.le_refl _, e, by rw [e, pk_us]⟩)
  · rw [pk_un (fun e => ?_)]
    · exact B.2.1 w i' hw hi'
    · have := (gr_DJ W hJ (hk w hw) kc i' (i + 1) hi' (by omega) e).1
      exact hw (by rw [this]; exact hu)
  · rcases Nat.decEq i' (i + 1) with e | e
    · rw [pk_un (fun y => e (gr_DJ W hJ kc kc i' (i + 1) (by omega) (by omega) y).2)]
      exact B.2.2 i' (by omega)
    · rw [e, pk_us]
variable {f_vars f_cells f_lengthLimit f_entryLimit f_count f_fixed f_machine f_machinePc f_lostCount f_coinBits f_analysis f_entryCount f_outCount f_outLost f_wCount f_workLost f_numbered f_sumMask f_walkCount f_walkSummary f_walkRing : Int32} {a_opOf a_aOf a_bOf a_tOf a_machineVar a_cellUsed a_cellLink a_tabNodes a_tabSum a_tabVar a_tabSucc a_entPoint a_entPending a_outPoint a_wVar a_wSucc a_wSum a_mark a_head a_preds a_number a_rawNext : Nat → Int32}
/-- the loop of numberBlock once open is 0 -/
theorem xb_closed {post : Int32 → SX → Prop} {x2 x3 x4 : Int32} {k : Nat} (m : Nat) (K : wX_numberBlock_110 post x2 x3 x4 f_vars f_cells f_lengthLimit f_entryLimit f_count f_fixed f_machine f_machinePc f_lostCount f_coinBits f_analysis f_entryCount f_outCount f_outLost f_wCount f_workLost f_numbered f_sumMask f_walkCount f_walkSummary f_walkRing a_opOf a_aOf a_bOf a_tOf a_machineVar a_cellUsed a_cellLink a_tabNodes a_tabSum a_tabVar a_tabSucc a_entPoint a_entPending a_outPoint a_wVar a_wSucc a_wSum a_mark a_head a_preds a_number a_rawNext) : wX_numberBlock_36 post x2 f_vars f_cells f_lengthLimit f_entryLimit f_count f_fixed f_machine f_machinePc f_lostCount f_coinBits f_analysis f_entryCount f_outCount f_outLost f_wCount f_workLost f_numbered f_sumMask f_walkCount f_walkSummary f_walkRing (m + 1) x3 x4 0 (nI k) a_opOf a_aOf a_bOf a_tOf a_machineVar a_cellUsed a_cellLink a_tabNodes a_tabSum a_tabVar a_tabSucc a_entPoint a_entPending a_outPoint a_wVar a_wSucc a_wSum a_mark a_head a_preds a_number a_rawNext :=
  br_c (fun _ => K) (fun _ => br_t rfl K)
theorem xb_36 {post : Int32 → SX → Prop} (W : gr_W n vs h va) (hJ : xn_J n vs h va sm J) (hS : ∀ u, u < n → a_wSucc u = gr_ex (h u)) (hH : ∀ u, u < 40 → (a_head u = 0 ↔ gr_PP n vs h va u))
    {num : Nat → Nat} {cur c : Nat} (hc : c < 40) (hk : ∀ u, num u ≠ 40 → gr_g n vs h va sm u ≠ 41) (kc : gr_g n vs h va sm cur ≠ 41) (hu : num cur = 40) (pc : gr_PP n vs h va cur)
    (K : ∀ nu x3, xn_B h J num cur c (J cur) nu → (x3 = 0 ↔ (sm cur = false ∧ J cur = 0)) → wX_numberBlock_110 post (nI c) x3 (nI (gr_it h (J cur) cur)) f_vars f_cells f_lengthLimit f_entryLimit f_count f_fixed f_machine f_machinePc f_lostCount f_coinBits f_analysis f_entryCount f_outCount f_outLost f_wCount f_workLost f_numbered f_sumMask f_walkCount f_walkSummary f_walkRing a_opOf a_aOf a_bOf a_tOf a_machineVar a_cellUsed a_cellLink a_tabNodes a_tabSum a_tabVar a_tabSucc a_entPoint a_entPending a_outPoint a_wVar a_wSucc a_wSum a_mark a_head a_preds nu a_rawNext) :
    ∀ d i nu x3, i + d = J cur → xn_B h J num cur c i nu → (x3 = 0 ↔ (sm cur = false ∧ i = 0)) → wX_numberBlock_36 post (nI c) f_vars f_cells f_lengthLimit f_entryLimit f_count f_fixed f_machine f_machinePc f_lostCount f_coinBits f_analysis f_entryCount f_outCount f_outLost f_wCount f_workLost f_numbered f_sumMask f_walkCount f_walkSummary f_walkRing (d + 2) x3 (nI (gr_it h i cur)) 1 (nI i) a_opOf a_aOf a_bOf a_tOf a_machineVar a_cellUsed a_cellLink a_tabNodes a_tabSum a_tabVar a_tabSucc a_entPoint a_entPending a_outPoint a_wVar a_wSucc a_wSum a_mark a_head a_preds nu a_rawNext := by
  have h39 := xn_J39 W hJ kc
  have hn40 := W.1.1
  have hb := hJ cur kc
  intro d
  induction d with
  | zero =>
    intro i nu x3 hi B hx
    have e : i = J cur := by omega
    have r := gr_it_R W hJ kc (i := i) (by omega)
    have rn := gr_R_n W.1 W.2.1 r
    have hk' := K nu x3 (e ▸ B) (e ▸ hx)
    rw [← e] at hk'
    refine br_f (nI_ge (b := 40) (by omega) (by omega)) (br_f (by decide) ⟨vp_in_nI r.1 (by omega), ?_⟩)
    rw [nI_clamp (by omega)]
    refine nm_r (hS _ rn) ?_
    rw [← gr_it_s h]
    have hg : gr_g n vs h va sm cur = gr_it h (i + 1) cur := by rw [e]; exact hb.1
    rcases Nat.lt_or_ge (gr_it h (i + 1) cur) 40 with z | z
    · rw [gr_ex_n z]
      refine br_f (gr_nm1 (by omega)) ⟨vp_in_nI z (by omega), ?_⟩
      rw [nI_clamp (by omega)]
      rcases gr_g_D W cur kc pc with y | y | y
      · omega
      · rw [hg] at y
        have hc0 : a_head (gr_it h (i + 1) cur) = 0 := by rw [y]; exact (hH cur (by omega)).mpr pc
        refine br_t hc0 ⟨vp_in_nI z (by omega), ?_⟩
        have hn1 : ¬ nu (gr_it h (i + 1) cur) = -1 := by
          have := B.2.2 0 (Nat.zero_le _)
          rw [y, show cur = gr_it h 0 cur from rfl, this]
          exact gr_nm1 (by omega)
        exact br_f hn1 (nm_r (nI_1 i) (xb_closed 0 hk'))
      · rw [hg] at y
        have hc0 : ¬ a_head (gr_it h (i + 1) cur) = 0 := fun q => y ((hH _ z).mp q)
        exact br_f hc0 (nm_r (nI_1 i) (xb_closed 0 hk'))
    · rw [gr_ex_g z]
      exact br_t rfl (nm_r (nI_1 i) (xb_closed 0 hk'))
  | succ d ih =>
    intro i nu x3 hi B hx
    have r := gr_it_R W hJ kc (i := i) (by omega)
    have rn := gr_R_n W.1 W.2.1 r
    obtain ⟨p1, z, _⟩ := hb.2.1 (i + 1) (by omega) (by omega)
    refine br_f (nI_ge (b := 40) (by omega) (by omega)) (br_f (by decide) ⟨vp_in_nI r.1 (by omega), ?_⟩)
    rw [nI_clamp (by omega)]
    refine nm_r (hS _ rn) ?_
    rw [← gr_it_s h, gr_ex_n z]
    refine br_f (gr_nm1 (by omega)) ⟨vp_in_nI z (by omega), ?_⟩
    rw [nI_clamp (by omega)]
    refine br_t ((hH _ z).mpr p1) ⟨vp_in_nI z (by omega), ?_⟩
    refine br_t (xn_B_free W hJ B hk kc hu (by omega) z) ⟨vp_in_nI z (by omega), nm_e (nm_r (nI_1 i) ?_)⟩
    exact ih (i + 1) _ 1 (by omega) (xn_B_s W hJ B hk kc hu (by omega)) ⟨fun e => absurd e (by decide), fun e => by omega⟩
theorem xb_ok {post : Int32 → SX → Prop} (W : gr_W n vs h va) (hJ : xn_J n vs h va sm J) (hS : ∀ u, u < n → a_wSucc u = gr_ex (h u)) (hM : ∀ u, u < n → a_wSum u = gr_b (sm u)) (hH : ∀ u, u < 40 → (a_head u = 0 ↔ gr_PP n vs h va u))
    {num : Nat → Nat} {cur c : Nat} (hc : c < 40) (hk : ∀ u, num u ≠ 40 → gr_g n vs h va sm u ≠ 41) (kc : gr_g n vs h va sm cur ≠ 41) (hu : num cur = 40) (I : xn_I h J num a_number)
    (K : ∀ nu sk, xn_I h J (gr_up num cur c) nu → sk = (if gr_mm n vs h va sm cur then f_sumMask ||| ((1 : Int32) <<< (nI c &&& 31)) else f_sumMask) → post (nI (gr_it h (J cur) cur)) (f_vars, f_cells, f_lengthLimit, f_entryLimit, f_count, f_fixed, f_machine, f_machinePc, f_lostCount, f_coinBits, f_analysis, f_entryCount, f_outCount, f_outLost, f_wCount, f_workLost, f_numbered, sk, f_walkCount, f_walkSummary, f_walkRing, a_opOf, a_aOf, a_bOf, a_tOf, a_machineVar, a_cellUsed, a_cellLink, a_tabNodes, a_tabSum, a_tabVar, a_tabSucc, a_entPoint, a_entPending, a_outPoint, a_wVar, a_wSucc, a_wSum, a_mark, a_head, a_preds, nu, a_rawNext)) :
    wpX_numberBlock post (f_vars, f_cells, f_lengthLimit, f_entryLimit, f_count, f_fixed, f_machine, f_machinePc, f_lostCount, f_coinBits, f_analysis, f_entryCount, f_outCount, f_outLost, f_wCount, f_workLost, f_numbered, f_sumMask, f_walkCount, f_walkSummary, f_walkRing, a_opOf, a_aOf, a_bOf, a_tOf, a_machineVar, a_cellUsed, a_cellLink, a_tabNodes, a_tabSum, a_tabVar, a_tabSucc, a_entPoint, a_entPending, a_outPoint, a_wVar, a_wSucc, a_wSum, a_mark, a_head, a_preds, a_number, a_rawNext) (nI cur) (nI c) := by
  have r := (gr_g_CT W).1 cur kc
  have rn := gr_R_n W.1 W.2.1 r
  have hb := hJ cur kc
  have K2 : ∀ nu x3, xn_B h J num cur c (J cur) nu → (x3 = 0 ↔ (sm cur = false ∧ J cur = 0)) → wX_numberBlock_110 post (nI c) x3 (nI (gr_it h (J cur) cur)) f_vars f_cells f_lengthLimit f_entryLimit f_count f_fixed f_machine f_machinePc f_lostCount f_coinBits f_analysis f_entryCount f_outCount f_outLost f_wCount f_workLost f_numbered f_sumMask f_walkCount f_walkSummary f_walkRing a_opOf a_aOf a_bOf a_tOf a_machineVar a_cellUsed a_cellLink a_tabNodes a_tabSum a_tabVar a_tabSucc a_entPoint a_entPending a_outPoint a_wVar a_wSucc a_wSum a_mark a_head a_preds nu a_rawNext := by
    intro nu x3 B hx
    have hm : x3 = 0 ↔ gr_mm n vs h va sm cur = false := by
      rw [hx]
      have b4 := hb.2.2.2
      cases hmm : gr_mm n vs h va sm cur
      · rw [hmm] at b4
        refine ⟨fun _ => rfl, fun _ => ?_⟩
        constructor
        · cases hs : sm cur
          · rfl
          · exact absurd (b4.mpr (Or.inl hs)) (by decide)
        · exact Nat.eq_zero_of_not_pos (fun z => absurd (b4.mpr (Or.inr z)) (by decide))
      · rw [hmm] at b4
        refine ⟨fun q => ?_, fun q => absurd q (by decide)⟩
        rcases b4.mp rfl with z | z
        · rw [q.1] at z; exact absurd z (by decide)
        · omega
    have I2 := xn_B_end hc hu B
    refine br_c (fun z => K nu f_sumMask I2 ?_) (fun z => nm_e (K nu _ I2 ?_))
    · rw [hm.mp z]; rfl
    · cases hmm : gr_mm n vs h va sm cur
      · exact absurd (hm.mpr hmm) z
      · rfl
  refine And.intro (vp_in_nI r.1 (by omega)) ?_
  rw [nI_clamp (by have := r.1; omega)]
  refine nm_e ⟨vp_in_nI r.1 (by omega), nm_r (hM cur rn) ⟨vp_in_nI r.1 (by omega), ?_⟩⟩
  have B0 := xn_B_0 W hJ (c := c) I hk kc hu
  refine br_c (fun z => Exists.intro (J cur + 2) ?_) (fun z => Exists.intro 1 ?_)
  · exact xb_36 W hJ hS hH hc hk kc hu ((hH cur r.1).mp z) K2 (J cur) 0 _ _ (by omega) B0 (by rw [gr_b_0]; exact ⟨fun e => ⟨e, rfl⟩, fun e => e.1⟩)
  · have j0 : J cur = 0 := Nat.eq_zero_of_not_pos (fun y => z ((hH cur r.1).mpr (hb.2.2.1 y)))
    have := K2 _ (gr_b (sm cur)) (j0 ▸ B0) (by rw [gr_b_0]; exact ⟨fun e => ⟨e, j0⟩, fun e => e.1⟩)
    rw [j0] at this
    exact xb_closed (k := 0) 0 this
/-- X's numbering against the pure one -/
def xn_N (n vs : Nat) (h va : Nat → Nat) (sm : Nat → Bool) (J : Nat → Nat) (s : Nat × (Nat → Nat) × (Nat → Nat)) (nu rn : Nat → Int32) (sk : Int32) : Prop :=
  xn_I h J s.2.1 nu ∧ (∀ i, i < 32 → bt sk i = (decide (i < s.1) && gr_mm n vs h va sm (s.2.2 i))) ∧ ∀ i, i < s.1 → rn i = gr_ex (gr_g n vs h va sm (s.2.2 i))
theorem xn_bit {c : Nat} (hc : c < 32) {i : Nat} (hi : i < 32) : bt ((1 : Int32) <<< (nI c &&& 31)) i = decide (i = c) := by
  have h : ∀ c, c < 32 → ∀ i, i < 32 → bt ((1 : Int32) <<< (nI c &&& 31)) i = decide (i = c) := by decide +kernel
  exact h c hc i hi
theorem xn_kept {s : Nat × (Nat → Nat) × (Nat → Nat)} (W : gr_W n vs h va) (hJ : xn_J n vs h va sm J) {nu : Nat → Int32} (I : xn_I h J s.2.1 nu) (hk : ∀ u, s.2.1 u ≠ 40 → gr_g n vs h va sm u ≠ 41) {u : Nat} (hu : u < 40) (ku : gr_g n vs h va sm u ≠ 41) (h12 : ∀ u, s.2.1 u ≠ 40 → s.2.1 u < 40) : nu u = gr_ex (s.2.1 u) := by
  rcases Nat.decEq (s.2.1 u) 40 with z | z
  · have := I.2 u 0 z (Nat.zero_le _)
    rw [gr_ex_n (h12 u z)]; exact this
  · rw [z, gr_ex_g (Nat.le_refl _)]
    rcases I.1 u hu with y | ⟨w, i, y1, y2, y3, y4⟩
    · exact y
    · have := (gr_DJ W hJ ku (hk w y1) 0 i (Nat.zero_le _) y2 y3).1
      exact absurd (by rw [← this]; exact z) y1
theorem xn_50 {post : SX → Prop} {J33 : Int32 → Int32 → Int32 → Int32 → Int32 → Int32 → Int32 → Int32 → Int32 → Int32 → Int32 → Int32 → Int32 → Int32 → Int32 → Int32 → Int32 → Int32 → Int32 → Int32 → Int32 → Int32 → (Nat → Int32) → (Nat → Int32) → (Nat → Int32) → (Nat → Int32) → (Nat → Int32) → (Nat → Int32) → (Nat → Int32) → (Nat → Int32) → (Nat → Int32) → (Nat → Int32) → (Nat → Int32) → (Nat → Int32) → (Nat → Int32) → (Nat → Int32) → (Nat → Int32) → (Nat → Int32) → (Nat → Int32) → (Nat → Int32) → (Nat → Int32) → (Nat → Int32) → (Nat → Int32) → (Nat → Int32) → Prop} (W : gr_W n vs h va) (hvs : vs ≤ 3) (hJ : xn_J n vs h va sm J) (hS : ∀ u, u < n → a_wSucc u = gr_ex (h u)) (hM : ∀ u, u < n → a_wSum u = gr_b (sm u)) (hH : ∀ u, u < 40 → (a_head u = 0 ↔ gr_PP n vs h va u)) {x : Nat} :
    ∀ d k p s nu rn sk, k + d = 40 → gr_NI n vs h va (gr_g n vs h va sm) s p → xn_N n vs h va sm J s nu rn sk →
      (∀ nu' rn' sk', xn_N n vs h va sm J (gr_nw1 (gr_g n vs h va sm) d p s) nu' rn' sk' → J33 (nI (x + 1)) f_vars f_cells f_lengthLimit f_entryLimit f_count f_fixed f_machine f_machinePc f_lostCount f_coinBits f_analysis f_entryCount f_outCount f_outLost f_wCount f_workLost (nI (gr_nw1 (gr_g n vs h va sm) d p s).1) sk' f_walkCount f_walkSummary f_walkRing a_opOf a_aOf a_bOf a_tOf a_machineVar a_cellUsed a_cellLink a_tabNodes a_tabSum a_tabVar a_tabSucc a_entPoint a_entPending a_outPoint a_wVar a_wSucc a_wSum a_mark a_head a_preds nu' rn') →
      wX_numberNodes_50 post J33 (nI x) (d + 1) (gr_ex p) (nI k) f_vars f_cells f_lengthLimit f_entryLimit f_count f_fixed f_machine f_machinePc f_lostCount f_coinBits f_analysis f_entryCount f_outCount f_outLost f_wCount f_workLost (nI s.1) sk f_walkCount f_walkSummary f_walkRing a_opOf a_aOf a_bOf a_tOf a_machineVar a_cellUsed a_cellLink a_tabNodes a_tabSum a_tabVar a_tabSucc a_entPoint a_entPending a_outPoint a_wVar a_wSucc a_wSum a_mark a_head a_preds nu rn := by
  have hn40 := W.1.1
  intro d
  induction d with
  | zero =>
    intro k p s nu rn sk hk I N K
    exact br_t (nI_le (a := 40) (by omega) (by omega)) (nm_r (nI_1 x) (K nu rn sk N))
  | succ d ih =>
    intro k p s nu rn sk hk I N K
    have hkp : ∀ u, s.2.1 u ≠ 40 → gr_g n vs h va sm u ≠ 41 := fun u z => (I.2.1 u z).2.1
    have h12 : ∀ u, s.2.1 u ≠ 40 → s.2.1 u < 40 := fun u z => by have := (I.2.1 u z).2.2.1; have := I.1; omega
    refine br_f (nI_ge (b := 40) (by omega) (by omega)) ?_
    rcases Nat.lt_or_ge p 40 with z | z
    · obtain ⟨kp, hdp⟩ := I.2.2.2.2 z
      have en := xn_kept W hJ N.1 hkp z kp h12
      rw [gr_ex_n z]
      refine br_f (gr_nm1 (by omega)) ⟨vp_in_nI z (by omega), ?_⟩
      rw [nI_clamp (by omega), en]
      rcases Nat.decEq (s.2.1 p) 40 with y | y
      · refine br_f (fun e => by have := gr_ex_m.mp e; have := h12 p y; omega) (nm_r (nI_1 x) ?_)
        rw [gr_nw1_f (fun c => y c.2)] at K
        exact K nu rn sk N
      · rw [gr_nw1_t ⟨z, y⟩] at K
        have I2 := gr_NIs W hvs I z y
        have h13 : s.1 + 1 ≤ 12 := I2.1
        refine br_t (by rw [y]; rfl) (br_f (nI_ge (b := 12) (by omega) (by omega)) (nm_r (nI_1 s.1) ?_))
        have r := gr_it_R W hJ kp (i := J p) (Nat.le_refl _)
        have rn' := gr_R_n W.1 W.2.1 r
        have eg : gr_g n vs h va sm p = h (gr_it h (J p) p) := by rw [← gr_it_s h]; exact (hJ p kp).1
        refine xb_ok W hJ hS hM hH (num := s.2.1) (by omega) hkp kp y N.1 (fun nu' sk' hnu hsk => ?_)
        refine ⟨vp_in_nI r.1 (by omega), vp_in_nI (by omega) (by omega), ?_⟩
        rw [nI_clamp (by have := r.1; omega), nI_clamp (by omega)]
        refine nm_e ⟨vp_in_nI r.1 (by omega), nm_r ((hS _ rn').trans (by rw [← eg])) (nm_r (nI_1 k) ?_)⟩
        refine ih (k + 1) (gr_g n vs h va sm p) (s.1 + 1, gr_up s.2.1 p s.1, gr_up s.2.2 s.1 p) nu' _ sk' (by omega) I2 ⟨hnu, fun i hi => ?_, fun i hi => ?_⟩ K
        · rw [hsk]
          show _ = (decide (i < s.1 + 1) && gr_mm n vs h va sm (gr_up s.2.2 s.1 p i))
          have o := N.2.1 i hi
          rcases Nat.decEq i s.1 with e | e
          · rw [gr_up_n e, show decide (i < s.1 + 1) = decide (i < s.1) from decide_eq_decide.mpr (by omega), ← o]
            cases hmm : gr_mm n vs h va sm p
            · rfl
            · show bt (sk ||| _) i = _
              rw [b_or, xn_bit (by omega) hi, decide_eq_false e, Bool.or_false]
          · rw [e, gr_up_s, decide_eq_true (show s.1 < s.1 + 1 by omega), Bool.true_and]
            rw [e, decide_eq_false (show ¬ s.1 < s.1 by omega), Bool.false_and] at o
            cases hmm : gr_mm n vs h va sm p
            · exact o
            · show bt (sk ||| _) s.1 = true
              rw [b_or, xn_bit (by omega) (by omega), decide_eq_true rfl, Bool.or_true]
        · have hi' : i < s.1 + 1 := hi
          show upd rn s.1 _ i = gr_ex (gr_g n vs h va sm (gr_up s.2.2 s.1 p i))
          rcases Nat.decEq i s.1 with e | e
          · rw [gr_up_n e, pk_un e]
            exact N.2.2 i (by omega)
          · rw [e, gr_up_s, pk_us, hS _ rn', eg]
    · rw [gr_ex_g z]
      refine br_t rfl (nm_r (nI_1 x) ?_)
      rw [gr_nw1_f (fun c => by omega)] at K
      exact K nu rn sk N
theorem xn_33 {post : SX → Prop} (W : gr_W n vs h va) (hvs : vs ≤ 3) (hJ : xn_J n vs h va sm J) (hV : ∀ x, x < vs → a_wVar x = gr_ex (va x)) (hS : ∀ u, u < n → a_wSucc u = gr_ex (h u)) (hM : ∀ u, u < n → a_wSum u = gr_b (sm u)) (hH : ∀ u, u < 40 → (a_head u = 0 ↔ gr_PP n vs h va u))
    (K : ∀ nu rn sk, xn_N n vs h va sm J (gr_nf n vs h va sm) nu rn sk → post (nI vs, f_cells, f_lengthLimit, f_entryLimit, f_count, f_fixed, f_machine, f_machinePc, f_lostCount, f_coinBits, f_analysis, f_entryCount, f_outCount, f_outLost, f_wCount, f_workLost, nI (gr_nfn n vs h va sm), sk, f_walkCount, f_walkSummary, f_walkRing, a_opOf, a_aOf, a_bOf, a_tOf, a_machineVar, a_cellUsed, a_cellLink, a_tabNodes, a_tabSum, a_tabVar, a_tabSucc, a_entPoint, a_entPending, a_outPoint, a_wVar, a_wSucc, a_wSum, a_mark, a_head, a_preds, nu, rn)) :
    ∀ d x nu rn sk, x + d = vs → xn_N n vs h va sm J (gr_nw (gr_g n vs h va sm) va x) nu rn sk → wX_numberNodes_33 post (d + 1) (nI x) (nI vs) f_cells f_lengthLimit f_entryLimit f_count f_fixed f_machine f_machinePc f_lostCount f_coinBits f_analysis f_entryCount f_outCount f_outLost f_wCount f_workLost (nI (gr_nw (gr_g n vs h va sm) va x).1) sk f_walkCount f_walkSummary f_walkRing a_opOf a_aOf a_bOf a_tOf a_machineVar a_cellUsed a_cellLink a_tabNodes a_tabSum a_tabVar a_tabSucc a_entPoint a_entPending a_outPoint a_wVar a_wSucc a_wSum a_mark a_head a_preds nu rn := by
  intro d
  induction d with
  | zero =>
    intro x nu rn sk hx N
    have e : x = vs := by omega
    subst e
    exact br_t (nI_le (by omega) (by omega)) (K nu rn sk N)
  | succ d ih =>
    intro x nu rn sk hx N
    refine br_f (nI_ge (by omega) (by omega)) ⟨vp_in_nI (by omega) (by omega), ?_⟩
    rw [nI_clamp (by omega)]
    refine nm_r (hV x (by omega)) (Exists.intro 41 ?_)
    exact xn_50 W hvs hJ hS hM hH 40 0 (va x) (gr_nw (gr_g n vs h va sm) va x) nu rn sk (by omega) (gr_NI_cur W (by omega) (gr_nw_ok W hvs x (by omega)).1) N (fun nu' rn' sk' N' => ih (x + 1) nu' rn' sk' (by omega) N')
theorem xn_2 {post : SX → Prop} (K : ∀ nu, (∀ u, u < 40 → nu u = -1) → ∃ n33 : Nat, wX_numberNodes_33 post n33 0 f_vars f_cells f_lengthLimit f_entryLimit f_count f_fixed f_machine f_machinePc f_lostCount f_coinBits f_analysis f_entryCount f_outCount f_outLost f_wCount f_workLost 0 0 f_walkCount f_walkSummary f_walkRing a_opOf a_aOf a_bOf a_tOf a_machineVar a_cellUsed a_cellLink a_tabNodes a_tabSum a_tabVar a_tabSucc a_entPoint a_entPending a_outPoint a_wVar a_wSucc a_wSum a_mark a_head a_preds nu a_rawNext) :
    ∀ d i nu, i + d = 40 → (∀ u, u < i → nu u = -1) → wX_numberNodes_2 post f_vars f_cells f_lengthLimit f_entryLimit f_count f_fixed f_machine f_machinePc f_lostCount f_coinBits f_analysis f_entryCount f_outCount f_outLost f_wCount f_workLost f_numbered f_sumMask f_walkCount f_walkSummary f_walkRing (d + 1) (nI i) a_opOf a_aOf a_bOf a_tOf a_machineVar a_cellUsed a_cellLink a_tabNodes a_tabSum a_tabVar a_tabSucc a_entPoint a_entPending a_outPoint a_wVar a_wSucc a_wSum a_mark a_head a_preds nu a_rawNext := by
  intro d
  induction d with
  | zero =>
    intro i mk hi hz
    exact br_t (nI_le (a := 40) (by omega) (by omega)) (K mk (fun u hu => hz u (by omega)))
  | succ d ih =>
    intro i mk hi hz
    refine br_f (nI_ge (b := 40) (by omega) (by omega)) ⟨vp_in_nI (by omega) (by omega), nm_e (nm_r (nI_1 i) ?_)⟩
    rw [nI_clamp (by omega)]
    refine ih (i + 1) _ (by omega) (fun u hu => ?_)
    rcases Nat.decEq u i with z | z
    · rw [pk_un z]; exact hz u (by omega)
    · rw [z, pk_us]
theorem xn_ok {post : SX → Prop} (W : gr_W n vs h va) (hvs : vs ≤ 3) (hJ : xn_J n vs h va sm J) (hV : ∀ x, x < vs → a_wVar x = gr_ex (va x)) (hS : ∀ u, u < n → a_wSucc u = gr_ex (h u)) (hM : ∀ u, u < n → a_wSum u = gr_b (sm u)) (hH : ∀ u, u < 40 → (a_head u = 0 ↔ gr_PP n vs h va u))
    (K : ∀ nu rn sk, xn_N n vs h va sm J (gr_nf n vs h va sm) nu rn sk → post (nI vs, f_cells, f_lengthLimit, f_entryLimit, f_count, f_fixed, f_machine, f_machinePc, f_lostCount, f_coinBits, f_analysis, f_entryCount, f_outCount, f_outLost, f_wCount, f_workLost, nI (gr_nfn n vs h va sm), sk, f_walkCount, f_walkSummary, f_walkRing, a_opOf, a_aOf, a_bOf, a_tOf, a_machineVar, a_cellUsed, a_cellLink, a_tabNodes, a_tabSum, a_tabVar, a_tabSucc, a_entPoint, a_entPending, a_outPoint, a_wVar, a_wSucc, a_wSum, a_mark, a_head, a_preds, nu, rn)) :
    wpX_numberNodes post (nI vs, f_cells, f_lengthLimit, f_entryLimit, f_count, f_fixed, f_machine, f_machinePc, f_lostCount, f_coinBits, f_analysis, f_entryCount, f_outCount, f_outLost, f_wCount, f_workLost, f_numbered, f_sumMask, f_walkCount, f_walkSummary, f_walkRing, a_opOf, a_aOf, a_bOf, a_tOf, a_machineVar, a_cellUsed, a_cellLink, a_tabNodes, a_tabSum, a_tabVar, a_tabSucc, a_entPoint, a_entPending, a_outPoint, a_wVar, a_wSucc, a_wSum, a_mark, a_head, a_preds, a_number, a_rawNext) := by
  refine Exists.intro 41 (xn_2 (fun nu hz => Exists.intro (vs + 1) (xn_33 W hvs hJ hV hS hM hH K vs 0 nu a_rawNext 0 (by omega) ⟨⟨fun u hu => Or.inl (hz u hu), fun w i hw => absurd rfl hw⟩, fun i hi => ?_, fun i hi => ?_⟩)) 40 0 a_number (by omega) (fun u hu => by omega))
  · rw [b_0]; rfl
  · exact absurd hi (by show ¬ i < 0; omega)
/-! X: writeSlot -/
def xs_S (vs s n : Nat) (h va : Nat → Nat) (sm : Nat → Bool) (tn ts tv tu : Nat → Int32) : Prop :=
  tn s = nI n ∧ (∀ x, x < vs → tv (s * 3 + x) = gr_ex (va x)) ∧ (∀ u, u < n → tu (s * 12 + u) = gr_ex (h u)) ∧ ∀ i, i < 32 → bt (ts s) i = (decide (i < n) && sm i)
def xs_F (s : Nat) (tn ts tv tu tn' ts' tv' tu' : Nat → Int32) : Prop :=
  ∀ s', s' ≠ s → tn' s' = tn s' ∧ ts' s' = ts s' ∧ (∀ x, x < 3 → tv' (s' * 3 + x) = tv (s' * 3 + x)) ∧ ∀ u, u < 12 → tu' (s' * 12 + u) = tu (s' * 12 + u)
theorem xs_SF {vs s s' n : Nat} {h va : Nat → Nat} {sm : Nat → Bool} {tn ts tv tu tn' ts' tv' tu' : Nat → Int32} (hvs : vs ≤ 3) (hn : n ≤ 12) (F : xs_F s tn ts tv tu tn' ts' tv' tu') (ne : s' ≠ s) (S : xs_S vs s' n h va sm tn ts tv tu) : xs_S vs s' n h va sm tn' ts' tv' tu' := by
  obtain ⟨f1, f2, f3, f4⟩ := F s' ne
  refine ⟨f1.trans S.1, fun x hx => (f3 x (by omega)).trans (S.2.1 x hx), fun u hu => (f4 u (by omega)).trans (S.2.2.1 u hu), fun i hi => ?_⟩
  rw [f2]; exact S.2.2.2 i hi
theorem xw_70 {post : SX → Prop} {s c : Nat} {f : Nat → Nat} (hs : s < 259) (hc : c ≤ 12) (hR : ∀ i, i < c → a_rawNext i = -1 ∧ f i = 40 ∨ ∃ j, j < 40 ∧ a_rawNext i = nI j ∧ a_number j = gr_ex (f i))
    (K : ∀ tu, (∀ u, u < c → tu (s * 12 + u) = gr_ex (f u)) → (∀ j, (j < s * 12 ∨ s * 12 + 12 ≤ j) → tu j = a_tabSucc j) → post (f_vars, f_cells, f_lengthLimit, f_entryLimit, f_count, f_fixed, f_machine, f_machinePc, f_lostCount, f_coinBits, f_analysis, f_entryCount, f_outCount, f_outLost, f_wCount, f_workLost, nI c, f_sumMask, f_walkCount, f_walkSummary, f_walkRing, a_opOf, a_aOf, a_bOf, a_tOf, a_machineVar, a_cellUsed, a_cellLink, a_tabNodes, a_tabSum, a_tabVar, tu, a_entPoint, a_entPending, a_outPoint, a_wVar, a_wSucc, a_wSum, a_mark, a_head, a_preds, a_number, a_rawNext)) :
    ∀ d i tu, i + d = c → (∀ u, u < i → tu (s * 12 + u) = gr_ex (f u)) → (∀ j, (j < s * 12 ∨ s * 12 + 12 ≤ j) → tu j = a_tabSucc j) → wX_writeSlot_70 post (nI s) f_vars f_cells f_lengthLimit f_entryLimit f_count f_fixed f_machine f_machinePc f_lostCount f_coinBits f_analysis f_entryCount f_outCount f_outLost f_wCount f_workLost (nI c) f_sumMask f_walkCount f_walkSummary f_walkRing (d + 1) (nI i) a_opOf a_aOf a_bOf a_tOf a_machineVar a_cellUsed a_cellLink a_tabNodes a_tabSum a_tabVar tu a_entPoint a_entPending a_outPoint a_wVar a_wSucc a_wSum a_mark a_head a_preds a_number a_rawNext := by
  intro d
  induction d with
  | zero =>
    intro i tu hi h1 h2
    have e : i = c := by omega
    subst e
    exact br_t (nI_le (by omega) (by omega)) (K tu h1 h2)
  | succ d ih =>
    intro i tu hi h1 h2
    have nx : ∀ v, v = gr_ex (f i) → wX_writeSlot_70 post (nI s) f_vars f_cells f_lengthLimit f_entryLimit f_count f_fixed f_machine f_machinePc f_lostCount f_coinBits f_analysis f_entryCount f_outCount f_outLost f_wCount f_workLost (nI c) f_sumMask f_walkCount f_walkSummary f_walkRing (d + 1) (nI (i + 1)) a_opOf a_aOf a_bOf a_tOf a_machineVar a_cellUsed a_cellLink a_tabNodes a_tabSum a_tabVar (upd tu (s * 12 + i) v) a_entPoint a_entPending a_outPoint a_wVar a_wSucc a_wSum a_mark a_head a_preds a_number a_rawNext := by
      intro v hv
      refine ih (i + 1) _ (by omega) (fun u hu => ?_) (fun j hj => ?_)
      · rcases Nat.decEq u i with y | y
        · rw [pk_un (by omega)]; exact h1 u (by omega)
        · rw [y, pk_us]; exact hv
      · rw [pk_un (by omega)]; exact h2 j hj
    refine br_f (nI_ge (by omega) (by omega)) ⟨vp_in_nI (by omega) (by omega), ?_⟩
    rw [nI_clamp (by omega), ix_12, nI_clamp (by omega)]
    rcases hR i (by omega) with ⟨e1, e2⟩ | ⟨j, hj, e1, e2⟩
    · refine nm_r e1 (br_t rfl ⟨vp_in_nI (by omega) (by omega), nm_e (nm_r (nI_1 i) (nx _ ?_))⟩)
      rw [e2]; rfl
    · refine nm_r e1 (br_f (gr_nm1 (by omega)) ⟨vp_in_nI hj (by omega), vp_in_nI (by omega) (by omega), nm_e (nm_r (nI_1 i) ?_)⟩)
      rw [nI_clamp (by omega)]
      exact nx _ e2
theorem xw_22 {post : SX → Prop} {s : Nat} {f : Nat → Nat} (hs : s < 259) (hvs : vs ≤ 3) (hR : ∀ i, i < vs → a_wVar i = -1 ∧ f i = 40 ∨ ∃ j, j < 40 ∧ a_wVar i = nI j ∧ a_number j = gr_ex (f i))
    (K : ∀ tv, (∀ u, u < vs → tv (s * 3 + u) = gr_ex (f u)) → (∀ j, (j < s * 3 ∨ s * 3 + 3 ≤ j) → tv j = a_tabVar j) → ∃ n70 : Nat, wX_writeSlot_70 post (nI s) (nI vs) f_cells f_lengthLimit f_entryLimit f_count f_fixed f_machine f_machinePc f_lostCount f_coinBits f_analysis f_entryCount f_outCount f_outLost f_wCount f_workLost f_numbered f_sumMask f_walkCount f_walkSummary f_walkRing n70 0 a_opOf a_aOf a_bOf a_tOf a_machineVar a_cellUsed a_cellLink a_tabNodes a_tabSum tv a_tabSucc a_entPoint a_entPending a_outPoint a_wVar a_wSucc a_wSum a_mark a_head a_preds a_number a_rawNext) :
    ∀ d i tv, i + d = vs → (∀ u, u < i → tv (s * 3 + u) = gr_ex (f u)) → (∀ j, (j < s * 3 ∨ s * 3 + 3 ≤ j) → tv j = a_tabVar j) → wX_writeSlot_22 post (nI s) (nI vs) f_cells f_lengthLimit f_entryLimit f_count f_fixed f_machine f_machinePc f_lostCount f_coinBits f_analysis f_entryCount f_outCount f_outLost f_wCount f_workLost f_numbered f_sumMask f_walkCount f_walkSummary f_walkRing (d + 1) (nI i) a_opOf a_aOf a_bOf a_tOf a_machineVar a_cellUsed a_cellLink a_tabNodes a_tabSum tv a_tabSucc a_entPoint a_entPending a_outPoint a_wVar a_wSucc a_wSum a_mark a_head a_preds a_number a_rawNext := by
  intro d
  induction d with
  | zero =>
    intro i tv hi h1 h2
    have e : i = vs := by omega
    subst e
    exact br_t (nI_le (by omega) (by omega)) (K tv h1 h2)
  | succ d ih =>
    intro i tv hi h1 h2
    have nx : ∀ v, v = gr_ex (f i) → wX_writeSlot_22 post (nI s) (nI vs) f_cells f_lengthLimit f_entryLimit f_count f_fixed f_machine f_machinePc f_lostCount f_coinBits f_analysis f_entryCount f_outCount f_outLost f_wCount f_workLost f_numbered f_sumMask f_walkCount f_walkSummary f_walkRing (d + 1) (nI (i + 1)) a_opOf a_aOf a_bOf a_tOf a_machineVar a_cellUsed a_cellLink a_tabNodes a_tabSum (upd tv (s * 3 + i) v) a_tabSucc a_entPoint a_entPending a_outPoint a_wVar a_wSucc a_wSum a_mark a_head a_preds a_number a_rawNext := by
      intro v hv
      refine ih (i + 1) _ (by omega) (fun u hu => ?_) (fun j hj => ?_)
      · rcases Nat.decEq u i with y | y
        · rw [pk_un (by omega)]; exact h1 u (by omega)
        · rw [y, pk_us]; exact hv
      · rw [pk_un (by omega)]; exact h2 j hj
    refine br_f (nI_ge (by omega) (by omega)) ⟨vp_in_nI (by omega) (by omega), ?_⟩
    rw [nI_clamp (by omega), ix_3, nI_clamp (by omega)]
    rcases hR i (by omega) with ⟨e1, e2⟩ | ⟨j, hj, e1, e2⟩
    · refine nm_r e1 (br_t rfl ⟨vp_in_nI (by omega) (by omega), nm_e (nm_r (nI_1 i) (nx _ ?_))⟩)
      rw [e2]; rfl
    · refine nm_r e1 (br_f (gr_nm1 (by omega)) ⟨vp_in_nI hj (by omega), vp_in_nI (by omega) (by omega), nm_e (nm_r (nI_1 i) ?_)⟩)
      rw [nI_clamp (by omega)]
      exact nx _ e2
theorem xw_ok {post : SX → Prop} {s : Nat} (hs : s < 259) (W : gr_W n vs h va) (hvs : vs ≤ 3) (hJ : xn_J n vs h va sm J) (hV : ∀ x, x < vs → a_wVar x = gr_ex (va x)) (N : xn_N n vs h va sm J (gr_nf n vs h va sm) a_number a_rawNext f_sumMask)
    (K : ∀ tn ts tv tu, xs_S vs s (gr_nfn n vs h va sm) (gr_nfh n vs h va sm) (gr_nfv n vs h va sm) (gr_nfs n vs h va sm) tn ts tv tu → xs_F s a_tabNodes a_tabSum a_tabVar a_tabSucc tn ts tv tu → post (nI vs, f_cells, f_lengthLimit, f_entryLimit, f_count, f_fixed, f_machine, f_machinePc, f_lostCount, f_coinBits, f_analysis, f_entryCount, f_outCount, f_outLost, f_wCount, f_workLost, nI (gr_nfn n vs h va sm), f_sumMask, f_walkCount, f_walkSummary, f_walkRing, a_opOf, a_aOf, a_bOf, a_tOf, a_machineVar, a_cellUsed, a_cellLink, tn, ts, tv, tu, a_entPoint, a_entPending, a_outPoint, a_wVar, a_wSucc, a_wSum, a_mark, a_head, a_preds, a_number, a_rawNext)) :
    wpX_writeSlot post (nI vs, f_cells, f_lengthLimit, f_entryLimit, f_count, f_fixed, f_machine, f_machinePc, f_lostCount, f_coinBits, f_analysis, f_entryCount, f_outCount, f_outLost, f_wCount, f_workLost, nI (gr_nfn n vs h va sm), f_sumMask, f_walkCount, f_walkSummary, f_walkRing, a_opOf, a_aOf, a_bOf, a_tOf, a_machineVar, a_cellUsed, a_cellLink, a_tabNodes, a_tabSum, a_tabVar, a_tabSucc, a_entPoint, a_entPending, a_outPoint, a_wVar, a_wSucc, a_wSum, a_mark, a_head, a_preds, a_number, a_rawNext) (nI s) := by
  have I := gr_nf_NI (sm := sm) W hvs
  have E := gr_nf_E (sm := sm) W hvs
  have hkp : ∀ u, (gr_nf n vs h va sm).2.1 u ≠ 40 → gr_g n vs h va sm u ≠ 41 := fun u z => (I.2.1 u z).2.1
  have h12 : ∀ u, (gr_nf n vs h va sm).2.1 u ≠ 40 → (gr_nf n vs h va sm).2.1 u < 40 := fun u z => by have := (I.2.1 u z).2.2.1; have := I.1; omega
  have key : ∀ j, j < 40 → gr_g n vs h va sm j ≠ 41 → a_number j = gr_ex (gr_nfc n vs h va sm j) := fun j hj kj => by
    rw [xn_kept W hJ N.1 hkp hj kj h12, show gr_nfc n vs h va sm j = (gr_nf n vs h va sm).2.1 j from if_pos hj]
  have hR1 : ∀ i, i < vs → a_wVar i = -1 ∧ gr_nfv n vs h va sm i = 40 ∨ ∃ j, j < 40 ∧ a_wVar i = nI j ∧ a_number j = gr_ex (gr_nfv n vs h va sm i) := by
    intro i hi
    rw [hV i hi]
    rcases Nat.lt_or_ge (va i) 40 with z | z
    · exact Or.inr ⟨va i, z, gr_ex_n z, key _ z (gr_va_HD W hi z).1⟩
    · exact Or.inl ⟨gr_ex_g z, if_neg (by omega)⟩
  have hR2 : ∀ i, i < gr_nfn n vs h va sm → a_rawNext i = -1 ∧ gr_nfh n vs h va sm i = 40 ∨ ∃ j, j < 40 ∧ a_rawNext i = nI j ∧ a_number j = gr_ex (gr_nfh n vs h va sm i) := by
    intro i hi
    rw [N.2.2 i hi, show gr_nfh n vs h va sm i = gr_nfc n vs h va sm (gr_g n vs h va sm ((gr_nf n vs h va sm).2.2 i)) from if_pos hi]
    rcases Nat.lt_or_ge (gr_g n vs h va sm ((gr_nf n vs h va sm).2.2 i)) 40 with z | z
    · exact Or.inr ⟨_, z, gr_ex_n z, key _ z ((gr_g_CT W).2.2.2.2.1 _ z)⟩
    · exact Or.inl ⟨gr_ex_g z, if_neg (by omega)⟩
  refine And.intro (vp_in_nI hs (by omega)) ?_
  rw [nI_clamp (by omega)]
  refine nm_e ⟨vp_in_nI hs (by omega), nm_e (Exists.intro (vs + 1) (xw_22 hs hvs hR1 (fun tv v1 v2 => Exists.intro (gr_nfn n vs h va sm + 1) (xw_70 hs E.1 hR2 (fun tu u1 u2 => K _ _ tv tu ⟨pk_us, v1, u1, fun i hi => ?_⟩ (fun s' ne => ⟨pk_un ne, pk_un ne, fun x hx => v2 _ (by omega), fun u hu => u2 _ (by omega)⟩)) _ 0 a_tabSucc (by omega) (fun u hu => by omega) (fun _ _ => rfl))) vs 0 a_tabVar (by omega) (fun u hu => by omega) (fun _ _ => rfl)))⟩
  rw [pk_us]
  exact N.2.1 i hi
/-- X normalises -/
theorem x_norm {post : SX → Prop} {s : Nat} (hs : s < 259) (W : gr_W n vs h va) (hvs : vs ≤ 3) (hV : ∀ x, x < vs → a_wVar x = gr_ex (va x)) (hS : ∀ u, u < n → a_wSucc u = gr_ex (h u)) (hM : ∀ u, u < n → a_wSum u = gr_b (sm u))
    (K : ∀ wl nb sk mk hd pr nu rn tn ts tv tu, gr_tv wl (∃ u, u < n ∧ ¬ gr_R h va vs u) → xs_S vs s (gr_nfn n vs h va sm) (gr_nfh n vs h va sm) (gr_nfv n vs h va sm) (gr_nfs n vs h va sm) tn ts tv tu → xs_F s a_tabNodes a_tabSum a_tabVar a_tabSucc tn ts tv tu →
      post (nI vs, f_cells, f_lengthLimit, f_entryLimit, f_count, f_fixed, f_machine, f_machinePc, f_lostCount, f_coinBits, f_analysis, f_entryCount, f_outCount, f_outLost, nI n, wl, nb, sk, f_walkCount, f_walkSummary, f_walkRing, a_opOf, a_aOf, a_bOf, a_tOf, a_machineVar, a_cellUsed, a_cellLink, tn, ts, tv, tu, a_entPoint, a_entPending, a_outPoint, a_wVar, a_wSucc, a_wSum, mk, hd, pr, nu, rn)) :
    wpX_normalise post (nI vs, f_cells, f_lengthLimit, f_entryLimit, f_count, f_fixed, f_machine, f_machinePc, f_lostCount, f_coinBits, f_analysis, f_entryCount, f_outCount, f_outLost, nI n, f_workLost, f_numbered, f_sumMask, f_walkCount, f_walkSummary, f_walkRing, a_opOf, a_aOf, a_bOf, a_tOf, a_machineVar, a_cellUsed, a_cellLink, a_tabNodes, a_tabSum, a_tabVar, a_tabSucc, a_entPoint, a_entPending, a_outPoint, a_wVar, a_wSucc, a_wSum, a_mark, a_head, a_preds, a_number, a_rawNext) (nI s) := by
  obtain ⟨J, hJ⟩ := gr_J (sm := sm) W
  unfold wpX_normalise
  dsimp only
  refine xm_ok W hvs hV hS (fun mk wl hmk hwl => ?_)
  refine xh_ok W hvs hV hS hmk (fun pr hd hhd => ?_)
  refine xn_ok W hvs hJ hV hS hM hhd (fun nu rn sk N => ?_)
  exact xw_ok hs W hvs hJ hV N (fun tn ts tv tu S F => K wl _ sk mk hd pr nu rn tn ts tv tu hwl S F)
end
end
section
/-! X: loading, tables -/
abbrev gr_S : Type := Nat × (Nat → Nat) × (Nat → Nat) × (Nat → Bool)
def xS (vs s : Nat) (S : gr_S) (tn ts tv tu : Nat → Int32) : Prop := xs_S vs s S.1 S.2.1 S.2.2.1 S.2.2.2 tn ts tv tu
def gr_ES (vs : Nat) (S : gr_S) : Prop := gr_E S.1 vs S.2.1 S.2.2.1
noncomputable def gr_NF (vs : Nat) (S : gr_S) : gr_S := (gr_nfn S.1 vs S.2.1 S.2.2.1 S.2.2.2, gr_nfh S.1 vs S.2.1 S.2.2.1 S.2.2.2, gr_nfv S.1 vs S.2.1 S.2.2.1 S.2.2.2, gr_nfs S.1 vs S.2.1 S.2.2.1 S.2.2.2)
theorem gr_NF_ES {vs : Nat} {S : gr_S} (W : gr_W S.1 vs S.2.1 S.2.2.1) (hvs : vs ≤ 3) : gr_ES vs (gr_NF vs S) := gr_nf_E W hvs
/-- the work structure -/
def xW (vs : Nat) (S : gr_S) (wv wu wm : Nat → Int32) : Prop := (∀ x, x < vs → wv x = gr_ex (S.2.2.1 x)) ∧ (∀ u, u < S.1 → wu u = gr_ex (S.2.1 u)) ∧ ∀ u, u < S.1 → wm u = gr_b (S.2.2.2 u)
def xs_M (vs cl : Nat) (mv mh : Nat → Nat) (a_machineVar a_cellUsed a_cellLink : Nat → Int32) : Prop :=
  (∀ x, x < vs → a_machineVar x = gr_ex (mv x)) ∧ ∀ c, c < cl → (a_cellUsed c = 0 ↔ mh c = 41) ∧ a_cellLink c = gr_ex (mh c)
theorem ix_bit (m : Int32) {i : Nat} (hi : i < 32) : (((m.toUInt32 >>> ((nI i).toUInt32 &&& Int32.toUInt32 31)).toInt32) &&& 1) = 0 ↔ bt m i = false := by
  have h1 : ∀ j, j < 32 → bt 1 j = decide (j = 0) := by decide +kernel
  have e := b_ushr i hi m 0
  rw [Nat.add_zero] at e
  rw [← e]
  generalize (m.toUInt32 >>> ((nI i).toUInt32 &&& Int32.toUInt32 31)).toInt32 = y
  constructor
  · intro q
    have : bt (y &&& 1) 0 = bt 0 0 := by rw [q]
    rw [b_and, b_0, h1 0 (by omega), decide_eq_true rfl, Bool.and_true] at this
    exact this
  · intro q
    refine b_ext (fun j hj => ?_)
    rw [b_and, b_0, h1 j hj]
    rcases Nat.decEq j 0 with z | z
    · rw [decide_eq_false z, Bool.and_false]
    · rw [z, q]; rfl
section
variable {n vs s cl : Nat} {h va mv mh : Nat → Nat} {sm : Nat → Bool}
variable {f_vars f_cells f_lengthLimit f_entryLimit f_count f_fixed f_machine f_machinePc f_lostCount f_coinBits f_analysis f_entryCount f_outCount f_outLost f_wCount f_workLost f_numbered f_sumMask f_walkCount f_walkSummary f_walkRing : Int32} {a_opOf a_aOf a_bOf a_tOf a_machineVar a_cellUsed a_cellLink a_tabNodes a_tabSum a_tabVar a_tabSucc a_entPoint a_entPending a_outPoint a_wVar a_wSucc a_wSum a_mark a_head a_preds a_number a_rawNext : Nat → Int32}
theorem xl_35 {post : SX → Prop} (hcl : cl ≤ 32) (hM : ∀ c, c < cl → (a_cellUsed c = 0 ↔ mh c = 41) ∧ a_cellLink c = gr_ex (mh c))
    (K : ∀ wu wm, (∀ u, u < cl → wu u = gr_ex (mh u)) → (∀ u, u < cl → wm u = gr_b false) → post (f_vars, nI cl, f_lengthLimit, f_entryLimit, f_count, f_fixed, f_machine, f_machinePc, f_lostCount, f_coinBits, f_analysis, f_entryCount, f_outCount, f_outLost, f_wCount, f_workLost, f_numbered, f_sumMask, f_walkCount, f_walkSummary, f_walkRing, a_opOf, a_aOf, a_bOf, a_tOf, a_machineVar, a_cellUsed, a_cellLink, a_tabNodes, a_tabSum, a_tabVar, a_tabSucc, a_entPoint, a_entPending, a_outPoint, a_wVar, wu, wm, a_mark, a_head, a_preds, a_number, a_rawNext)) :
    ∀ d i wu wm, i + d = cl → (∀ u, u < i → wu u = gr_ex (mh u)) → (∀ u, u < i → wm u = gr_b false) → wX_loadHeap_35 post f_vars (nI cl) f_lengthLimit f_entryLimit f_count f_fixed f_machine f_machinePc f_lostCount f_coinBits f_analysis f_entryCount f_outCount f_outLost f_wCount f_workLost f_numbered f_sumMask f_walkCount f_walkSummary f_walkRing (d + 1) (nI i) a_opOf a_aOf a_bOf a_tOf a_machineVar a_cellUsed a_cellLink a_tabNodes a_tabSum a_tabVar a_tabSucc a_entPoint a_entPending a_outPoint a_wVar wu wm a_mark a_head a_preds a_number a_rawNext := by
  intro d
  induction d with
  | zero =>
    intro i wu wm hi h1 h2
    have e : i = cl := by omega
    subst e
    exact br_t (nI_le (by omega) (by omega)) (K wu wm h1 h2)
  | succ d ih =>
    intro i wu wm hi h1 h2
    have hc := hM i (by omega)
    have nx : ∀ v, v = gr_ex (mh i) → wX_loadHeap_35 post f_vars (nI cl) f_lengthLimit f_entryLimit f_count f_fixed f_machine f_machinePc f_lostCount f_coinBits f_analysis f_entryCount f_outCount f_outLost f_wCount f_workLost f_numbered f_sumMask f_walkCount f_walkSummary f_walkRing (d + 1) (nI (i + 1)) a_opOf a_aOf a_bOf a_tOf a_machineVar a_cellUsed a_cellLink a_tabNodes a_tabSum a_tabVar a_tabSucc a_entPoint a_entPending a_outPoint a_wVar (upd wu i v) (upd wm i (vp_nar .boolean 0)) a_mark a_head a_preds a_number a_rawNext := by
      intro v hv
      refine ih (i + 1) _ _ (by omega) (fun u hu => ?_) (fun u hu => ?_)
      · rcases Nat.decEq u i with y | y
        · rw [pk_un y]; exact h1 u (by omega)
        · rw [y, pk_us]; exact hv
      · rcases Nat.decEq u i with y | y
        · rw [pk_un y]; exact h2 u (by omega)
        · rw [y, pk_us]; rfl
    refine br_f (nI_ge (by omega) (by omega)) ⟨vp_in_nI (by omega) (by omega), ?_⟩
    rw [nI_clamp (by omega)]
    refine nm_e ⟨vp_in_nI (by omega) (by omega), br_c (fun z => ⟨vp_in_nI (by omega) (by omega), nm_e (nm_r (nI_1 i) (nx _ ?_))⟩) (fun z => ⟨vp_in_nI (by omega) (by omega), vp_in_nI (by omega) (by omega), nm_e (nm_r (nI_1 i) (nx _ hc.2))⟩)⟩
    rw [hc.1.mp z]; rfl
theorem xl_10 {post : SX → Prop} (K : ∀ wv, (∀ x, x < 3 → wv x = a_machineVar x) → ∃ n35 : Nat, wX_loadHeap_35 post f_vars f_cells f_lengthLimit f_entryLimit f_count f_fixed f_machine f_machinePc f_lostCount f_coinBits f_analysis f_entryCount f_outCount f_outLost f_wCount f_workLost f_numbered f_sumMask f_walkCount f_walkSummary f_walkRing n35 0 a_opOf a_aOf a_bOf a_tOf a_machineVar a_cellUsed a_cellLink a_tabNodes a_tabSum a_tabVar a_tabSucc a_entPoint a_entPending a_outPoint wv a_wSucc a_wSum a_mark a_head a_preds a_number a_rawNext) :
    ∀ d i wv, i + d = 3 → (∀ x, x < i → wv x = a_machineVar x) → wX_loadHeap_10 post f_vars f_cells f_lengthLimit f_entryLimit f_count f_fixed f_machine f_machinePc f_lostCount f_coinBits f_analysis f_entryCount f_outCount f_outLost f_wCount f_workLost f_numbered f_sumMask f_walkCount f_walkSummary f_walkRing (d + 1) (nI i) a_opOf a_aOf a_bOf a_tOf a_machineVar a_cellUsed a_cellLink a_tabNodes a_tabSum a_tabVar a_tabSucc a_entPoint a_entPending a_outPoint wv a_wSucc a_wSum a_mark a_head a_preds a_number a_rawNext := by
  intro d
  induction d with
  | zero =>
    intro i wv hi h1
    exact br_t (nI_le (a := 3) (by omega) (by omega)) (K wv (fun x hx => h1 x (by omega)))
  | succ d ih =>
    intro i wv hi h1
    refine br_f (nI_ge (b := 3) (by omega) (by omega)) ⟨vp_in_nI (by omega) (by omega), vp_in_nI (by omega) (by omega), nm_e (nm_r (nI_1 i) ?_)⟩
    rw [nI_clamp (by omega)]
    refine ih (i + 1) _ (by omega) (fun x hx => ?_)
    rcases Nat.decEq x i with y | y
    · rw [pk_un y]; exact h1 x (by omega)
    · rw [y, pk_us]
theorem xl_heap {post : SX → Prop} (hcl : cl ≤ 32) (hvs : vs ≤ 3) (M : xs_M vs cl mv mh a_machineVar a_cellUsed a_cellLink)
    (K : ∀ wv wu wm, xW vs (cl, mh, mv, fun _ => false) wv wu wm → post (f_vars, nI cl, f_lengthLimit, f_entryLimit, f_count, f_fixed, f_machine, f_machinePc, f_lostCount, f_coinBits, f_analysis, f_entryCount, f_outCount, f_outLost, nI cl, f_workLost, f_numbered, f_sumMask, f_walkCount, f_walkSummary, f_walkRing, a_opOf, a_aOf, a_bOf, a_tOf, a_machineVar, a_cellUsed, a_cellLink, a_tabNodes, a_tabSum, a_tabVar, a_tabSucc, a_entPoint, a_entPending, a_outPoint, wv, wu, wm, a_mark, a_head, a_preds, a_number, a_rawNext)) : wpX_loadHeap post (f_vars, nI cl, f_lengthLimit, f_entryLimit, f_count, f_fixed, f_machine, f_machinePc, f_lostCount, f_coinBits, f_analysis, f_entryCount, f_outCount, f_outLost, f_wCount, f_workLost, f_numbered, f_sumMask, f_walkCount, f_walkSummary, f_walkRing, a_opOf, a_aOf, a_bOf, a_tOf, a_machineVar, a_cellUsed, a_cellLink, a_tabNodes, a_tabSum, a_tabVar, a_tabSucc, a_entPoint, a_entPending, a_outPoint, a_wVar, a_wSucc, a_wSum, a_mark, a_head, a_preds, a_number, a_rawNext) :=
  Exists.intro 4 (xl_10 (fun wv hv => Exists.intro (cl + 1) (xl_35 hcl M.2 (fun wu wm h1 h2 => K wv wu wm ⟨fun x hx => (hv x (by omega)).trans (M.1 x hx), h1, h2⟩) cl 0 a_wSucc a_wSum (by omega) (fun u hu => by omega) (fun u hu => by omega))) 3 0 a_wVar (by omega) (fun x hx => by omega))
theorem xl_53 {post : SX → Prop} (hs : s < 259) (hn : n ≤ 12) (hU : ∀ u, u < n → a_tabSucc (s * 12 + u) = gr_ex (h u)) (hB : ∀ i, i < 32 → bt (a_tabSum s) i = (decide (i < n) && sm i))
    (K : ∀ wu wm, (∀ u, u < n → wu u = gr_ex (h u)) → (∀ u, u < n → wm u = gr_b (sm u)) → post (f_vars, f_cells, f_lengthLimit, f_entryLimit, f_count, f_fixed, f_machine, f_machinePc, f_lostCount, f_coinBits, f_analysis, f_entryCount, f_outCount, f_outLost, nI n, f_workLost, f_numbered, f_sumMask, f_walkCount, f_walkSummary, f_walkRing, a_opOf, a_aOf, a_bOf, a_tOf, a_machineVar, a_cellUsed, a_cellLink, a_tabNodes, a_tabSum, a_tabVar, a_tabSucc, a_entPoint, a_entPending, a_outPoint, a_wVar, wu, wm, a_mark, a_head, a_preds, a_number, a_rawNext)) :
    ∀ d i wu wm, i + d = n → (∀ u, u < i → wu u = gr_ex (h u)) → (∀ u, u < i → wm u = gr_b (sm u)) → wX_loadSlot_53 post (nI s) f_vars f_cells f_lengthLimit f_entryLimit f_count f_fixed f_machine f_machinePc f_lostCount f_coinBits f_analysis f_entryCount f_outCount f_outLost (nI n) f_workLost f_numbered f_sumMask f_walkCount f_walkSummary f_walkRing (d + 1) (nI i) a_opOf a_aOf a_bOf a_tOf a_machineVar a_cellUsed a_cellLink a_tabNodes a_tabSum a_tabVar a_tabSucc a_entPoint a_entPending a_outPoint a_wVar wu wm a_mark a_head a_preds a_number a_rawNext := by
  intro d
  induction d with
  | zero =>
    intro i wu wm hi h1 h2
    have e : i = n := by omega
    subst e
    exact br_t (nI_le (by omega) (by omega)) (K wu wm h1 h2)
  | succ d ih =>
    intro i wu wm hi h1 h2
    have nx : ∀ v, v = gr_b (sm i) → wX_loadSlot_53 post (nI s) f_vars f_cells f_lengthLimit f_entryLimit f_count f_fixed f_machine f_machinePc f_lostCount f_coinBits f_analysis f_entryCount f_outCount f_outLost (nI n) f_workLost f_numbered f_sumMask f_walkCount f_walkSummary f_walkRing (d + 1) (nI (i + 1)) a_opOf a_aOf a_bOf a_tOf a_machineVar a_cellUsed a_cellLink a_tabNodes a_tabSum a_tabVar a_tabSucc a_entPoint a_entPending a_outPoint a_wVar (upd wu i (a_tabSucc (s * 12 + i))) (upd wm i v) a_mark a_head a_preds a_number a_rawNext := by
      intro v hv
      refine ih (i + 1) _ _ (by omega) (fun u hu => ?_) (fun u hu => ?_)
      · rcases Nat.decEq u i with y | y
        · rw [pk_un y]; exact h1 u (by omega)
        · rw [y, pk_us]; exact hU i (by omega)
      · rcases Nat.decEq u i with y | y
        · rw [pk_un y]; exact h2 u (by omega)
        · rw [y, pk_us]; exact hv
    have hb := hB i (by omega)
    rw [decide_eq_true (show i < n by omega), Bool.true_and] at hb
    refine br_f (nI_ge (by omega) (by omega)) ?_
    rw [ix_12, nI_clamp (by omega), nI_clamp (by omega), nI_clamp (by omega)]
    refine ⟨vp_in_nI (by omega) (by omega), vp_in_nI (by omega) (by omega), nm_e ⟨vp_in_nI hs (by omega), br_c (fun z => ⟨vp_in_nI (by omega) (by omega), nm_e (nm_r (nI_1 i) (nx _ ?_))⟩) (fun z => ⟨vp_in_nI (by omega) (by omega), nm_e (nm_r (nI_1 i) (nx _ ?_))⟩)⟩⟩
    · rw [ix_bit _ (by omega), hb] at z
      rw [z]; rfl
    · rw [ix_bit _ (by omega), hb] at z
      cases hh : sm i
      · exact absurd hh z
      · rfl
theorem xl_12 {post : SX → Prop} (hs : s < 259) (hvs : vs ≤ 3) (hV : ∀ x, x < vs → a_tabVar (s * 3 + x) = gr_ex (va x))
    (K : ∀ wv, (∀ x, x < vs → wv x = gr_ex (va x)) → ∃ n53 : Nat, wX_loadSlot_53 post (nI s) (nI vs) f_cells f_lengthLimit f_entryLimit f_count f_fixed f_machine f_machinePc f_lostCount f_coinBits f_analysis f_entryCount f_outCount f_outLost f_wCount f_workLost f_numbered f_sumMask f_walkCount f_walkSummary f_walkRing n53 0 a_opOf a_aOf a_bOf a_tOf a_machineVar a_cellUsed a_cellLink a_tabNodes a_tabSum a_tabVar a_tabSucc a_entPoint a_entPending a_outPoint wv a_wSucc a_wSum a_mark a_head a_preds a_number a_rawNext) :
    ∀ d i wv, i + d = 3 → (∀ x, x < vs → x < i → wv x = gr_ex (va x)) → wX_loadSlot_12 post (nI s) (nI vs) f_cells f_lengthLimit f_entryLimit f_count f_fixed f_machine f_machinePc f_lostCount f_coinBits f_analysis f_entryCount f_outCount f_outLost f_wCount f_workLost f_numbered f_sumMask f_walkCount f_walkSummary f_walkRing (d + 1) (nI i) a_opOf a_aOf a_bOf a_tOf a_machineVar a_cellUsed a_cellLink a_tabNodes a_tabSum a_tabVar a_tabSucc a_entPoint a_entPending a_outPoint wv a_wSucc a_wSum a_mark a_head a_preds a_number a_rawNext := by
  intro d
  induction d with
  | zero =>
    intro i wv hi h1
    exact br_t (nI_le (a := 3) (by omega) (by omega)) (K wv (fun x hx => h1 x hx (by omega)))
  | succ d ih =>
    intro i wv hi h1
    have nx : ∀ v, (i < vs → v = gr_ex (va i)) → wX_loadSlot_12 post (nI s) (nI vs) f_cells f_lengthLimit f_entryLimit f_count f_fixed f_machine f_machinePc f_lostCount f_coinBits f_analysis f_entryCount f_outCount f_outLost f_wCount f_workLost f_numbered f_sumMask f_walkCount f_walkSummary f_walkRing (d + 1) (nI (i + 1)) a_opOf a_aOf a_bOf a_tOf a_machineVar a_cellUsed a_cellLink a_tabNodes a_tabSum a_tabVar a_tabSucc a_entPoint a_entPending a_outPoint (upd wv i v) a_wSucc a_wSum a_mark a_head a_preds a_number a_rawNext := by
      intro v hv
      refine ih (i + 1) _ (by omega) (fun x hx hxi => ?_)
      rcases Nat.decEq x i with y | y
      · rw [pk_un y]; exact h1 x hx (by omega)
      · rw [y, pk_us]; exact hv (by omega)
    refine br_f (nI_ge (b := 3) (by omega) (by omega)) ?_
    rw [ix_3, nI_clamp (by omega), nI_clamp (by omega)]
    refine pk_le vs i (fun z => ⟨vp_in_nI (by omega) (by omega), nm_e (nm_r (nI_1 i) (nx _ (fun y => by omega)))⟩) (fun z => ⟨vp_in_nI (by omega) (by omega), vp_in_nI (by omega) (by omega), nm_e (nm_r (nI_1 i) (nx _ (fun y => hV i y)))⟩)
theorem xl_slot {post : SX → Prop} {S : gr_S} (hs : s < 259) (hvs : vs ≤ 3) (hn : S.1 ≤ 12) (T : xS vs s S a_tabNodes a_tabSum a_tabVar a_tabSucc)
    (K : ∀ wv wu wm, xW vs S wv wu wm → post (nI vs, f_cells, f_lengthLimit, f_entryLimit, f_count, f_fixed, f_machine, f_machinePc, f_lostCount, f_coinBits, f_analysis, f_entryCount, f_outCount, f_outLost, nI S.1, f_workLost, f_numbered, f_sumMask, f_walkCount, f_walkSummary, f_walkRing, a_opOf, a_aOf, a_bOf, a_tOf, a_machineVar, a_cellUsed, a_cellLink, a_tabNodes, a_tabSum, a_tabVar, a_tabSucc, a_entPoint, a_entPending, a_outPoint, wv, wu, wm, a_mark, a_head, a_preds, a_number, a_rawNext)) : wpX_loadSlot post (nI vs, f_cells, f_lengthLimit, f_entryLimit, f_count, f_fixed, f_machine, f_machinePc, f_lostCount, f_coinBits, f_analysis, f_entryCount, f_outCount, f_outLost, f_wCount, f_workLost, f_numbered, f_sumMask, f_walkCount, f_walkSummary, f_walkRing, a_opOf, a_aOf, a_bOf, a_tOf, a_machineVar, a_cellUsed, a_cellLink, a_tabNodes, a_tabSum, a_tabVar, a_tabSucc, a_entPoint, a_entPending, a_outPoint, a_wVar, a_wSucc, a_wSum, a_mark, a_head, a_preds, a_number, a_rawNext) (nI s) := by
  obtain ⟨t1, t2, t3, t4⟩ := T
  refine And.intro (vp_in_nI hs (by omega)) ?_
  rw [nI_clamp (by omega)]
  refine nm_r t1 (Exists.intro 4 (xl_12 hs hvs t2 (fun wv hv => Exists.intro (S.1 + 1) (xl_53 hs hn t3 t4 (fun wu wm h1 h2 => K wv wu wm ⟨hv, h1, h2⟩) S.1 0 a_wSucc a_wSum (by omega) (fun u hu => by omega) (fun u hu => by omega))) 3 0 a_wVar (by omega) (fun x _ hx => by omega)))
/-! sameSkeleton, copySlot, isSummary, leadsTo -/
def gr_SK (vs : Nat) (S T : gr_S) : Prop := S.1 = T.1 ∧ (∀ x, x < vs → S.2.2.1 x = T.2.2.1 x) ∧ ∀ u, u < S.1 → S.2.1 u = T.2.1 u
theorem xk_60 {post : Int32 → Prop} {p q : Nat} {f : Nat → Nat} (hp : p < 259) (hq : q < 259) (hn : n ≤ 12) (hz : a_tabNodes p = nI n) (h40 : ∀ u, u < n → h u ≤ 40 ∧ f u ≤ 40) (h1 : ∀ u, u < n → a_tabSucc (p * 12 + u) = gr_ex (h u)) (h2 : ∀ u, u < n → a_tabSucc (q * 12 + u) = gr_ex (f u))
    (K : ∀ r, gr_tv r (∀ u, u < n → h u = f u) → post r) : ∀ d i, i + d = n → (∀ u, u < i → h u = f u) → wX_sameSkeleton_60 post (nI p) (nI q) f_vars f_cells f_lengthLimit f_entryLimit f_count f_fixed f_machine f_machinePc f_lostCount f_coinBits f_analysis f_entryCount f_outCount f_outLost f_wCount f_workLost f_numbered f_sumMask f_walkCount f_walkSummary f_walkRing a_opOf a_aOf a_bOf a_tOf a_machineVar a_cellUsed a_cellLink a_tabNodes a_tabSum a_tabVar a_tabSucc a_entPoint a_entPending a_outPoint a_wVar a_wSucc a_wSum a_mark a_head a_preds a_number a_rawNext (d + 1) (nI i) := by
  intro d
  induction d with
  | zero =>
    intro i hi g
    have e : i = n := by omega
    subst e
    refine And.intro (vp_in_nI hp (by omega)) ?_
    rw [nI_clamp (by omega), hz]
    exact br_t (nI_le (by omega) (by omega)) (K 1 (gr_tv_t g))
  | succ d ih =>
    intro i hi g
    refine And.intro (vp_in_nI hp (by omega)) ?_
    rw [nI_clamp (by omega), hz]
    refine br_f (nI_ge (by omega) (by omega)) ?_
    rw [ix_12, ix_12, nI_clamp (by omega), nI_clamp (by omega), h1 i (by omega), h2 i (by omega)]
    refine ⟨vp_in_nI (by omega) (by omega), vp_in_nI (by omega) (by omega), ?_⟩
    rcases Nat.decEq (h i) (f i) with z | z
    · exact br_f (fun e => z (gr_ex_i _ _ (h40 i (by omega)).1 (h40 i (by omega)).2 e)) (K 0 (gr_tv_f (fun w => z (w i (by omega)))))
    · refine br_t (by rw [z]) (nm_r (nI_1 i) (ih (i + 1) (by omega) (fun u hu => ?_)))
      rcases Nat.decEq u i with y | y
      · exact g u (by omega)
      · rw [y]; exact z
theorem xk_19 {post : Int32 → Prop} {p q : Nat} {f : Nat → Nat} (hp : p < 259) (hq : q < 259) (hvs : vs ≤ 3) (h40 : ∀ u, u < vs → va u ≤ 40 ∧ f u ≤ 40) (h1 : ∀ u, u < vs → a_tabVar (p * 3 + u) = gr_ex (va u)) (h2 : ∀ u, u < vs → a_tabVar (q * 3 + u) = gr_ex (f u))
    (K : (∀ u, u < vs → va u = f u) → ∃ n60 : Nat, wX_sameSkeleton_60 post (nI p) (nI q) (nI vs) f_cells f_lengthLimit f_entryLimit f_count f_fixed f_machine f_machinePc f_lostCount f_coinBits f_analysis f_entryCount f_outCount f_outLost f_wCount f_workLost f_numbered f_sumMask f_walkCount f_walkSummary f_walkRing a_opOf a_aOf a_bOf a_tOf a_machineVar a_cellUsed a_cellLink a_tabNodes a_tabSum a_tabVar a_tabSucc a_entPoint a_entPending a_outPoint a_wVar a_wSucc a_wSum a_mark a_head a_preds a_number a_rawNext n60 0) (K0 : ¬ (∀ u, u < vs → va u = f u) → post 0) : ∀ d i, i + d = vs → (∀ u, u < i → va u = f u) → wX_sameSkeleton_19 post (nI p) (nI q) (nI vs) f_cells f_lengthLimit f_entryLimit f_count f_fixed f_machine f_machinePc f_lostCount f_coinBits f_analysis f_entryCount f_outCount f_outLost f_wCount f_workLost f_numbered f_sumMask f_walkCount f_walkSummary f_walkRing a_opOf a_aOf a_bOf a_tOf a_machineVar a_cellUsed a_cellLink a_tabNodes a_tabSum a_tabVar a_tabSucc a_entPoint a_entPending a_outPoint a_wVar a_wSucc a_wSum a_mark a_head a_preds a_number a_rawNext (d + 1) (nI i) := by
  intro d
  induction d with
  | zero =>
    intro i hi g
    have e : i = vs := by omega
    subst e
    exact br_t (nI_le (by omega) (by omega)) (K g)
  | succ d ih =>
    intro i hi g
    refine br_f (nI_ge (by omega) (by omega)) ?_
    rw [ix_3, ix_3, nI_clamp (by omega), nI_clamp (by omega), h1 i (by omega), h2 i (by omega)]
    refine ⟨vp_in_nI (by omega) (by omega), vp_in_nI (by omega) (by omega), ?_⟩
    rcases Nat.decEq (va i) (f i) with z | z
    · exact br_f (fun e => z (gr_ex_i _ _ (h40 i (by omega)).1 (h40 i (by omega)).2 e)) (K0 (fun w => z (w i (by omega))))
    · refine br_t (by rw [z]) (nm_r (nI_1 i) (ih (i + 1) (by omega) (fun u hu => ?_)))
      rcases Nat.decEq u i with y | y
      · exact g u (by omega)
      · rw [y]; exact z
theorem gr_E40 {S : gr_S} (E : gr_ES vs S) : (∀ u, S.2.1 u ≤ 40) ∧ (∀ x, x < vs → S.2.2.1 x ≤ 40) ∧ S.1 ≤ 12 := by
  obtain ⟨e1, e2, e3, e4⟩ := E
  exact ⟨fun u => by have := e2 u; omega, fun x hx => by have := e4 x hx; omega, e1⟩
theorem xk_ok {post : Int32 → Prop} {p q : Nat} {S T : gr_S} (hp : p < 259) (hq : q < 259) (hvs : vs ≤ 3) (ES : gr_ES vs S) (ET : gr_ES vs T) (hS : xS vs p S a_tabNodes a_tabSum a_tabVar a_tabSucc) (hT : xS vs q T a_tabNodes a_tabSum a_tabVar a_tabSucc)
    (K : ∀ r, gr_tv r (gr_SK vs S T) → post r) : wpX_sameSkeleton post (nI vs, f_cells, f_lengthLimit, f_entryLimit, f_count, f_fixed, f_machine, f_machinePc, f_lostCount, f_coinBits, f_analysis, f_entryCount, f_outCount, f_outLost, f_wCount, f_workLost, f_numbered, f_sumMask, f_walkCount, f_walkSummary, f_walkRing, a_opOf, a_aOf, a_bOf, a_tOf, a_machineVar, a_cellUsed, a_cellLink, a_tabNodes, a_tabSum, a_tabVar, a_tabSucc, a_entPoint, a_entPending, a_outPoint, a_wVar, a_wSucc, a_wSum, a_mark, a_head, a_preds, a_number, a_rawNext) (nI p) (nI q) := by
  obtain ⟨s1, s2, s3, s4⟩ := hS
  obtain ⟨t1, t2, t3, t4⟩ := hT
  obtain ⟨a1, a2, a3⟩ := gr_E40 ES
  obtain ⟨b1, b2, b3⟩ := gr_E40 ET
  refine And.intro (vp_in_nI hp (by omega)) ⟨vp_in_nI hq (by omega), ?_⟩
  rw [nI_clamp (by omega), nI_clamp (by omega), s1, t1]
  refine pk_eq S.1 T.1 (fun e => Exists.intro (vs + 1) ?_) (fun e => K 0 (gr_tv_f (fun w => e w.1)))
  refine xk_19 hp hq hvs (fun u hu => ⟨a2 u hu, b2 u hu⟩) s2 t2 (fun g => Exists.intro (S.1 + 1) ?_) (fun g => K 0 (gr_tv_f (fun w => g w.2.1))) vs 0 (by omega) (fun u hu => by omega)
  exact xk_60 (n := S.1) hp hq a3 s1 (fun u _ => ⟨a1 u, b1 u⟩) s3 (fun u hu => t3 u (by omega)) (fun r hr => K r (gr_tv_iff ⟨fun w => ⟨e, g, w⟩, fun w => w.2.2⟩ hr)) S.1 0 (by omega) (fun u hu => by omega)
theorem xy_59 {post : SX → Prop} {p q : Nat} (hp : p < 259) (hq : q < 259) (hpq : p ≠ q) {tu0 : Nat → Int32}
    (K : ∀ tu, (∀ u, u < 12 → tu (q * 12 + u) = tu0 (p * 12 + u)) → (∀ j, (j < q * 12 ∨ q * 12 + 12 ≤ j) → tu j = tu0 j) → post (f_vars, f_cells, f_lengthLimit, f_entryLimit, f_count, f_fixed, f_machine, f_machinePc, f_lostCount, f_coinBits, f_analysis, f_entryCount, f_outCount, f_outLost, f_wCount, f_workLost, f_numbered, f_sumMask, f_walkCount, f_walkSummary, f_walkRing, a_opOf, a_aOf, a_bOf, a_tOf, a_machineVar, a_cellUsed, a_cellLink, a_tabNodes, a_tabSum, a_tabVar, tu, a_entPoint, a_entPending, a_outPoint, a_wVar, a_wSucc, a_wSum, a_mark, a_head, a_preds, a_number, a_rawNext)) :
    ∀ d i tu, i + d = 12 → (∀ u, u < i → tu (q * 12 + u) = tu0 (p * 12 + u)) → (∀ j, (j < q * 12 ∨ q * 12 + 12 ≤ j) → tu j = tu0 j) → wX_copySlot_59 post (nI p) (nI q) f_vars f_cells f_lengthLimit f_entryLimit f_count f_fixed f_machine f_machinePc f_lostCount f_coinBits f_analysis f_entryCount f_outCount f_outLost f_wCount f_workLost f_numbered f_sumMask f_walkCount f_walkSummary f_walkRing (d + 1) (nI i) a_opOf a_aOf a_bOf a_tOf a_machineVar a_cellUsed a_cellLink a_tabNodes a_tabSum a_tabVar tu a_entPoint a_entPending a_outPoint a_wVar a_wSucc a_wSum a_mark a_head a_preds a_number a_rawNext := by
  intro d
  induction d with
  | zero =>
    intro i tu hi h1 h2
    exact br_t (nI_le (a := 12) (by omega) (by omega)) (K tu (fun u hu => h1 u (by omega)) h2)
  | succ d ih =>
    intro i tu hi h1 h2
    refine br_f (nI_ge (b := 12) (by omega) (by omega)) ?_
    rw [ix_12, ix_12, nI_clamp (by omega), nI_clamp (by omega)]
    refine ⟨vp_in_nI (by omega) (by omega), vp_in_nI (by omega) (by omega), nm_e (nm_r (nI_1 i) (ih (i + 1) _ (by omega) (fun u hu => ?_) (fun j hj => ?_)))⟩
    · rcases Nat.decEq u i with y | y
      · rw [pk_un (by omega)]; exact h1 u (by omega)
      · rw [y, pk_us]; exact h2 _ (by omega)
    · rw [pk_un (by omega)]; exact h2 j hj
theorem xy_26 {post : SX → Prop} {p q : Nat} (hp : p < 259) (hq : q < 259) (hpq : p ≠ q) {tv0 : Nat → Int32}
    (K : ∀ tv, (∀ u, u < 3 → tv (q * 3 + u) = tv0 (p * 3 + u)) → (∀ j, (j < q * 3 ∨ q * 3 + 3 ≤ j) → tv j = tv0 j) → ∃ n59 : Nat, wX_copySlot_59 post (nI p) (nI q) f_vars f_cells f_lengthLimit f_entryLimit f_count f_fixed f_machine f_machinePc f_lostCount f_coinBits f_analysis f_entryCount f_outCount f_outLost f_wCount f_workLost f_numbered f_sumMask f_walkCount f_walkSummary f_walkRing n59 0 a_opOf a_aOf a_bOf a_tOf a_machineVar a_cellUsed a_cellLink a_tabNodes a_tabSum tv a_tabSucc a_entPoint a_entPending a_outPoint a_wVar a_wSucc a_wSum a_mark a_head a_preds a_number a_rawNext) :
    ∀ d i tv, i + d = 3 → (∀ u, u < i → tv (q * 3 + u) = tv0 (p * 3 + u)) → (∀ j, (j < q * 3 ∨ q * 3 + 3 ≤ j) → tv j = tv0 j) → wX_copySlot_26 post (nI p) (nI q) f_vars f_cells f_lengthLimit f_entryLimit f_count f_fixed f_machine f_machinePc f_lostCount f_coinBits f_analysis f_entryCount f_outCount f_outLost f_wCount f_workLost f_numbered f_sumMask f_walkCount f_walkSummary f_walkRing (d + 1) (nI i) a_opOf a_aOf a_bOf a_tOf a_machineVar a_cellUsed a_cellLink a_tabNodes a_tabSum tv a_tabSucc a_entPoint a_entPending a_outPoint a_wVar a_wSucc a_wSum a_mark a_head a_preds a_number a_rawNext := by
  intro d
  induction d with
  | zero =>
    intro i tv hi h1 h2
    exact br_t (nI_le (a := 3) (by omega) (by omega)) (K tv (fun u hu => h1 u (by omega)) h2)
  | succ d ih =>
    intro i tv hi h1 h2
    refine br_f (nI_ge (b := 3) (by omega) (by omega)) ?_
    rw [ix_3, ix_3, nI_clamp (by omega), nI_clamp (by omega)]
    refine ⟨vp_in_nI (by omega) (by omega), vp_in_nI (by omega) (by omega), nm_e (nm_r (nI_1 i) (ih (i + 1) _ (by omega) (fun u hu => ?_) (fun j hj => ?_)))⟩
    · rcases Nat.decEq u i with y | y
      · rw [pk_un (by omega)]; exact h1 u (by omega)
      · rw [y, pk_us]; exact h2 _ (by omega)
    · rw [pk_un (by omega)]; exact h2 j hj
theorem xy_ok {post : SX → Prop} {p q : Nat} {S : gr_S} (hp : p < 259) (hq : q < 259) (hpq : p ≠ q) (hvs : vs ≤ 3) (ES : gr_ES vs S) (hS : xS vs p S a_tabNodes a_tabSum a_tabVar a_tabSucc)
    (K : ∀ tn ts tv tu, xS vs q S tn ts tv tu → xs_F q a_tabNodes a_tabSum a_tabVar a_tabSucc tn ts tv tu → post (f_vars, f_cells, f_lengthLimit, f_entryLimit, f_count, f_fixed, f_machine, f_machinePc, f_lostCount, f_coinBits, f_analysis, f_entryCount, f_outCount, f_outLost, f_wCount, f_workLost, f_numbered, f_sumMask, f_walkCount, f_walkSummary, f_walkRing, a_opOf, a_aOf, a_bOf, a_tOf, a_machineVar, a_cellUsed, a_cellLink, tn, ts, tv, tu, a_entPoint, a_entPending, a_outPoint, a_wVar, a_wSucc, a_wSum, a_mark, a_head, a_preds, a_number, a_rawNext)) : wpX_copySlot post (f_vars, f_cells, f_lengthLimit, f_entryLimit, f_count, f_fixed, f_machine, f_machinePc, f_lostCount, f_coinBits, f_analysis, f_entryCount, f_outCount, f_outLost, f_wCount, f_workLost, f_numbered, f_sumMask, f_walkCount, f_walkSummary, f_walkRing, a_opOf, a_aOf, a_bOf, a_tOf, a_machineVar, a_cellUsed, a_cellLink, a_tabNodes, a_tabSum, a_tabVar, a_tabSucc, a_entPoint, a_entPending, a_outPoint, a_wVar, a_wSucc, a_wSum, a_mark, a_head, a_preds, a_number, a_rawNext) (nI p) (nI q) := by
  obtain ⟨s1, s2, s3, s4⟩ := hS
  have hn := ES.1
  refine And.intro (vp_in_nI hp (by omega)) ⟨vp_in_nI hq (by omega), ?_⟩
  rw [nI_clamp (by omega), nI_clamp (by omega)]
  refine nm_e ⟨vp_in_nI hp (by omega), vp_in_nI hq (by omega), nm_e (Exists.intro 4 ?_)⟩
  refine xy_26 (tv0 := a_tabVar) hp hq hpq (fun tv v1 v2 => Exists.intro 13 ?_) 3 0 a_tabVar (by omega) (fun u hu => by omega) (fun _ _ => rfl)
  refine xy_59 (tu0 := a_tabSucc) hp hq hpq (fun tu u1 u2 => ?_) 12 0 a_tabSucc (by omega) (fun u hu => by omega) (fun _ _ => rfl)
  refine K _ _ tv tu ⟨by rw [pk_us]; exact s1, fun x hx => (v1 x (by omega)).trans (s2 x hx), fun u hu => (u1 u (by omega)).trans (s3 u hu), fun i hi => by rw [pk_us]; exact s4 i hi⟩ (fun s' ne => ⟨pk_un ne, pk_un ne, fun x hx => v2 _ (by omega), fun u hu => u2 _ (by omega)⟩)
theorem xi_sum {post : Int32 → Prop} {p u : Nat} {S : gr_S} (hp : p < 259) (ES : gr_ES vs S) (hS : xS vs p S a_tabNodes a_tabSum a_tabVar a_tabSucc) (hu : u < S.1) (K : post (gr_b (S.2.2.2 u))) : wpX_isSummary post (f_vars, f_cells, f_lengthLimit, f_entryLimit, f_count, f_fixed, f_machine, f_machinePc, f_lostCount, f_coinBits, f_analysis, f_entryCount, f_outCount, f_outLost, f_wCount, f_workLost, f_numbered, f_sumMask, f_walkCount, f_walkSummary, f_walkRing, a_opOf, a_aOf, a_bOf, a_tOf, a_machineVar, a_cellUsed, a_cellLink, a_tabNodes, a_tabSum, a_tabVar, a_tabSucc, a_entPoint, a_entPending, a_outPoint, a_wVar, a_wSucc, a_wSum, a_mark, a_head, a_preds, a_number, a_rawNext) (nI p) (nI u) := by
  have hn := ES.1
  have hb := hS.2.2.2 u (by omega)
  rw [decide_eq_true hu, Bool.true_and] at hb
  refine And.intro (vp_in_nI hp (by omega)) ?_
  rw [nI_clamp (by omega)]
  refine br_c (fun z => ?_) (fun z => ?_)
  · rw [ix_bit _ (by omega), hb] at z
    rw [z] at K; exact K
  · rw [ix_bit _ (by omega), hb] at z
    cases hh : S.2.2.2 u
    · exact absurd hh z
    · rw [hh] at K; exact K
theorem xi_truth {post : Int32 → Prop} {r : Int32} {P : Prop} (hr : gr_tv r P) (K : post r) : wpX_truth post (f_vars, f_cells, f_lengthLimit, f_entryLimit, f_count, f_fixed, f_machine, f_machinePc, f_lostCount, f_coinBits, f_analysis, f_entryCount, f_outCount, f_outLost, f_wCount, f_workLost, f_numbered, f_sumMask, f_walkCount, f_walkSummary, f_walkRing, a_opOf, a_aOf, a_bOf, a_tOf, a_machineVar, a_cellUsed, a_cellLink, a_tabNodes, a_tabSum, a_tabVar, a_tabSucc, a_entPoint, a_entPending, a_outPoint, a_wVar, a_wSucc, a_wSum, a_mark, a_head, a_preds, a_number, a_rawNext) r := by
  rcases hr with ⟨rfl, q⟩ | ⟨rfl, q⟩
  · exact br_t rfl K
  · exact br_f (by decide) K
theorem gr_b_tv (b : Bool) : gr_tv (gr_b b) (b = true) := by
  cases b
  · exact gr_tv_f (by decide)
  · exact gr_tv_t rfl
theorem xd_16 {post : Int32 → Prop} {u v : Nat} (hs : s < 259) (hn : n ≤ 12) (G : gr_G n h) (hS : ∀ u, u < n → a_tabSucc (s * 12 + u) = gr_ex (h u)) (hu : u < n) (hv : v < 40) (K : ∀ r, gr_tv r (gr_ld h u v) → post r) :
    ∀ d k, k + d = 12 → (∀ i, i < k → gr_it h (i + 1) u ≠ v) → wX_leadsTo_16 post (nI s) (nI v) f_vars f_cells f_lengthLimit f_entryLimit f_count f_fixed f_machine f_machinePc f_lostCount f_coinBits f_analysis f_entryCount f_outCount f_outLost f_wCount f_workLost f_numbered f_sumMask f_walkCount f_walkSummary f_walkRing a_opOf a_aOf a_bOf a_tOf a_machineVar a_cellUsed a_cellLink a_tabNodes a_tabSum a_tabVar a_tabSucc a_entPoint a_entPending a_outPoint a_wVar a_wSucc a_wSum a_mark a_head a_preds a_number a_rawNext (d + 1) (gr_ex (gr_it h (k + 1) u)) (nI k) := by
  intro d
  induction d with
  | zero =>
    intro k hk hi
    refine br_t (nI_le (a := 12) (by omega) (by omega)) (K 0 (gr_tv_f fun q => ?_))
    obtain ⟨k', h1, h2⟩ := gr_ph1 G hv q
    exact hi k' (by omega) h2
  | succ d ih =>
    intro k hk hi
    refine br_f (nI_ge (b := 12) (by omega) (by omega)) ?_
    rcases Nat.lt_or_ge (gr_it h (k + 1) u) 40 with z | z
    · have pn := gr_it_n G hu z
      rw [gr_ex_n z]
      refine br_f (gr_nm1 (by omega)) (pk_eq (gr_it h (k + 1) u) v (fun e => K 1 (gr_tv_t ⟨k, e⟩)) (fun e => ?_))
      rw [ix_12, nI_clamp (by omega)]
      refine ⟨vp_in_nI (by omega) (by omega), nm_r (hS _ pn) (nm_r (nI_1 k) ?_)⟩
      rw [← gr_it_s h]
      refine ih (k + 1) (by omega) (fun i hi' => ?_)
      rcases Nat.decEq i k with w | w
      · exact hi i (by omega)
      · rw [w]; exact e
    · rw [gr_ex_g z]
      refine br_t rfl (K 0 (gr_tv_f fun ⟨k', e⟩ => ?_))
      rcases Nat.lt_or_ge k' k with y | y
      · exact hi k' y e
      · have := gr_it_hi G (k' - k) _ z
        rw [← gr_it_add, show k + 1 + (k' - k) = k' + 1 by omega] at this
        have e2 : gr_it h (k' + 1) u = v := e
        omega
theorem gr_E_G {S : gr_S} (E : gr_ES vs S) : gr_G S.1 S.2.1 := (gr_E_W E).1
theorem xd_ok {post : Int32 → Prop} {u v : Nat} {S : gr_S} (hs : s < 259) (ES : gr_ES vs S) (hS : xS vs s S a_tabNodes a_tabSum a_tabVar a_tabSucc) (hu : u < S.1) (hv : v < 40) (K : ∀ r, gr_tv r (gr_ld S.2.1 u v) → post r) : wpX_leadsTo post (f_vars, f_cells, f_lengthLimit, f_entryLimit, f_count, f_fixed, f_machine, f_machinePc, f_lostCount, f_coinBits, f_analysis, f_entryCount, f_outCount, f_outLost, f_wCount, f_workLost, f_numbered, f_sumMask, f_walkCount, f_walkSummary, f_walkRing, a_opOf, a_aOf, a_bOf, a_tOf, a_machineVar, a_cellUsed, a_cellLink, a_tabNodes, a_tabSum, a_tabVar, a_tabSucc, a_entPoint, a_entPending, a_outPoint, a_wVar, a_wSucc, a_wSum, a_mark, a_head, a_preds, a_number, a_rawNext) (nI s) (nI u) (nI v) := by
  have hn := ES.1
  unfold wpX_leadsTo
  dsimp only
  rw [ix_12, nI_clamp (by omega)]
  refine ⟨vp_in_nI (by omega) (by omega), nm_r (hS.2.2.1 u hu) (Exists.intro 13 ?_)⟩
  exact xd_16 hs hn (gr_E_G ES) hS.2.2.1 hu hv K 12 0 (by omega) (fun i hi => by omega)
end
end
section
/-! walks from one start -/
section
variable {n : Nat} {h : Nat → Nat}
theorem wk_fin (G : gr_G n h) {a k : Nat} (he : 40 ≤ gr_it h k a ∨ ∃ i, i < k ∧ gr_it h i a = gr_it h k a) {u : Nat} (hu : u < 40) : gr_to h a u ↔ ∃ i, i < k ∧ gr_it h i a = u := by
  constructor
  · intro ⟨m, e⟩
    have key : ∀ m, gr_it h m a < 40 → ∃ i, i < k ∧ gr_it h i a = gr_it h m a := by
      intro m
      induction m with
      | zero =>
        intro hm
        rcases Nat.eq_zero_or_pos k with z | z
        · subst z
          rcases he with q | ⟨i, hi, _⟩
          · omega
          · omega
        · exact ⟨0, z, rfl⟩
      | succ m ih =>
        intro hm
        obtain ⟨i, hi, e⟩ := ih (gr_it_lo G (Nat.le_succ m) hm)
        have e2 : gr_it h (i + 1) a = gr_it h (m + 1) a := by rw [gr_it_s, gr_it_s, e]
        rcases Nat.decEq (i + 1) k with z | z
        · exact ⟨i + 1, by omega, e2⟩
        · rw [z] at e2
          rcases he with q | ⟨i', hi', q⟩
          · omega
          · exact ⟨i', hi', q.trans e2⟩
    obtain ⟨i, hi, e3⟩ := key m (by rw [e]; exact hu)
    exact ⟨i, hi, e3.trans e⟩
  · intro ⟨i, _, e⟩
    exact ⟨i, e⟩
theorem wk_ring (G : gr_G n h) {a k : Nat} (he : 40 ≤ gr_it h k a ∨ ∃ i, i < k ∧ gr_it h i a = gr_it h k a) : gr_it h k a < 40 ↔ ∃ u, u < 40 ∧ gr_to h a u ∧ gr_ld h u u := by
  constructor
  · intro hl
    rcases he with q | ⟨i, hi, q⟩
    · omega
    · refine ⟨gr_it h k a, hl, ⟨k, rfl⟩, k - i - 1, ?_⟩
      show gr_it h (k - i - 1 + 1) (gr_it h k a) = gr_it h k a
      rw [show k - i - 1 + 1 = k - i by omega]
      have e := gr_it_add h (k - i) i a
      rw [show i + (k - i) = k by omega, q] at e
      exact e.symm
  · intro ⟨u, hu, ⟨i, e1⟩, m, e2⟩
    have e3 : gr_it h (m + 1) u = u := e2
    have key : ∀ j, gr_it h (j * (m + 1)) u = u := by
      intro j
      induction j with
      | zero => rw [Nat.zero_mul]; rfl
      | succ j ih => rw [Nat.succ_mul, gr_it_add, ih]; exact e3
    rcases Nat.lt_or_ge (gr_it h k a) 40 with z | z
    · exact z
    · have h1 := key k
      rw [← e1, ← gr_it_add] at h1
      have h2 : k ≤ i + k * (m + 1) := by
        have : k ≤ k * (m + 1) := Nat.le_mul_of_pos_right k (Nat.succ_pos m)
        omega
      have h3 := gr_it_hi G (i + k * (m + 1) - k) _ z
      rw [← gr_it_add, show k + (i + k * (m + 1) - k) = i + k * (m + 1) by omega, h1, e1] at h3
      omega
theorem wk_full {a : Nat} (h1 : ∀ i, i < 40 → gr_it h i a < 40) (h2 : ∀ i j, i < j → j < 40 → gr_it h i a ≠ gr_it h j a) : 40 ≤ gr_it h 40 a ∨ ∃ i, i < 40 ∧ gr_it h i a = gr_it h 40 a := by
  rcases Nat.lt_or_ge (gr_it h 40 a) 40 with z | z
  · refine Or.inr (Classical.byContradiction fun q => ?_)
    have e := gr_inj (g := fun i => gr_it h i a) (N := 40) 40 h1 h2
    have e2 := gr_cn_add (P := fun t => ∃ i, i < 40 ∧ gr_it h i a = t) (a := gr_it h 40 a) q z
    have e3 : gr_cn (fun k => (∃ i, i < 40 ∧ gr_it h i a = k) ∨ k = gr_it h 40 a) 40 ≤ 40 := gr_cn_le _ _
    have e4 : gr_cn (fun t => ∃ i, i < 40 ∧ gr_it h i a = t) 40 = 40 := e
    omega
  · exact Or.inl z
end
/-- the answer to a question, on one structure -/
def gr_VS (S : gr_S) (kind a : Nat) (b : Int32) (bn : Nat) (r : Int32) : Prop :=
  (kind = 0 → gr_tv r (40 ≤ S.2.2.1 a)) ∧ (kind = 1 → gr_tv r (S.2.2.1 a = S.2.2.1 bn)) ∧
  (kind = 2 → gr_tv r (S.2.2.1 a < 40 ∧ S.2.2.1 bn < 40 ∧ gr_to S.2.1 (S.2.2.1 a) (S.2.2.1 bn))) ∧
  (kind = 3 → gr_tv r (∃ u, u < 40 ∧ gr_to S.2.1 (S.2.2.1 a) u ∧ gr_to S.2.1 (S.2.2.1 bn) u)) ∧
  (kind = 4 → gr_tv r (∃ u, u < 40 ∧ gr_to S.2.1 (S.2.2.1 a) u ∧ gr_ld S.2.1 u u)) ∧
  (kind = 5 → gr_tv r (S.2.2.1 a < 40 ∧ 40 ≤ S.2.1 (S.2.2.1 a))) ∧
  (kind = 6 → (b ≤ nI (gr_cn (gr_to S.2.1 (S.2.2.1 a)) 40) → r = 1) ∧ (¬ b ≤ nI (gr_cn (gr_to S.2.1 (S.2.2.1 a)) 40) → ((∃ u, u < 40 ∧ gr_to S.2.1 (S.2.2.1 a) u ∧ S.2.2.2 u = true) → r = 2) ∧ (¬ (∃ u, u < 40 ∧ gr_to S.2.1 (S.2.2.1 a) u ∧ S.2.2.2 u = true) → r = 0)))
theorem gr_VS_u {S : gr_S} {kind a : Nat} {b : Int32} {bn : Nat} {r r' : Int32} (hk : kind ≤ 6) (v : gr_VS S kind a b bn r) (w : gr_VS S kind a b bn r') : r' = r := by
  obtain ⟨v0, v1, v2, v3, v4, v5, v6⟩ := v
  obtain ⟨w0, w1, w2, w3, w4, w5, w6⟩ := w
  rcases (show kind = 0 ∨ kind = 1 ∨ kind = 2 ∨ kind = 3 ∨ kind = 4 ∨ kind = 5 ∨ kind = 6 by omega) with e | e | e | e | e | e | e
  · exact gr_tv_u (v0 e) (w0 e)
  · exact gr_tv_u (v1 e) (w1 e)
  · exact gr_tv_u (v2 e) (w2 e)
  · exact gr_tv_u (v3 e) (w3 e)
  · exact gr_tv_u (v4 e) (w4 e)
  · exact gr_tv_u (v5 e) (w5 e)
  · rcases Classical.em (b ≤ nI (gr_cn (gr_to S.2.1 (S.2.2.1 a)) 40)) with z | z
    · rw [(v6 e).1 z, (w6 e).1 z]
    · rcases Classical.em (∃ u, u < 40 ∧ gr_to S.2.1 (S.2.2.1 a) u ∧ S.2.2.2 u = true) with y | y
      · rw [((v6 e).2 z).1 y, ((w6 e).2 z).1 y]
      · rw [((v6 e).2 z).2 y, ((w6 e).2 z).2 y]
def gr_join (p q : Int32) : Int32 := if p = -9 then q else if p = q then q else 2
section
variable {n vs s cl : Nat} {h va mv mh : Nat → Nat} {sm : Nat → Bool}
variable {f_vars f_cells f_lengthLimit f_entryLimit f_count f_fixed f_machine f_machinePc f_lostCount f_coinBits f_analysis f_entryCount f_outCount f_outLost f_wCount f_workLost f_numbered f_sumMask f_walkCount f_walkSummary f_walkRing : Int32} {a_opOf a_aOf a_bOf a_tOf a_machineVar a_cellUsed a_cellLink a_tabNodes a_tabSum a_tabVar a_tabSucc a_entPoint a_entPending a_outPoint a_wVar a_wSucc a_wSum a_mark a_head a_preds a_number a_rawNext : Nat → Int32}
theorem xj_ok {post : Int32 → Prop} {p q : Int32} (K : post (gr_join p q)) : wpX_join post (f_vars, f_cells, f_lengthLimit, f_entryLimit, f_count, f_fixed, f_machine, f_machinePc, f_lostCount, f_coinBits, f_analysis, f_entryCount, f_outCount, f_outLost, f_wCount, f_workLost, f_numbered, f_sumMask, f_walkCount, f_walkSummary, f_walkRing, a_opOf, a_aOf, a_bOf, a_tOf, a_machineVar, a_cellUsed, a_cellLink, a_tabNodes, a_tabSum, a_tabVar, a_tabSucc, a_entPoint, a_entPending, a_outPoint, a_wVar, a_wSucc, a_wSum, a_mark, a_head, a_preds, a_number, a_rawNext) p q := by
  unfold gr_join at K
  refine br_c (fun z => ?_) (fun z => br_c (fun y => ?_) (fun y => ?_))
  · rw [if_pos z] at K; exact K
  · rw [if_neg z, if_pos y] at K; exact K
  · rw [if_neg z, if_neg y] at K; exact K
/-- the end of walk -/
theorem xv_99 {post : SX → Prop} {c : Nat} (K : ∀ ring, gr_tv ring (c < 40) → post (f_vars, f_cells, f_lengthLimit, f_entryLimit, f_count, f_fixed, f_machine, f_machinePc, f_lostCount, f_coinBits, f_analysis, f_entryCount, f_outCount, f_outLost, f_wCount, f_workLost, f_numbered, f_sumMask, f_walkCount, f_walkSummary, ring, a_opOf, a_aOf, a_bOf, a_tOf, a_machineVar, a_cellUsed, a_cellLink, a_tabNodes, a_tabSum, a_tabVar, a_tabSucc, a_entPoint, a_entPending, a_outPoint, a_wVar, a_wSucc, a_wSum, a_mark, a_head, a_preds, a_number, a_rawNext)) : wX_walk_99 post (gr_ex c) f_vars f_cells f_lengthLimit f_entryLimit f_count f_fixed f_machine f_machinePc f_lostCount f_coinBits f_analysis f_entryCount f_outCount f_outLost f_wCount f_workLost f_numbered f_sumMask f_walkCount f_walkSummary f_walkRing a_opOf a_aOf a_bOf a_tOf a_machineVar a_cellUsed a_cellLink a_tabNodes a_tabSum a_tabVar a_tabSucc a_entPoint a_entPending a_outPoint a_wVar a_wSucc a_wSum a_mark a_head a_preds a_number a_rawNext :=
  br_c (fun z => K 0 (gr_tv_f (by have := gr_ex_m.mp z; omega))) (fun z => K 1 (gr_tv_t (Nat.lt_of_not_le (fun y => z (gr_ex_m.mpr y)))))
theorem xv_35 {post : SX → Prop} (G : gr_G n h) (hS : ∀ u, u < n → a_wSucc u = gr_ex (h u)) (hM : ∀ u, u < n → a_wSum u = gr_b (sm u)) {a : Nat} (ha : a < n ∨ a = 40)
    (K : ∀ mk k ws ring, (∀ u, u < 40 → (¬ mk u = 0 ↔ gr_to h a u)) → gr_cn (gr_to h a) 40 = k → gr_tv ws (∃ u, u < 40 ∧ gr_to h a u ∧ sm u = true) → gr_tv ring (∃ u, u < 40 ∧ gr_to h a u ∧ gr_ld h u u) → post (f_vars, f_cells, f_lengthLimit, f_entryLimit, f_count, f_fixed, f_machine, f_machinePc, f_lostCount, f_coinBits, f_analysis, f_entryCount, f_outCount, f_outLost, f_wCount, f_workLost, f_numbered, f_sumMask, nI k, ws, ring, a_opOf, a_aOf, a_bOf, a_tOf, a_machineVar, a_cellUsed, a_cellLink, a_tabNodes, a_tabSum, a_tabVar, a_tabSucc, a_entPoint, a_entPending, a_outPoint, a_wVar, a_wSucc, a_wSum, mk, a_head, a_preds, a_number, a_rawNext)) :
    ∀ d k mk ws, k + d = 40 → (∀ u, u < 40 → (¬ mk u = 0 ↔ ∃ i, i < k ∧ gr_it h i a = u)) → (∀ i, i < k → gr_it h i a < 40) → (∀ i j, i < j → j < k → gr_it h i a ≠ gr_it h j a) → gr_tv ws (∃ i, i < k ∧ sm (gr_it h i a) = true) →
      wX_walk_35 post f_vars f_cells f_lengthLimit f_entryLimit f_count f_fixed f_machine f_machinePc f_lostCount f_coinBits f_analysis f_entryCount f_outCount f_outLost f_wCount f_workLost f_numbered f_sumMask f_walkRing (d + 1) (gr_ex (gr_it h k a)) (nI k) (nI k) ws a_opOf a_aOf a_bOf a_tOf a_machineVar a_cellUsed a_cellLink a_tabNodes a_tabSum a_tabVar a_tabSucc a_entPoint a_entPending a_outPoint a_wVar a_wSucc a_wSum mk a_head a_preds a_number a_rawNext := by
  have hn := G.1
  have fin : ∀ k mk ws, (∀ u, u < 40 → (¬ mk u = 0 ↔ ∃ i, i < k ∧ gr_it h i a = u)) → (∀ i, i < k → gr_it h i a < 40) → (∀ i j, i < j → j < k → gr_it h i a ≠ gr_it h j a) → gr_tv ws (∃ i, i < k ∧ sm (gr_it h i a) = true) → (40 ≤ gr_it h k a ∨ ∃ i, i < k ∧ gr_it h i a = gr_it h k a) → wX_walk_99 post (gr_ex (gr_it h k a)) f_vars f_cells f_lengthLimit f_entryLimit f_count f_fixed f_machine f_machinePc f_lostCount f_coinBits f_analysis f_entryCount f_outCount f_outLost f_wCount f_workLost f_numbered f_sumMask (nI k) ws f_walkRing a_opOf a_aOf a_bOf a_tOf a_machineVar a_cellUsed a_cellLink a_tabNodes a_tabSum a_tabVar a_tabSucc a_entPoint a_entPending a_outPoint a_wVar a_wSucc a_wSum mk a_head a_preds a_number a_rawNext := by
    intro k mk ws h1 h2 h3 h4 he
    refine xv_99 (fun ring hr => K mk k ws ring (fun u hu => ?_) ?_ ?_ ?_)
    · rw [h1 u hu, wk_fin G he hu]
    · rw [gr_cn_eq (P := gr_to h a) (Q := fun t => ∃ i, i < k ∧ gr_it h i a = t) (fun u hu => wk_fin G he hu)]
      exact gr_inj k h2 h3
    · refine gr_tv_iff ⟨fun ⟨i, hi, e⟩ => ⟨_, h2 i hi, ⟨i, rfl⟩, e⟩, fun ⟨u, hu, q, e⟩ => ?_⟩ h4
      obtain ⟨i, hi, e2⟩ := (wk_fin G he hu).mp q
      exact ⟨i, hi, by rw [e2]; exact e⟩
    · exact gr_tv_iff (wk_ring G he) hr
  intro d
  induction d with
  | zero =>
    intro k mk ws hk h1 h2 h3 h4
    have e : k = 40 := by omega
    subst e
    exact br_t (nI_le (a := 40) (by omega) (by omega)) (fin 40 mk ws h1 h2 h3 h4 (wk_full h2 h3))
  | succ d ih =>
    intro k mk ws hk h1 h2 h3 h4
    refine br_f (nI_ge (b := 40) (by omega) (by omega)) ?_
    rcases Nat.lt_or_ge (gr_it h k a) 40 with z | z
    · have a0 : a < 40 := gr_it_lo G (k := k) (i := 0) (by omega) z
      have cn := gr_it_n G (show a < n by omega) z
      have f1 := fin k mk ws h1 h2 h3 h4
      rw [gr_ex_n z] at f1 ⊢
      refine br_f (gr_nm1 (by omega)) ⟨vp_in_nI z (by omega), br_c (fun m => ⟨vp_in_nI z (by omega), nm_e (nm_r (nI_1 k) ⟨vp_in_nI z (by omega), ?_⟩)⟩) (fun m => f1 (Or.inr ?_))⟩
      · rw [nI_clamp (by omega)] at m
        rw [nI_clamp (by omega), hM _ cn, hS _ cn, ← gr_it_s h]
        have h1' : ∀ u, u < 40 → (¬ upd mk (gr_it h k a) 1 u = 0 ↔ ∃ i, i < k + 1 ∧ gr_it h i a = u) := by
          intro u hu
          rcases Nat.decEq u (gr_it h k a) with y | y
          · rw [pk_un y, h1 u hu]
            refine ⟨fun ⟨i, hi, e⟩ => ⟨i, by omega, e⟩, fun ⟨i, hi, e⟩ => ⟨i, ?_, e⟩⟩
            rcases Nat.decEq i k with w | w
            · omega
            · rw [w] at e; exact absurd e.symm y
          · rw [y, pk_us]
            exact ⟨fun _ => ⟨k, by omega, rfl⟩, fun _ => by decide⟩
        have h2' : ∀ i, i < k + 1 → gr_it h i a < 40 := fun i hi => gr_it_lo G (show i ≤ k by omega) z
        have h3' : ∀ i j, i < j → j < k + 1 → gr_it h i a ≠ gr_it h j a := by
          intro i j hij hj e
          rcases Nat.decEq j k with w | w
          · exact h3 i j hij (by omega) e
          · rw [w] at e
            exact (h1 _ z).mpr ⟨i, by omega, e⟩ m
        refine br_c (fun q => ⟨vp_in_nI z (by omega), nm_e (nm_r (nI_1 k) (ih (k + 1) _ ws (by omega) h1' h2' h3' ?_))⟩) (fun q => ⟨vp_in_nI z (by omega), nm_e (nm_r (nI_1 k) (ih (k + 1) _ 1 (by omega) h1' h2' h3' (gr_tv_t ⟨k, by omega, ?_⟩)))⟩)
        · refine gr_tv_iff ⟨fun ⟨i, hi, e⟩ => ⟨i, by omega, e⟩, fun ⟨i, hi, e⟩ => ⟨i, ?_, e⟩⟩ h4
          rcases Nat.decEq i k with w | w
          · omega
          · rw [w, gr_b_0.mp q] at e; exact absurd e (by decide)
        · cases hh : sm (gr_it h k a)
          · exact absurd (gr_b_0.mpr hh) q
          · rfl
      · rw [nI_clamp (by omega)] at m
        exact (h1 _ z).mp m
    · have f1 := fin k mk ws h1 h2 h3 h4 (Or.inl z)
      rw [gr_ex_g z] at f1 ⊢
      exact br_t rfl f1
theorem xv_2 {post : SX → Prop} {x1 : Int32} (K : ∀ mk, (∀ u, u < 40 → mk u = 0) → ∃ n35 : Nat, wX_walk_35 post f_vars f_cells f_lengthLimit f_entryLimit f_count f_fixed f_machine f_machinePc f_lostCount f_coinBits f_analysis f_entryCount f_outCount f_outLost f_wCount f_workLost f_numbered f_sumMask f_walkRing n35 x1 0 0 0 a_opOf a_aOf a_bOf a_tOf a_machineVar a_cellUsed a_cellLink a_tabNodes a_tabSum a_tabVar a_tabSucc a_entPoint a_entPending a_outPoint a_wVar a_wSucc a_wSum mk a_head a_preds a_number a_rawNext) :
    ∀ d i mk, i + d = 40 → (∀ u, u < i → mk u = 0) → wX_walk_2 post x1 f_vars f_cells f_lengthLimit f_entryLimit f_count f_fixed f_machine f_machinePc f_lostCount f_coinBits f_analysis f_entryCount f_outCount f_outLost f_wCount f_workLost f_numbered f_sumMask f_walkCount f_walkSummary f_walkRing (d + 1) (nI i) a_opOf a_aOf a_bOf a_tOf a_machineVar a_cellUsed a_cellLink a_tabNodes a_tabSum a_tabVar a_tabSucc a_entPoint a_entPending a_outPoint a_wVar a_wSucc a_wSum mk a_head a_preds a_number a_rawNext := by
  intro d
  induction d with
  | zero =>
    intro i mk hi hz
    exact br_t (nI_le (a := 40) (by omega) (by omega)) (K mk (fun u hu => hz u (by omega)))
  | succ d ih =>
    intro i mk hi hz
    refine br_f (nI_ge (b := 40) (by omega) (by omega)) ⟨vp_in_nI (by omega) (by omega), nm_e (nm_r (nI_1 i) ?_)⟩
    rw [nI_clamp (by omega)]
    refine ih (i + 1) _ (by omega) (fun u hu => ?_)
    rcases Nat.decEq u i with z | z
    · rw [pk_un z]; exact hz u (by omega)
    · rw [z, pk_us]; rfl
theorem xv_walk {post : SX → Prop} (G : gr_G n h) (hS : ∀ u, u < n → a_wSucc u = gr_ex (h u)) (hM : ∀ u, u < n → a_wSum u = gr_b (sm u)) {a : Nat} (ha : a < n ∨ a = 40)
    (K : ∀ mk k ws ring, (∀ u, u < 40 → (¬ mk u = 0 ↔ gr_to h a u)) → gr_cn (gr_to h a) 40 = k → gr_tv ws (∃ u, u < 40 ∧ gr_to h a u ∧ sm u = true) → gr_tv ring (∃ u, u < 40 ∧ gr_to h a u ∧ gr_ld h u u) → post (f_vars, f_cells, f_lengthLimit, f_entryLimit, f_count, f_fixed, f_machine, f_machinePc, f_lostCount, f_coinBits, f_analysis, f_entryCount, f_outCount, f_outLost, f_wCount, f_workLost, f_numbered, f_sumMask, nI k, ws, ring, a_opOf, a_aOf, a_bOf, a_tOf, a_machineVar, a_cellUsed, a_cellLink, a_tabNodes, a_tabSum, a_tabVar, a_tabSucc, a_entPoint, a_entPending, a_outPoint, a_wVar, a_wSucc, a_wSum, mk, a_head, a_preds, a_number, a_rawNext)) :
    wpX_walk post (f_vars, f_cells, f_lengthLimit, f_entryLimit, f_count, f_fixed, f_machine, f_machinePc, f_lostCount, f_coinBits, f_analysis, f_entryCount, f_outCount, f_outLost, f_wCount, f_workLost, f_numbered, f_sumMask, f_walkCount, f_walkSummary, f_walkRing, a_opOf, a_aOf, a_bOf, a_tOf, a_machineVar, a_cellUsed, a_cellLink, a_tabNodes, a_tabSum, a_tabVar, a_tabSucc, a_entPoint, a_entPending, a_outPoint, a_wVar, a_wSucc, a_wSum, a_mark, a_head, a_preds, a_number, a_rawNext) (gr_ex a) :=
  Exists.intro 41 (xv_2 (fun mk hz => Exists.intro 41 (xv_35 G hS hM ha K 40 0 mk 0 (by omega) (fun u hu => ⟨fun q => absurd (hz u hu) q, fun ⟨i, hi, _⟩ => by omega⟩) (fun i hi => by omega) (fun i j _ hj => by omega) (gr_tv_f (fun ⟨i, hi, _⟩ => by omega)))) 40 0 a_mark (by omega) (fun u hu => by omega))
theorem xv_4 {post : Int32 → Prop} (G : gr_G n h) (hS : ∀ u, u < n → a_wSucc u = gr_ex (h u)) {a : Nat} (ha : a < n ∨ a = 40) (K : ∀ r, gr_tv r (∃ u, u < 40 ∧ gr_to h a u ∧ ¬ a_mark u = 0) → post r) :
    ∀ d k, k + d = 40 → (∀ i, i < k → gr_it h i a < 40 ∧ a_mark (gr_it h i a) = 0) → wX_meetsMarked_4 post f_vars f_cells f_lengthLimit f_entryLimit f_count f_fixed f_machine f_machinePc f_lostCount f_coinBits f_analysis f_entryCount f_outCount f_outLost f_wCount f_workLost f_numbered f_sumMask f_walkCount f_walkSummary f_walkRing a_opOf a_aOf a_bOf a_tOf a_machineVar a_cellUsed a_cellLink a_tabNodes a_tabSum a_tabVar a_tabSucc a_entPoint a_entPending a_outPoint a_wVar a_wSucc a_wSum a_mark a_head a_preds a_number a_rawNext (d + 1) (gr_ex (gr_it h k a)) (nI k) := by
  have hn := G.1
  intro d
  induction d with
  | zero =>
    intro k hk hi
    refine br_t (nI_le (a := 40) (by omega) (by omega)) (K 0 (gr_tv_f fun ⟨u, hu, ⟨m, e⟩, q⟩ => ?_))
    have a0 : a < 40 := gr_it_lo G (k := m) (i := 0) (by omega) (by rw [e]; exact hu)
    obtain ⟨m', h1, h2⟩ := gr_ph G (show a < n by omega) hu e
    rw [← h2] at q
    exact q (hi m' (by omega)).2
  | succ d ih =>
    intro k hk hi
    refine br_f (nI_ge (b := 40) (by omega) (by omega)) ?_
    rcases Nat.lt_or_ge (gr_it h k a) 40 with z | z
    · have a0 : a < 40 := gr_it_lo G (k := k) (i := 0) (by omega) z
      have cn := gr_it_n G (show a < n by omega) z
      rw [gr_ex_n z]
      refine br_f (gr_nm1 (by omega)) ⟨vp_in_nI z (by omega), br_c (fun m => ⟨vp_in_nI z (by omega), ?_⟩) (fun m => K 1 (gr_tv_t ⟨_, z, ⟨k, rfl⟩, ?_⟩))⟩
      · rw [nI_clamp (by omega)] at m
        rw [nI_clamp (by omega)]
        refine nm_r (hS _ cn) (nm_r (nI_1 k) ?_)
        rw [← gr_it_s h]
        refine ih (k + 1) (by omega) (fun i hi' => ?_)
        rcases Nat.decEq i k with w | w
        · exact hi i (by omega)
        · rw [w]; exact ⟨z, m⟩
      · rw [nI_clamp (by omega)] at m; exact m
    · rw [gr_ex_g z]
      refine br_t rfl (K 0 (gr_tv_f fun ⟨u, hu, ⟨m, e⟩, q⟩ => ?_))
      rcases Nat.lt_or_ge m k with y | y
      · rw [← e] at q; exact q (hi m y).2
      · have := gr_it_hi G (m - k) _ z
        rw [← gr_it_add, show k + (m - k) = m by omega] at this
        omega
theorem xv_meets {post : Int32 → Prop} (G : gr_G n h) (hS : ∀ u, u < n → a_wSucc u = gr_ex (h u)) {a : Nat} (ha : a < n ∨ a = 40) (K : ∀ r, gr_tv r (∃ u, u < 40 ∧ gr_to h a u ∧ ¬ a_mark u = 0) → post r) : wpX_meetsMarked post (f_vars, f_cells, f_lengthLimit, f_entryLimit, f_count, f_fixed, f_machine, f_machinePc, f_lostCount, f_coinBits, f_analysis, f_entryCount, f_outCount, f_outLost, f_wCount, f_workLost, f_numbered, f_sumMask, f_walkCount, f_walkSummary, f_walkRing, a_opOf, a_aOf, a_bOf, a_tOf, a_machineVar, a_cellUsed, a_cellLink, a_tabNodes, a_tabSum, a_tabVar, a_tabSucc, a_entPoint, a_entPending, a_outPoint, a_wVar, a_wSucc, a_wSum, a_mark, a_head, a_preds, a_number, a_rawNext) (gr_ex a) :=
  Exists.intro 41 (xv_4 G hS ha K 40 0 (by omega) (fun i hi => by omega))
theorem xv_ok {post : Int32 → SX → Prop} {S : gr_S} {kind a bn : Nat} {b : Int32} (hk : kind ≤ 6) (ha : a < vs) (hvs : vs ≤ 3) (hb : 1 ≤ kind → kind ≤ 3 → b = nI bn ∧ bn < vs) (W : gr_W S.1 vs S.2.1 S.2.2.1) (T : xW vs S a_wVar a_wSucc a_wSum)
    (K : ∀ mk wc ws ring r, gr_VS S kind a b bn r → post r (f_vars, f_cells, f_lengthLimit, f_entryLimit, f_count, f_fixed, f_machine, f_machinePc, f_lostCount, f_coinBits, f_analysis, f_entryCount, f_outCount, f_outLost, f_wCount, f_workLost, f_numbered, f_sumMask, wc, ws, ring, a_opOf, a_aOf, a_bOf, a_tOf, a_machineVar, a_cellUsed, a_cellLink, a_tabNodes, a_tabSum, a_tabVar, a_tabSucc, a_entPoint, a_entPending, a_outPoint, a_wVar, a_wSucc, a_wSum, mk, a_head, a_preds, a_number, a_rawNext)) : wpX_valueOnWork post (f_vars, f_cells, f_lengthLimit, f_entryLimit, f_count, f_fixed, f_machine, f_machinePc, f_lostCount, f_coinBits, f_analysis, f_entryCount, f_outCount, f_outLost, f_wCount, f_workLost, f_numbered, f_sumMask, f_walkCount, f_walkSummary, f_walkRing, a_opOf, a_aOf, a_bOf, a_tOf, a_machineVar, a_cellUsed, a_cellLink, a_tabNodes, a_tabSum, a_tabVar, a_tabSucc, a_entPoint, a_entPending, a_outPoint, a_wVar, a_wSucc, a_wSum, a_mark, a_head, a_preds, a_number, a_rawNext) (nI kind) (nI a) b := by
  obtain ⟨tv, tu, tm⟩ := T
  have hva := W.2.1 a ha
  have hn := W.1.1
  have K' : ∀ r, gr_VS S kind a b bn r → post r (f_vars, f_cells, f_lengthLimit, f_entryLimit, f_count, f_fixed, f_machine, f_machinePc, f_lostCount, f_coinBits, f_analysis, f_entryCount, f_outCount, f_outLost, f_wCount, f_workLost, f_numbered, f_sumMask, f_walkCount, f_walkSummary, f_walkRing, a_opOf, a_aOf, a_bOf, a_tOf, a_machineVar, a_cellUsed, a_cellLink, a_tabNodes, a_tabSum, a_tabVar, a_tabSucc, a_entPoint, a_entPending, a_outPoint, a_wVar, a_wSucc, a_wSum, a_mark, a_head, a_preds, a_number, a_rawNext) := fun r hr => K a_mark f_walkCount f_walkSummary f_walkRing r hr
  refine And.intro (vp_in_nI (by omega) (by omega)) ?_
  rw [nI_clamp (by omega)]
  refine nm_r (tv a ha) ?_
  refine pk_eq kind 0 (fun e => ?_) (fun e0 => pk_eq kind 1 (fun e => ?_) (fun e1 => ?_))
  · have mkV : ∀ r, gr_tv r (40 ≤ S.2.2.1 a) → gr_VS S kind a b bn r := fun r hr => ⟨fun _ => hr, fun z => by omega, fun z => by omega, fun z => by omega, fun z => by omega, fun z => by omega, fun z => by omega⟩
    refine br_c (fun z => xi_truth (gr_tv_t trivial) (K' 1 (mkV 1 (gr_tv_t (gr_ex_m.mp z))))) (fun z => xi_truth (gr_tv_f id) (K' 0 (mkV 0 (gr_tv_f (fun y => z (gr_ex_m.mpr y))))))
  · obtain ⟨rfl, hbn⟩ := hb (by omega) (by omega)
    have hvb := W.2.1 bn hbn
    have mkV : ∀ r, gr_tv r (S.2.2.1 a = S.2.2.1 bn) → gr_VS S kind a (nI bn) bn r := fun r hr => ⟨fun z => by omega, fun _ => hr, fun z => by omega, fun z => by omega, fun z => by omega, fun z => by omega, fun z => by omega⟩
    refine ⟨vp_in_nI (by omega) (by omega), ?_⟩
    rw [nI_clamp (by omega), tv bn hbn]
    refine br_c (fun z => xi_truth (gr_tv_t trivial) (K' 1 (mkV 1 (gr_tv_t (gr_ex_i _ _ (by omega) (by omega) z))))) (fun z => xi_truth (gr_tv_f id) (K' 0 (mkV 0 (gr_tv_f (fun y => z (by rw [y]))))))
  · refine xv_walk W.1 tu tm hva (fun mk k ws ring m1 m2 m3 m4 => ?_)
    have K2 : ∀ r, gr_VS S kind a b bn r → post r (f_vars, f_cells, f_lengthLimit, f_entryLimit, f_count, f_fixed, f_machine, f_machinePc, f_lostCount, f_coinBits, f_analysis, f_entryCount, f_outCount, f_outLost, f_wCount, f_workLost, f_numbered, f_sumMask, nI k, ws, ring, a_opOf, a_aOf, a_bOf, a_tOf, a_machineVar, a_cellUsed, a_cellLink, a_tabNodes, a_tabSum, a_tabVar, a_tabSucc, a_entPoint, a_entPending, a_outPoint, a_wVar, a_wSucc, a_wSum, mk, a_head, a_preds, a_number, a_rawNext) := fun r hr => K mk (nI k) ws ring r hr
    have hk40 : k ≤ 40 := by rw [← m2]; exact gr_cn_le _ _
    refine pk_eq kind 6 (fun e => ?_) (fun e6 => ?_)
    · have mkV : ∀ r, ((b ≤ nI k → r = 1) ∧ (¬ b ≤ nI k → ((∃ u, u < 40 ∧ gr_to S.2.1 (S.2.2.1 a) u ∧ S.2.2.2 u = true) → r = 2) ∧ (¬ (∃ u, u < 40 ∧ gr_to S.2.1 (S.2.2.1 a) u ∧ S.2.2.2 u = true) → r = 0))) → gr_VS S kind a b bn r := fun r hr =>
        ⟨fun z => by omega, fun z => by omega, fun z => by omega, fun z => by omega, fun z => by omega, fun z => by omega, fun _ => by rw [m2]; exact hr⟩
      refine br_c (fun z => ?_) (fun z => K2 1 (mkV 1 ⟨fun _ => rfl, fun y => absurd (Int32.not_lt.mp z) y⟩))
      rcases m3 with ⟨rfl, q⟩ | ⟨rfl, q⟩
      · exact br_t rfl (K2 0 (mkV 0 ⟨fun y => absurd z (Int32.not_lt.mpr y), fun _ => ⟨fun y => absurd y q, fun _ => rfl⟩⟩))
      · exact br_f (by decide) (K2 2 (mkV 2 ⟨fun y => absurd z (Int32.not_lt.mpr y), fun _ => ⟨fun _ => rfl, fun y => absurd q y⟩⟩))
    · rcases Nat.lt_or_ge (S.2.2.1 a) 40 with z | z
      · have hx : ¬ gr_ex (S.2.2.1 a) = -1 := fun y => by have := gr_ex_m.mp y; omega
        refine br_f hx (pk_eq kind 4 (fun e => ?_) (fun e4 => pk_eq kind 5 (fun e => ?_) (fun e5 => ?_)))
        · exact xi_truth m4 (K2 ring ⟨fun z => by omega, fun z => by omega, fun z => by omega, fun z => by omega, fun _ => m4, fun z => by omega, fun z => by omega⟩)
        · have mkV : ∀ r, gr_tv r (S.2.2.1 a < 40 ∧ 40 ≤ S.2.1 (S.2.2.1 a)) → gr_VS S kind a b bn r := fun r hr => ⟨fun z => by omega, fun z => by omega, fun z => by omega, fun z => by omega, fun z => by omega, fun _ => hr, fun z => by omega⟩
          rw [gr_ex_n z, nI_clamp (by omega), tu _ (by omega)]
          refine ⟨vp_in_nI z (by omega), br_c (fun y => xi_truth (gr_tv_t trivial) (K2 1 (mkV 1 (gr_tv_t ⟨z, gr_ex_m.mp y⟩)))) (fun y => xi_truth (gr_tv_f id) (K2 0 (mkV 0 (gr_tv_f (fun w => y (gr_ex_m.mpr w.2))))))⟩
        · obtain ⟨rfl, hbn⟩ := hb (by omega) (by omega)
          have hvb := W.2.1 bn hbn
          refine ⟨vp_in_nI (by omega) (by omega), ?_⟩
          rw [nI_clamp (by omega)]
          refine nm_r (tv bn hbn) ?_
          have mkV2 : kind = 2 → ∀ r, gr_tv r (S.2.2.1 a < 40 ∧ S.2.2.1 bn < 40 ∧ gr_to S.2.1 (S.2.2.1 a) (S.2.2.1 bn)) → gr_VS S kind a (nI bn) bn r := fun e r hr => ⟨fun z => by omega, fun z => by omega, fun _ => hr, fun z => by omega, fun z => by omega, fun z => by omega, fun z => by omega⟩
          have mkV3 : kind = 3 → ∀ r, gr_tv r (∃ u, u < 40 ∧ gr_to S.2.1 (S.2.2.1 a) u ∧ gr_to S.2.1 (S.2.2.1 bn) u) → gr_VS S kind a (nI bn) bn r := fun e r hr => ⟨fun z => by omega, fun z => by omega, fun z => by omega, fun _ => hr, fun z => by omega, fun z => by omega, fun z => by omega⟩
          rcases Nat.lt_or_ge (S.2.2.1 bn) 40 with y | y
          · refine br_f (fun w => by have := gr_ex_m.mp w; omega) (pk_eq kind 2 (fun e => ?_) (fun e2 => ?_))
            · rw [gr_ex_n y, nI_clamp (by omega)]
              refine ⟨vp_in_nI y (by omega), ?_⟩
              refine br_c (fun w => K2 0 (mkV2 e 0 (gr_tv_f (fun q => ?_)))) (fun w => K2 1 (mkV2 e 1 (gr_tv_t ⟨z, y, (m1 _ y).mp w⟩)))
              exact (m1 _ y).mpr q.2.2 w
            · refine xv_meets W.1 tu hvb (fun r hr => ?_)
              refine xi_truth hr (K2 r (mkV3 (by omega) r (gr_tv_iff ⟨fun ⟨u, hu, p, q⟩ => ⟨u, hu, (m1 u hu).mp q, p⟩, fun ⟨u, hu, p, q⟩ => ⟨u, hu, q, (m1 u hu).mpr p⟩⟩ hr)))
          · refine br_t (gr_ex_m.mpr y) (K2 0 ?_)
            rcases (show kind = 2 ∨ kind = 3 by omega) with e | e
            · exact mkV2 e 0 (gr_tv_f (fun q => by omega))
            · exact mkV3 e 0 (gr_tv_f (fun ⟨u, hu, p, q⟩ => gr_to_hi W.1 y hu q))
      · refine br_t (gr_ex_m.mpr z) (K2 0 ?_)
        have nt : ∀ u, u < 40 → ¬ gr_to S.2.1 (S.2.2.1 a) u := fun u hu => gr_to_hi W.1 z hu
        exact ⟨fun z => by omega, fun z => by omega, fun _ => gr_tv_f (fun q => by omega), fun _ => gr_tv_f (fun ⟨u, hu, p, q⟩ => nt u hu p), fun _ => gr_tv_f (fun ⟨u, hu, p, q⟩ => nt u hu p), fun _ => gr_tv_f (fun q => by omega), fun z => by omega⟩
/-! embedsIn -/
def gr_EM (vs : Nat) (S T : gr_S) : Prop := gr_SK vs S T ∧ ∀ u, u < S.1 → S.2.2.2 u = true → T.2.2.2 u = true
theorem ix_sub (p q : Int32) : p &&& (q ^^^ (-1)) = 0 ↔ ∀ i, i < 32 → bt p i = true → bt q i = true := by
  constructor
  · intro e i hi hp
    have := congrArg (fun z => bt z i) e
    have e2 : bt (p &&& (q ^^^ (-1))) i = bt 0 i := this
    rw [b_and, b_xor, b_m1 i hi, b_0, hp, Bool.true_and, Bool.xor_true] at e2
    cases hh : bt q i
    · rw [hh] at e2; exact absurd e2 (by decide)
    · rfl
  · intro g
    refine b_ext (fun i hi => ?_)
    rw [b_and, b_xor, b_m1 i hi, b_0, Bool.xor_true]
    cases hp : bt p i
    · rfl
    · rw [g i hi hp]; rfl
theorem xe_ok {post : Int32 → Prop} {p q : Nat} {S T : gr_S} (hp : p < 259) (hq : q < 259) (hvs : vs ≤ 3) (ES : gr_ES vs S) (ET : gr_ES vs T) (hS : xS vs p S a_tabNodes a_tabSum a_tabVar a_tabSucc) (hT : xS vs q T a_tabNodes a_tabSum a_tabVar a_tabSucc)
    (K : ∀ r, gr_tv r (gr_EM vs S T) → post r) : wpX_embedsIn post (nI vs, f_cells, f_lengthLimit, f_entryLimit, f_count, f_fixed, f_machine, f_machinePc, f_lostCount, f_coinBits, f_analysis, f_entryCount, f_outCount, f_outLost, f_wCount, f_workLost, f_numbered, f_sumMask, f_walkCount, f_walkSummary, f_walkRing, a_opOf, a_aOf, a_bOf, a_tOf, a_machineVar, a_cellUsed, a_cellLink, a_tabNodes, a_tabSum, a_tabVar, a_tabSucc, a_entPoint, a_entPending, a_outPoint, a_wVar, a_wSucc, a_wSum, a_mark, a_head, a_preds, a_number, a_rawNext) (nI p) (nI q) := by
  unfold wpX_embedsIn
  dsimp only
  refine xk_ok hp hq hvs ES ET hS hT (fun r hr => ?_)
  rcases hr with ⟨rfl, g⟩ | ⟨rfl, g⟩
  · exact br_t rfl (K 0 (gr_tv_f (fun w => g w.1)))
  · refine br_f (by decide) ⟨vp_in_nI hp (by omega), vp_in_nI hq (by omega), ?_⟩
    rw [nI_clamp (by omega), nI_clamp (by omega)]
    have key : a_tabSum p &&& (a_tabSum q ^^^ (-1)) = 0 ↔ ∀ u, u < S.1 → S.2.2.2 u = true → T.2.2.2 u = true := by
      have hn := ES.1
      rw [ix_sub]
      constructor
      · intro f u hu hs
        have := f u (by omega) (by rw [hS.2.2.2 u (by omega), decide_eq_true hu, hs]; rfl)
        rw [hT.2.2.2 u (by omega), Bool.and_eq_true] at this
        exact this.2
      · intro f i hi hb
        rw [hS.2.2.2 i hi, Bool.and_eq_true, decide_eq_true_eq] at hb
        rw [hT.2.2.2 i hi, ← g.1, decide_eq_true hb.1, f i hb.1 hb.2]; rfl
    exact br_c (fun z => K 1 (gr_tv_t ⟨g, key.mp z⟩)) (fun z => K 0 (gr_tv_f (fun w => z (key.mpr w.2))))
end
end
section
/-! the pure effect of an instruction on a structure -/
def gr_w (op b : Nat) (S : gr_S) : Nat := if op = 3 then S.2.1 (S.2.2.1 b) else 40
def gr_fo (op b : Nat) (S : gr_S) : Bool := decide (gr_w op b S < 40) && S.2.2.2 (gr_w op b S)
def gr_bad (op a b : Nat) (S : gr_S) : Prop := (op = 3 ∧ 40 ≤ S.2.2.1 b) ∨ ((op = 4 ∨ op = 5) ∧ 40 ≤ S.2.2.1 a)
def gr_ok (op a b k : Nat) (S : gr_S) : Prop := ¬ gr_bad op a b S ∧ (k = 1 → op = 8 ∨ gr_fo op b S = true)
def gr_new (a b w fr : Nat) (fo : Bool) (S : gr_S) : gr_S := (if fr = S.1 then S.1 + 1 else S.1, (if fo then gr_up (gr_up S.2.1 fr w) (S.2.2.1 b) fr else gr_up S.2.1 fr w), gr_up S.2.2.1 a fr, gr_up S.2.2.2 fr false)
def gr_old (op a b : Nat) (S : gr_S) : gr_S :=
  if op = 3 then (S.1, S.2.1, gr_up S.2.2.1 a (gr_w op b S), if gr_fo op b S then gr_up S.2.2.2 (gr_w op b S) false else S.2.2.2)
  else if op = 0 then (S.1, S.2.1, gr_up S.2.2.1 a 40, S.2.2.2)
  else if op = 1 then (S.1, S.2.1, gr_up S.2.2.1 a (S.2.2.1 b), S.2.2.2)
  else if op = 4 then (S.1, gr_up S.2.1 (S.2.2.1 a) (S.2.2.1 b), S.2.2.1, S.2.2.2)
  else if op = 5 then (S.1, gr_up S.2.1 (S.2.2.1 a) 40, S.2.2.1, S.2.2.2)
  else S
def gr_isnew (op b k : Nat) (S : gr_S) : Prop := op = 2 ∨ (gr_fo op b S = true ∧ k = 1)
noncomputable def gr_ef (op a b k fr : Nat) (S : gr_S) : gr_S := @ite _ (gr_isnew op b k S) (Classical.propDecidable _) (gr_new a b (gr_w op b S) fr (gr_fo op b S) S) (gr_old op a b S)
def gr_jp (op a b k : Nat) (S : gr_S) : Prop := (op = 6 ∧ 40 ≤ S.2.2.1 a) ∨ (op = 7 ∧ S.2.2.1 a = S.2.2.1 b) ∨ (op = 8 ∧ k = 1) ∨ op = 9
noncomputable def gr_q (op a b t k i : Nat) (S : gr_S) : Nat := @ite Nat (gr_jp op a b k S) (Classical.propDecidable _) t (i + 1)
/-- an instruction is well formed -/
def gr_ins (vs op a b t : Nat) : Prop := op ≤ 9 ∧ (op ≤ 7 → a < vs) ∧ (7 < op → a = 40) ∧ ((op = 1 ∨ op = 3 ∨ op = 4 ∨ op = 7) → b < vs) ∧ (¬ (op = 1 ∨ op = 3 ∨ op = 4 ∨ op = 7) → b = 40) ∧ (6 ≤ op → t ≤ 32) ∧ (op < 6 → t = 40)
theorem gr_ef_t {op a b k fr : Nat} {S : gr_S} (c : gr_isnew op b k S) : gr_ef op a b k fr S = gr_new a b (gr_w op b S) fr (gr_fo op b S) S := by unfold gr_ef; rw [if_pos c]
theorem gr_ef_f {op a b k fr : Nat} {S : gr_S} (c : ¬ gr_isnew op b k S) : gr_ef op a b k fr S = gr_old op a b S := by unfold gr_ef; rw [if_neg c]
theorem gr_q_t {op a b t k i : Nat} {S : gr_S} (c : gr_jp op a b k S) : gr_q op a b t k i S = t := by unfold gr_q; rw [if_pos c]
theorem gr_q_f {op a b t k i : Nat} {S : gr_S} (c : ¬ gr_jp op a b k S) : gr_q op a b t k i S = i + 1 := by unfold gr_q; rw [if_neg c]
theorem gr_fo_n {op b : Nat} {S : gr_S} (h : op ≠ 3) : gr_fo op b S = false := by
  unfold gr_fo gr_w; rw [if_neg h]; rfl
theorem gr_w_n {op b : Nat} {S : gr_S} (h : op ≠ 3) : gr_w op b S = 40 := if_neg h
theorem gr_w_3 {b : Nat} {S : gr_S} : gr_w 3 b S = S.2.1 (S.2.2.1 b) := if_pos rfl
theorem gr_fo_lt {op b : Nat} {S : gr_S} (h : gr_fo op b S = true) : gr_w op b S < 40 ∧ S.2.2.2 (gr_w op b S) = true := by
  unfold gr_fo at h
  rw [Bool.and_eq_true, decide_eq_true_eq] at h
  exact h
def gr_EN (N n vs : Nat) (h va : Nat → Nat) : Prop := n ≤ N ∧ (∀ u, h u < n ∨ h u = 40) ∧ (∀ u, n ≤ u → h u = 40) ∧ ∀ x, x < vs → va x < n ∨ va x = 40
theorem gr_EN_W {N n vs : Nat} {h va : Nat → Nat} (hN : N ≤ 40) (E : gr_EN N n vs h va) : gr_W n vs h va :=
  ⟨⟨by have := E.1; omega, fun u => (E.2.1 u).elim Or.inl (fun z => Or.inr (Or.inl z)), E.2.2.1⟩, E.2.2.2, fun u _ z => by
    have := E.1
    rcases E.2.1 u with y | y <;> omega⟩
section
variable {vs op a b t k : Nat} {S : gr_S}
theorem gr_up_r {f : Nat → Nat} {p x u : Nat} {Q : Nat → Prop} (h1 : Q x) (h2 : Q (f u)) : Q (gr_up f p x u) := by
  unfold gr_up
  split
  · exact h1
  · exact h2
theorem gr_ef_EN (I : gr_ins vs op a b t) (E : gr_ES vs S) (hok : ¬ gr_bad op a b S) : gr_EN 13 (gr_ef op a b k S.1 S).1 vs (gr_ef op a b k S.1 S).2.1 (gr_ef op a b k S.1 S).2.2.1 := by
  obtain ⟨e1, e2, e3, e4⟩ := E
  obtain ⟨i1, i2, i3, i4, i5, i6, i7⟩ := I
  have hw : gr_w op b S < S.1 ∨ gr_w op b S = 40 := by
    unfold gr_w; split
    · exact e2 _
    · exact Or.inr rfl
  rcases Classical.em (gr_isnew op b k S) with c | c
  · rw [gr_ef_t c]
    have hop : op = 2 ∨ op = 3 := c.elim Or.inl (fun q => Or.inr (Classical.byContradiction fun z => by rw [gr_fo_n z] at q; exact absurd q.1 (by decide)))
    have E1 : ∀ u, gr_up S.2.1 S.1 (gr_w op b S) u < S.1 + 1 ∨ gr_up S.2.1 S.1 (gr_w op b S) u = 40 := fun u =>
      gr_up_r (Q := fun z => z < S.1 + 1 ∨ z = 40) (hw.elim (fun z => Or.inl (by omega)) Or.inr) ((e2 u).elim (fun z => Or.inl (by omega)) Or.inr)
    have hn : (gr_new a b (gr_w op b S) S.1 (gr_fo op b S) S).1 = S.1 + 1 := if_pos rfl
    refine ⟨by rw [hn]; omega, fun u => ?_, fun u hu => ?_, fun x hx => ?_⟩
    · rw [hn]
      show (if gr_fo op b S then gr_up (gr_up S.2.1 S.1 (gr_w op b S)) (S.2.2.1 b) S.1 else gr_up S.2.1 S.1 (gr_w op b S)) u < S.1 + 1 ∨ _
      cases hf : gr_fo op b S
      · exact E1 u
      · exact gr_up_r (Q := fun z => z < S.1 + 1 ∨ z = 40) (Or.inl (by omega)) (E1 u)
    · rw [hn] at hu
      show (if gr_fo op b S then gr_up (gr_up S.2.1 S.1 (gr_w op b S)) (S.2.2.1 b) S.1 else gr_up S.2.1 S.1 (gr_w op b S)) u = 40
      cases hf : gr_fo op b S
      · show gr_up S.2.1 S.1 (gr_w op b S) u = 40
        rw [gr_up_n (by omega)]; exact e3 u (by omega)
      · have ho3 : op = 3 := by
          rcases hop with z | z
          · rw [gr_fo_n (by omega)] at hf; exact absurd hf (by decide)
          · exact z
        have hb : S.2.2.1 b < S.1 := by
          rcases e4 b (i4 (by omega)) with z | z
          · exact z
          · exact absurd (Or.inl ⟨ho3, by omega⟩) hok
        show gr_up (gr_up S.2.1 S.1 (gr_w op b S)) (S.2.2.1 b) S.1 u = 40
        rw [gr_up_n (by omega), gr_up_n (by omega)]; exact e3 u (by omega)
    · rw [hn]
      exact gr_up_r (Q := fun z => z < S.1 + 1 ∨ z = 40) (Or.inl (by omega)) ((e4 x hx).elim (fun z => Or.inl (by omega)) Or.inr)
  · rw [gr_ef_f c]
    unfold gr_old
    have hva : ∀ w, (w < S.1 ∨ w = 40) → ∀ x, x < vs → gr_up S.2.2.1 a w x < S.1 ∨ gr_up S.2.2.1 a w x = 40 := fun w hw x hx => gr_up_r (Q := fun z => z < S.1 ∨ z = 40) hw (e4 x hx)
    have hh : ∀ w, S.2.2.1 a < S.1 → (w < S.1 ∨ w = 40) → (∀ u, gr_up S.2.1 (S.2.2.1 a) w u < S.1 ∨ gr_up S.2.1 (S.2.2.1 a) w u = 40) ∧ ∀ u, S.1 ≤ u → gr_up S.2.1 (S.2.2.1 a) w u = 40 := fun w ha hw =>
      ⟨fun u => gr_up_r (Q := fun z => z < S.1 ∨ z = 40) hw (e2 u), fun u hu => by rw [gr_up_n (by omega)]; exact e3 u hu⟩
    split
    · exact ⟨by show S.1 ≤ 13; omega, e2, e3, hva _ hw⟩
    · split
      · exact ⟨by show S.1 ≤ 13; omega, e2, e3, hva _ (Or.inr rfl)⟩
      · split
        · exact ⟨by show S.1 ≤ 13; omega, e2, e3, hva _ (e4 b (i4 (by omega)))⟩
        · split
          · have ha : S.2.2.1 a < S.1 := by
              rcases e4 a (i2 (by omega)) with z | z
              · exact z
              · exact absurd (Or.inr ⟨by omega, by omega⟩) hok
            exact ⟨by show S.1 ≤ 13; omega, (hh _ ha (e4 b (i4 (by omega)))).1, (hh _ ha (e4 b (i4 (by omega)))).2, e4⟩
          · split
            · have ha : S.2.2.1 a < S.1 := by
                rcases e4 a (i2 (by omega)) with z | z
                · exact z
                · exact absurd (Or.inr ⟨by omega, by omega⟩) hok
              exact ⟨by show S.1 ≤ 13; omega, (hh _ ha (Or.inr rfl)).1, (hh _ ha (Or.inr rfl)).2, e4⟩
            · exact ⟨by omega, e2, e3, e4⟩
theorem gr_ef_W (I : gr_ins vs op a b t) (E : gr_ES vs S) (hok : ¬ gr_bad op a b S) : gr_W (gr_ef op a b k S.1 S).1 vs (gr_ef op a b k S.1 S).2.1 (gr_ef op a b k S.1 S).2.2.1 := gr_EN_W (by omega) (gr_ef_EN I E hok)
/-! the machine's heap -/
def gr_MW (cl vs : Nat) (mh mv : Nat → Nat) : Prop := gr_G cl mh ∧ (∀ x, x < vs → mv x < cl ∨ mv x = 40) ∧ (∀ x, x < vs → mv x < 40 → mh (mv x) ≠ 41) ∧ ∀ u, mh u < 40 → mh (mh u) ≠ 41
theorem gr_MW_W {cl vs : Nat} {mh mv : Nat → Nat} (M : gr_MW cl vs mh mv) : gr_W cl vs mh mv :=
  ⟨M.1, M.2.1, fun u r => gr_R_sub M.1 (va := mv) (vs := vs) (M := fun u => mh u ≠ 41) M.2.2.1 (fun u _ hl => M.2.2.2 u hl) r⟩
def gr_ms (cl : Nat) (mh mv : Nat → Nat) : gr_S := (cl, mh, mv, fun _ => false)
theorem gr_ms_fo {cl : Nat} {mh mv : Nat → Nat} : gr_fo op b (gr_ms cl mh mv) = false := by unfold gr_fo gr_ms; rw [Bool.and_false]
/-- the heap behind the effect: mh', mv' -/
noncomputable def gr_mh (op a b fr cl : Nat) (mh mv : Nat → Nat) : Nat → Nat := (gr_ef op a b 0 fr (gr_ms cl mh mv)).2.1
noncomputable def gr_mv (op a b fr cl : Nat) (mh mv : Nat → Nat) : Nat → Nat := (gr_ef op a b 0 fr (gr_ms cl mh mv)).2.2.1
def gr_fr (n : Nat) (h : Nat → Nat) (fr : Nat) : Prop := (fr < n ∧ h fr = 41 ∧ ∀ u, u < fr → h u ≠ 41) ∨ (fr = n ∧ ∀ u, u < n → h u ≠ 41)
theorem gr_fr_ex (n : Nat) (h : Nat → Nat) : ∃ fr, gr_fr n h fr := by
  rcases Classical.em (∃ u, u < n ∧ h u = 41) with q | q
  · obtain ⟨u, ⟨h1, h2⟩, h3⟩ := pk_least (fun u => u < n ∧ h u = 41) q
    exact ⟨u, Or.inl ⟨h1, h2, fun w hw e => h3 w hw ⟨by omega, e⟩⟩⟩
  · exact ⟨n, Or.inr ⟨rfl, fun u hu e => q ⟨u, hu, e⟩⟩⟩
/-- what NEW, LOAD, .. make of the heap, by op -/
theorem gr_mh_2 {fr cl : Nat} {mh mv : Nat → Nat} : gr_mh 2 a b fr cl mh mv = gr_up mh fr 40 ∧ gr_mv 2 a b fr cl mh mv = gr_up mv a fr := by
  unfold gr_mh gr_mv
  rw [gr_ef_t (Or.inl rfl), gr_ms_fo, gr_w_n (by omega)]
  exact ⟨rfl, rfl⟩
theorem gr_mh_o {fr cl : Nat} {mh mv : Nat → Nat} (h2 : op ≠ 2) : gr_mh op a b fr cl mh mv = (gr_old op a b (gr_ms cl mh mv)).2.1 ∧ gr_mv op a b fr cl mh mv = (gr_old op a b (gr_ms cl mh mv)).2.2.1 := by
  unfold gr_mh gr_mv
  rw [gr_ef_f (fun c => c.elim h2 (fun q => by rw [gr_ms_fo] at q; exact absurd q.1 (by decide)))]
  exact ⟨rfl, rfl⟩
theorem gr_mh_3 {fr cl : Nat} {mh mv : Nat → Nat} : gr_mh 3 a b fr cl mh mv = mh ∧ gr_mv 3 a b fr cl mh mv = gr_up mv a (mh (mv b)) := gr_mh_o (by omega)
theorem gr_mh_0 {fr cl : Nat} {mh mv : Nat → Nat} : gr_mh 0 a b fr cl mh mv = mh ∧ gr_mv 0 a b fr cl mh mv = gr_up mv a 40 := gr_mh_o (by omega)
theorem gr_mh_1 {fr cl : Nat} {mh mv : Nat → Nat} : gr_mh 1 a b fr cl mh mv = mh ∧ gr_mv 1 a b fr cl mh mv = gr_up mv a (mv b) := gr_mh_o (by omega)
theorem gr_mh_4 {fr cl : Nat} {mh mv : Nat → Nat} : gr_mh 4 a b fr cl mh mv = gr_up mh (mv a) (mv b) ∧ gr_mv 4 a b fr cl mh mv = mv := gr_mh_o (by omega)
theorem gr_mh_5 {fr cl : Nat} {mh mv : Nat → Nat} : gr_mh 5 a b fr cl mh mv = gr_up mh (mv a) 40 ∧ gr_mv 5 a b fr cl mh mv = mv := gr_mh_o (by omega)
theorem gr_mh_6 {fr cl : Nat} {mh mv : Nat → Nat} (h : 6 ≤ op) : gr_mh op a b fr cl mh mv = mh ∧ gr_mv op a b fr cl mh mv = mv := by
  have e : gr_old op a b (gr_ms cl mh mv) = gr_ms cl mh mv := by
    unfold gr_old
    rw [if_neg (by omega), if_neg (by omega), if_neg (by omega), if_neg (by omega), if_neg (by omega)]
  have := gr_mh_o (op := op) (a := a) (b := b) (fr := fr) (cl := cl) (mh := mh) (mv := mv) (by omega)
  rw [e] at this
  exact this
theorem gr_mef {fr cl : Nat} {mh mv : Nat → Nat} (I : gr_ins vs op a b t) (M : gr_MW cl vs mh mv) (hcl : cl ≤ 32) (hok : ¬ gr_bad op a b (gr_ms cl mh mv)) (hf : gr_fr cl mh fr) (h2 : op = 2 → fr < cl) :
    gr_MW cl vs (gr_mh op a b fr cl mh mv) (gr_mv op a b fr cl mh mv) := by
  obtain ⟨m1, m2, m3, m4⟩ := M
  obtain ⟨i1, i2, i3, i4, i5, i6, i7⟩ := I
  have upv : ∀ w, (w < cl ∨ w = 40) → (w < 40 → mh w ≠ 41) → gr_MW cl vs mh (gr_up mv a w) := fun w h1 h2 =>
    ⟨m1, fun x hx => gr_up_r (Q := fun z => z < cl ∨ z = 40) h1 (m2 x hx), fun x hx => gr_up_r (Q := fun z => z < 40 → mh z ≠ 41) h2 (m3 x hx), m4⟩
  have uph : ∀ c w, c < cl → (w < cl ∨ w = 40) → (w < 40 → mh w ≠ 41) → gr_MW cl vs (gr_up mh c w) mv := fun c w hc h1 h2 => by
    have e41 : w ≠ 41 := by omega
    have kp : ∀ z, mh z ≠ 41 → gr_up mh c w z ≠ 41 := fun z hz => gr_up_r (Q := fun y => y ≠ 41) e41 hz
    refine ⟨⟨m1.1, fun u => gr_up_r (Q := fun z => z < cl ∨ z = 40 ∨ z = 41) (h1.elim Or.inl (fun z => Or.inr (Or.inl z))) (m1.2.1 u), fun u hu => by rw [gr_up_n (by omega)]; exact m1.2.2 u hu⟩, m2, fun x hx hl => kp _ (m3 x hx hl), fun u => ?_⟩
    exact gr_up_r (Q := fun z => z < 40 → gr_up mh c w z ≠ 41) (fun hl => kp _ (h2 hl)) (fun hl => kp _ (m4 u hl))
  rcases (show op = 0 ∨ op = 1 ∨ op = 2 ∨ op = 3 ∨ op = 4 ∨ op = 5 ∨ 6 ≤ op by omega) with e | e | e | e | e | e | e
  · subst e; rw [gr_mh_0.1, gr_mh_0.2]; exact upv 40 (Or.inr rfl) (fun z => by omega)
  · subst e; rw [gr_mh_1.1, gr_mh_1.2]; exact upv _ (m2 b (i4 (by omega))) (m3 b (i4 (by omega)))
  · subst e
    rw [gr_mh_2.1, gr_mh_2.2]
    have hfr := h2 rfl
    have hf41 : mh fr = 41 := by
      rcases hf with z | z
      · exact z.2.1
      · omega
    have U := uph fr 40 hfr (Or.inr rfl) (fun z => by omega)
    refine ⟨U.1, fun x hx => gr_up_r (Q := fun z => z < cl ∨ z = 40) (Or.inl hfr) (m2 x hx), fun x hx => ?_, U.2.2.2⟩
    exact gr_up_r (Q := fun z => z < 40 → gr_up mh fr 40 z ≠ 41) (fun _ => by rw [gr_up_s]; omega) (U.2.2.1 x hx)
  · subst e
    rw [gr_mh_3.1, gr_mh_3.2]
    have hb : mv b < cl := by
      rcases m2 b (i4 (by omega)) with z | z
      · exact z
      · exact absurd (Or.inl ⟨rfl, by show 40 ≤ mv b; omega⟩) hok
    refine upv _ ?_ (m4 (mv b))
    rcases m1.2.1 (mv b) with z | z | z
    · exact Or.inl z
    · exact Or.inr z
    · exact absurd z (m3 b (i4 (by omega)) (by omega))
  · subst e
    rw [gr_mh_4.1, gr_mh_4.2]
    refine uph _ _ ?_ (m2 b (i4 (by omega))) (m3 b (i4 (by omega)))
    rcases m2 a (i2 (by omega)) with z | z
    · exact z
    · exact absurd (Or.inr ⟨Or.inl rfl, by show 40 ≤ mv a; omega⟩) hok
  · subst e
    rw [gr_mh_5.1, gr_mh_5.2]
    refine uph _ _ ?_ (Or.inr rfl) (fun z => by omega)
    rcases m2 a (i2 (by omega)) with z | z
    · exact z
    · exact absurd (Or.inr ⟨Or.inr rfl, by show 40 ≤ mv a; omega⟩) hok
  · rw [(gr_mh_6 e).1, (gr_mh_6 e).2]
    exact ⟨m1, m2, m3, m4⟩
/-- the heap behind collecting -/
noncomputable def gr_mc (cl vs : Nat) (mh mv : Nat → Nat) (u : Nat) : Nat := if u < cl then gr_fc mh mv vs u else 40
theorem gr_mc_MW {cl : Nat} {mh mv : Nat → Nat} (M : gr_MW cl vs mh mv) : gr_MW cl vs (gr_mc cl vs mh mv) mv := by
  have W := gr_MW_W M
  have hcl := W.1.1
  have er : ∀ u, gr_R mh mv vs u → gr_mc cl vs mh mv u = mh u := fun u r => by
    unfold gr_mc
    rw [if_pos (gr_R_n W.1 W.2.1 r), gr_fc_t r]
  have en : ∀ u, ¬ gr_R mh mv vs u → 40 ≤ gr_mc cl vs mh mv u := fun u r => by
    unfold gr_mc
    split
    · rw [gr_fc_f r]; omega
    · omega
  refine ⟨⟨hcl, fun u => ?_, fun u hu => if_neg (by omega)⟩, M.2.1, fun x hx hl => ?_, fun u hl => ?_⟩
  · rcases Classical.em (gr_R mh mv vs u) with r | r
    · rw [er u r]; exact W.1.2.1 u
    · unfold gr_mc
      split
      · rw [gr_fc_f r]; exact Or.inr (Or.inr rfl)
      · exact Or.inr (Or.inl rfl)
  · rw [er _ (gr_R_v hx hl)]; exact M.2.2.1 x hx hl
  · rcases Classical.em (gr_R mh mv vs u) with r | r
    · rw [er u r] at hl ⊢
      rw [er _ (gr_R_s r hl)]
      exact W.2.2 _ (gr_R_s r hl)
    · have := en u r; omega
end
end
section
/-! X: the machine -/
def xs_I (i op a b t : Nat) (a_opOf a_aOf a_bOf a_tOf : Nat → Int32) : Prop := a_opOf i = nI op ∧ a_aOf i = gr_ex a ∧ a_bOf i = gr_ex b ∧ a_tOf i = gr_ex t
section
variable {n vs cl i op a b t k fr : Nat} {mv mh : Nat → Nat}
variable {f_vars f_cells f_lengthLimit f_entryLimit f_count f_fixed f_machine f_machinePc f_lostCount f_coinBits f_analysis f_entryCount f_outCount f_outLost f_wCount f_workLost f_numbered f_sumMask f_walkCount f_walkSummary f_walkRing : Int32} {a_opOf a_aOf a_bOf a_tOf a_machineVar a_cellUsed a_cellLink a_tabNodes a_tabSum a_tabVar a_tabSucc a_entPoint a_entPending a_outPoint a_wVar a_wSucc a_wSum a_mark a_head a_preds a_number a_rawNext : Nat → Int32}
theorem xq_43 {post : Int32 → Prop} (hi : i < 32) (hvs : vs ≤ 3) (H : xs_I i op a b t a_opOf a_aOf a_bOf a_tOf) (ha : a < vs) (M : xs_M vs cl mv mh a_machineVar a_cellUsed a_cellLink) (K : ∀ r, gr_tv r (40 ≤ mv a) → post r) : wX_machineDerefsNull_43 post (nI i) f_vars f_cells f_lengthLimit f_entryLimit f_count f_fixed f_machine f_machinePc f_lostCount f_coinBits f_analysis f_entryCount f_outCount f_outLost f_wCount f_workLost f_numbered f_sumMask f_walkCount f_walkSummary f_walkRing a_opOf a_aOf a_bOf a_tOf a_machineVar a_cellUsed a_cellLink a_tabNodes a_tabSum a_tabVar a_tabSucc a_entPoint a_entPending a_outPoint a_wVar a_wSucc a_wSum a_mark a_head a_preds a_number a_rawNext := by
  unfold wX_machineDerefsNull_43
  rw [nI_clamp (by omega), H.2.1, gr_ex_n (by omega), nI_clamp (by omega), M.1 a ha]
  exact ⟨vp_in_nI hi (by omega), vp_in_nI (by omega) (by omega), br_c (fun z => K 1 (gr_tv_t (gr_ex_m.mp z))) (fun z => K 0 (gr_tv_f (fun w => z (gr_ex_m.mpr w))))⟩
theorem xq_null {post : Int32 → Prop} (hi : i < 32) (hvs : vs ≤ 3) (H : xs_I i op a b t a_opOf a_aOf a_bOf a_tOf) (I : gr_ins vs op a b t) (M : xs_M vs cl mv mh a_machineVar a_cellUsed a_cellLink) (K : ∀ r, gr_tv r (gr_bad op a b (gr_ms cl mh mv)) → post r) : wpX_machineDerefsNull post (f_vars, f_cells, f_lengthLimit, f_entryLimit, f_count, f_fixed, f_machine, f_machinePc, f_lostCount, f_coinBits, f_analysis, f_entryCount, f_outCount, f_outLost, f_wCount, f_workLost, f_numbered, f_sumMask, f_walkCount, f_walkSummary, f_walkRing, a_opOf, a_aOf, a_bOf, a_tOf, a_machineVar, a_cellUsed, a_cellLink, a_tabNodes, a_tabSum, a_tabVar, a_tabSucc, a_entPoint, a_entPending, a_outPoint, a_wVar, a_wSucc, a_wSum, a_mark, a_head, a_preds, a_number, a_rawNext) (nI i) := by
  obtain ⟨i1, i2, i3, i4, i5, i6, i7⟩ := I
  unfold wpX_machineDerefsNull
  dsimp only
  rw [nI_clamp (by omega), H.1]
  refine ⟨vp_in_nI hi (by omega), nm_e (pk_eq op 3 (fun e => ?_) (fun e3 => pk_eq op 4 (fun e => ?_) (fun e4 => pk_eq op 5 (fun e => ?_) (fun e5 => K 0 (gr_tv_f (fun w => ?_))))))⟩
  · have hb := i4 (by omega)
    rw [H.2.2.1, gr_ex_n (by omega), nI_clamp (by omega), M.1 b hb]
    refine ⟨vp_in_nI hi (by omega), vp_in_nI (by omega) (by omega), br_c (fun z => K 1 (gr_tv_t (Or.inl ⟨e, gr_ex_m.mp z⟩))) (fun z => K 0 (gr_tv_f (fun w => z (gr_ex_m.mpr ?_))))⟩
    rcases w with w | w
    · exact w.2
    · omega
  · refine xq_43 hi hvs H (i2 (by omega)) M (fun r hr => K r (gr_tv_iff ⟨fun w => Or.inr ⟨Or.inl e, w⟩, fun w => ?_⟩ hr))
    rcases w with w | w
    · omega
    · exact w.2
  · refine xq_43 hi hvs H (i2 (by omega)) M (fun r hr => K r (gr_tv_iff ⟨fun w => Or.inr ⟨Or.inr e, w⟩, fun w => ?_⟩ hr))
    rcases w with w | w
    · omega
    · exact w.2
  · rcases w with w | w
    · exact e3 w.1
    · exact w.1.elim e4 e5
theorem xq_free2 {post : Int32 → Prop} (hcl : cl ≤ 32) (M : xs_M vs cl mv mh a_machineVar a_cellUsed a_cellLink) (F : gr_fr cl mh fr) (K1 : fr < cl → post (nI fr)) (K0 : fr = cl → post (-1)) :
    ∀ d i, i + d = cl → i ≤ fr → wX_lowestFree_2 post f_vars (nI cl) f_lengthLimit f_entryLimit f_count f_fixed f_machine f_machinePc f_lostCount f_coinBits f_analysis f_entryCount f_outCount f_outLost f_wCount f_workLost f_numbered f_sumMask f_walkCount f_walkSummary f_walkRing a_opOf a_aOf a_bOf a_tOf a_machineVar a_cellUsed a_cellLink a_tabNodes a_tabSum a_tabVar a_tabSucc a_entPoint a_entPending a_outPoint a_wVar a_wSucc a_wSum a_mark a_head a_preds a_number a_rawNext (d + 1) (nI i) := by
  intro d
  induction d with
  | zero =>
    intro i hi hf
    refine br_t (nI_le (by omega) (by omega)) (K0 ?_)
    rcases F with z | z <;> omega
  | succ d ih =>
    intro i hi hf
    refine br_f (nI_ge (by omega) (by omega)) ⟨vp_in_nI (by omega) (by omega), ?_⟩
    rw [nI_clamp (by omega)]
    have hc := (M.2 i (by omega)).1
    rcases Nat.decEq i fr with z | z
    · have hne : mh i ≠ 41 := by
        rcases F with y | y
        · exact y.2.2 i (by omega)
        · exact y.2 i (by omega)
      exact br_f (fun e => hne (hc.mp e)) (nm_r (nI_1 i) (ih (i + 1) (by omega) (by omega)))
    · have h41 : mh i = 41 := by
        rcases F with y | y
        · rw [z]; exact y.2.1
        · omega
      refine br_t (hc.mpr h41) ?_
      rw [z]
      exact K1 (by omega)
theorem xq_free {post : Int32 → Prop} (hcl : cl ≤ 32) (M : xs_M vs cl mv mh a_machineVar a_cellUsed a_cellLink) (F : gr_fr cl mh fr) (K1 : fr < cl → post (nI fr)) (K0 : fr = cl → post (-1)) : wpX_lowestFree post (f_vars, nI cl, f_lengthLimit, f_entryLimit, f_count, f_fixed, f_machine, f_machinePc, f_lostCount, f_coinBits, f_analysis, f_entryCount, f_outCount, f_outLost, f_wCount, f_workLost, f_numbered, f_sumMask, f_walkCount, f_walkSummary, f_walkRing, a_opOf, a_aOf, a_bOf, a_tOf, a_machineVar, a_cellUsed, a_cellLink, a_tabNodes, a_tabSum, a_tabVar, a_tabSucc, a_entPoint, a_entPending, a_outPoint, a_wVar, a_wSucc, a_wSum, a_mark, a_head, a_preds, a_number, a_rawNext) :=
  Exists.intro (cl + 1) (xq_free2 hcl M F K1 K0 cl 0 (by omega) (by omega))
theorem xq_131 {post : Int32 → SX → Prop} {r : Int32} {P : Prop} {q : Nat} (hi : i < 32) (ht : t < 40 ∨ ¬ P) (H : a_tOf i = gr_ex t) (hr : gr_tv r P) (h1 : P → q = t) (h2 : ¬ P → q = i + 1) (K : post (nI q) (f_vars, f_cells, f_lengthLimit, f_entryLimit, f_count, f_fixed, f_machine, f_machinePc, f_lostCount, f_coinBits, f_analysis, f_entryCount, f_outCount, f_outLost, f_wCount, f_workLost, f_numbered, f_sumMask, f_walkCount, f_walkSummary, f_walkRing, a_opOf, a_aOf, a_bOf, a_tOf, a_machineVar, a_cellUsed, a_cellLink, a_tabNodes, a_tabSum, a_tabVar, a_tabSucc, a_entPoint, a_entPending, a_outPoint, a_wVar, a_wSucc, a_wSum, a_mark, a_head, a_preds, a_number, a_rawNext)) : wX_machineTarget_131 post (nI i) r f_vars f_cells f_lengthLimit f_entryLimit f_count f_fixed f_machine f_machinePc f_lostCount f_coinBits f_analysis f_entryCount f_outCount f_outLost f_wCount f_workLost f_numbered f_sumMask f_walkCount f_walkSummary f_walkRing a_opOf a_aOf a_bOf a_tOf a_machineVar a_cellUsed a_cellLink a_tabNodes a_tabSum a_tabVar a_tabSucc a_entPoint a_entPending a_outPoint a_wVar a_wSucc a_wSum a_mark a_head a_preds a_number a_rawNext := by
  rcases hr with ⟨rfl, w⟩ | ⟨rfl, w⟩
  · refine br_t rfl ?_
    rw [nI_1, ← h2 w]; exact K
  · refine br_f (by decide) ⟨vp_in_nI hi (by omega), ?_⟩
    have ht' : t < 40 := ht.elim id (fun z => absurd w z)
    rw [nI_clamp (by omega), H, gr_ex_n ht', ← h1 w]; exact K
theorem xq_target {post : Int32 → SX → Prop} (hi : i < 32) (hvs : vs ≤ 3) (H : xs_I i op a b t a_opOf a_aOf a_bOf a_tOf) (I : gr_ins vs op a b t) (hmv : ∀ x, x < vs → mv x ≤ 40) (M : xs_M vs cl mv mh a_machineVar a_cellUsed a_cellLink)
    (hk : op = 8 → (k = 1 ↔ ¬ f_coinBits &&& 1 = 0))
    (K : ∀ cb, (op = 8 → cb = (f_coinBits.toUInt32 >>> ((1 : Int32).toUInt32 &&& Int32.toUInt32 31)).toInt32) → (op ≠ 8 → cb = f_coinBits) → post (nI (gr_q op a b t k i (gr_ms cl mh mv))) (f_vars, f_cells, f_lengthLimit, f_entryLimit, f_count, f_fixed, f_machine, f_machinePc, f_lostCount, cb, f_analysis, f_entryCount, f_outCount, f_outLost, f_wCount, f_workLost, f_numbered, f_sumMask, f_walkCount, f_walkSummary, f_walkRing, a_opOf, a_aOf, a_bOf, a_tOf, a_machineVar, a_cellUsed, a_cellLink, a_tabNodes, a_tabSum, a_tabVar, a_tabSucc, a_entPoint, a_entPending, a_outPoint, a_wVar, a_wSucc, a_wSum, a_mark, a_head, a_preds, a_number, a_rawNext)) : wpX_machineTarget post (f_vars, f_cells, f_lengthLimit, f_entryLimit, f_count, f_fixed, f_machine, f_machinePc, f_lostCount, f_coinBits, f_analysis, f_entryCount, f_outCount, f_outLost, f_wCount, f_workLost, f_numbered, f_sumMask, f_walkCount, f_walkSummary, f_walkRing, a_opOf, a_aOf, a_bOf, a_tOf, a_machineVar, a_cellUsed, a_cellLink, a_tabNodes, a_tabSum, a_tabVar, a_tabSucc, a_entPoint, a_entPending, a_outPoint, a_wVar, a_wSucc, a_wSum, a_mark, a_head, a_preds, a_number, a_rawNext) (nI i) := by
  obtain ⟨i1, i2, i3, i4, i5, i6, i7⟩ := I
  have Kn : op ≠ 8 → post (nI (gr_q op a b t k i (gr_ms cl mh mv))) (f_vars, f_cells, f_lengthLimit, f_entryLimit, f_count, f_fixed, f_machine, f_machinePc, f_lostCount, f_coinBits, f_analysis, f_entryCount, f_outCount, f_outLost, f_wCount, f_workLost, f_numbered, f_sumMask, f_walkCount, f_walkSummary, f_walkRing, a_opOf, a_aOf, a_bOf, a_tOf, a_machineVar, a_cellUsed, a_cellLink, a_tabNodes, a_tabSum, a_tabVar, a_tabSucc, a_entPoint, a_entPending, a_outPoint, a_wVar, a_wSucc, a_wSum, a_mark, a_head, a_preds, a_number, a_rawNext) := fun h => K f_coinBits (fun z => absurd z h) (fun _ => rfl)
  unfold wpX_machineTarget
  dsimp only
  rw [nI_clamp (by omega), H.1]
  refine ⟨vp_in_nI hi (by omega), nm_e (pk_lt op 6 (fun e => ?_) (fun e6 => pk_lt 9 op (fun e => by omega) (fun e9 => pk_eq op 6 (fun e => ?_) (fun n6 => pk_eq op 7 (fun e => ?_) (fun n7 => pk_eq op 8 (fun e => ?_) (fun n8 => pk_eq op 9 (fun e => ?_) (fun n9 => by omega)))))))⟩
  · have nj : ¬ gr_jp op a b k (gr_ms cl mh mv) := fun w => by rcases w with w | w | w | w <;> omega
    exact xq_131 (P := False) hi (Or.inr id) H.2.2.2 (gr_tv_f id) (fun z => z.elim) (fun _ => gr_q_f nj) (Kn (by omega))
  · have ha := i2 (by omega)
    have hj : gr_jp op a b k (gr_ms cl mh mv) ↔ 40 ≤ mv a := ⟨fun w => by rcases w with w | w | w | w <;> first | exact w.2 | omega, fun w => Or.inl ⟨e, w⟩⟩
    have fin : ∀ r, gr_tv r (40 ≤ mv a) → wX_machineTarget_60 post (nI i) r f_vars f_cells f_lengthLimit f_entryLimit f_count f_fixed f_machine f_machinePc f_lostCount f_coinBits f_analysis f_entryCount f_outCount f_outLost f_wCount f_workLost f_numbered f_sumMask f_walkCount f_walkSummary f_walkRing a_opOf a_aOf a_bOf a_tOf a_machineVar a_cellUsed a_cellLink a_tabNodes a_tabSum a_tabVar a_tabSucc a_entPoint a_entPending a_outPoint a_wVar a_wSucc a_wSum a_mark a_head a_preds a_number a_rawNext := fun r hr => xq_131 hi (Or.inl (by have := i6 (by omega); omega)) H.2.2.2 hr (fun w => gr_q_t (hj.mpr w)) (fun w => gr_q_f (fun y => w (hj.mp y))) (Kn (by omega))
    rw [H.2.1, gr_ex_n (by omega), nI_clamp (by omega), M.1 a ha]
    exact ⟨vp_in_nI hi (by omega), vp_in_nI (by omega) (by omega), br_c (fun z => fin 1 (gr_tv_t (gr_ex_m.mp z))) (fun z => fin 0 (gr_tv_f (fun w => z (gr_ex_m.mpr w))))⟩
  · have ha := i2 (by omega)
    have hb := i4 (by omega)
    have hj : gr_jp op a b k (gr_ms cl mh mv) ↔ mv a = mv b := ⟨fun w => by rcases w with w | w | w | w <;> first | exact w.2 | omega, fun w => Or.inr (Or.inl ⟨e, w⟩)⟩
    have fin : ∀ r, gr_tv r (mv a = mv b) → wX_machineTarget_94 post (nI i) r f_vars f_cells f_lengthLimit f_entryLimit f_count f_fixed f_machine f_machinePc f_lostCount f_coinBits f_analysis f_entryCount f_outCount f_outLost f_wCount f_workLost f_numbered f_sumMask f_walkCount f_walkSummary f_walkRing a_opOf a_aOf a_bOf a_tOf a_machineVar a_cellUsed a_cellLink a_tabNodes a_tabSum a_tabVar a_tabSucc a_entPoint a_entPending a_outPoint a_wVar a_wSucc a_wSum a_mark a_head a_preds a_number a_rawNext := fun r hr => xq_131 hi (Or.inl (by have := i6 (by omega); omega)) H.2.2.2 hr (fun w => gr_q_t (hj.mpr w)) (fun w => gr_q_f (fun y => w (hj.mp y))) (Kn (by omega))
    rw [H.2.1, H.2.2.1, gr_ex_n (by omega), gr_ex_n (by omega), nI_clamp (by omega), nI_clamp (by omega), M.1 a ha, M.1 b hb]
    exact ⟨vp_in_nI hi (by omega), vp_in_nI (by omega) (by omega), vp_in_nI hi (by omega), vp_in_nI (by omega) (by omega), br_c (fun z => fin 1 (gr_tv_t (gr_ex_i _ _ (hmv a ha) (hmv b hb) z))) (fun z => fin 0 (gr_tv_f (fun w => z (by rw [w]))))⟩
  · have hj : gr_jp op a b k (gr_ms cl mh mv) ↔ k = 1 := ⟨fun w => by rcases w with w | w | w | w <;> first | exact w.2 | omega, fun w => Or.inr (Or.inr (Or.inl ⟨e, w⟩))⟩
    have fin : ∀ r, gr_tv r (k = 1) → wX_machineTarget_112 post (nI i) r f_vars f_cells f_lengthLimit f_entryLimit f_count f_fixed f_machine f_machinePc f_lostCount f_coinBits f_analysis f_entryCount f_outCount f_outLost f_wCount f_workLost f_numbered f_sumMask f_walkCount f_walkSummary f_walkRing a_opOf a_aOf a_bOf a_tOf a_machineVar a_cellUsed a_cellLink a_tabNodes a_tabSum a_tabVar a_tabSucc a_entPoint a_entPending a_outPoint a_wVar a_wSucc a_wSum a_mark a_head a_preds a_number a_rawNext := fun r hr => nm_e (xq_131 hi (Or.inl (by have := i6 (by omega); omega)) H.2.2.2 hr (fun w => gr_q_t (hj.mpr w)) (fun w => gr_q_f (fun y => w (hj.mp y))) (K _ (fun _ => rfl) (fun z => absurd e z)))
    exact br_c (fun z => fin 0 (gr_tv_f (fun w => (hk e).mp w z))) (fun z => fin 1 (gr_tv_t ((hk e).mpr z)))
  · have hj : gr_jp op a b k (gr_ms cl mh mv) := Or.inr (Or.inr (Or.inr e))
    exact xq_131 (P := True) hi (Or.inl (by have := i6 (by omega); omega)) H.2.2.2 (gr_tv_t trivial) (fun _ => gr_q_t hj) (fun z => absurd trivial z) (Kn (by omega))
theorem xq_mv {v : Int32} {w : Nat} (M : xs_M vs cl mv mh a_machineVar a_cellUsed a_cellLink) (hv : v = gr_ex w) : xs_M vs cl (gr_up mv a w) mh (upd a_machineVar a v) a_cellUsed a_cellLink := by
  refine ⟨fun x hx => ?_, M.2⟩
  rcases Nat.decEq x a with z | z
  · rw [pk_un z, gr_up_n z]; exact M.1 x hx
  · rw [z, pk_us, gr_up_s]; exact hv
theorem xq_effect {post : SX → Prop} {p1 : Int32} (hi : i < 32) (hvs : vs ≤ 3) (hcl : cl ≤ 32) (H : xs_I i op a b t a_opOf a_aOf a_bOf a_tOf) (I : gr_ins vs op a b t) (W : gr_MW cl vs mh mv) (M : xs_M vs cl mv mh a_machineVar a_cellUsed a_cellLink)
    (hok : ¬ gr_bad op a b (gr_ms cl mh mv)) (h2 : op = 2 → fr < cl ∧ p1 = nI fr)
    (K : ∀ ma cu ck, xs_M vs cl (gr_mv op a b fr cl mh mv) (gr_mh op a b fr cl mh mv) ma cu ck → post (f_vars, f_cells, f_lengthLimit, f_entryLimit, f_count, f_fixed, f_machine, f_machinePc, f_lostCount, f_coinBits, f_analysis, f_entryCount, f_outCount, f_outLost, f_wCount, f_workLost, f_numbered, f_sumMask, f_walkCount, f_walkSummary, f_walkRing, a_opOf, a_aOf, a_bOf, a_tOf, ma, cu, ck, a_tabNodes, a_tabSum, a_tabVar, a_tabSucc, a_entPoint, a_entPending, a_outPoint, a_wVar, a_wSucc, a_wSum, a_mark, a_head, a_preds, a_number, a_rawNext)) : wpX_machineEffect post (f_vars, f_cells, f_lengthLimit, f_entryLimit, f_count, f_fixed, f_machine, f_machinePc, f_lostCount, f_coinBits, f_analysis, f_entryCount, f_outCount, f_outLost, f_wCount, f_workLost, f_numbered, f_sumMask, f_walkCount, f_walkSummary, f_walkRing, a_opOf, a_aOf, a_bOf, a_tOf, a_machineVar, a_cellUsed, a_cellLink, a_tabNodes, a_tabSum, a_tabVar, a_tabSucc, a_entPoint, a_entPending, a_outPoint, a_wVar, a_wSucc, a_wSum, a_mark, a_head, a_preds, a_number, a_rawNext) (nI i) p1 := by
  obtain ⟨i1, i2, i3, i4, i5, i6, i7⟩ := I
  unfold wpX_machineEffect
  dsimp only
  rw [nI_clamp (by omega), H.1, H.2.1, H.2.2.1]
  refine ⟨vp_in_nI hi (by omega), nm_e ⟨vp_in_nI hi (by omega), nm_e ⟨vp_in_nI hi (by omega), nm_e (br_f (nI_pos (by omega)) (pk_lt 5 op (fun e => ?_) (fun e5 => pk_eq op 0 (fun e => ?_) (fun n0 => pk_eq op 1 (fun e => ?_) (fun n1 => pk_eq op 2 (fun e => ?_) (fun n2 => pk_eq op 3 (fun e => ?_) (fun n3 => pk_eq op 4 (fun e => ?_) (fun n4 => pk_eq op 5 (fun e => ?_) (fun n5 => by omega)))))))))⟩⟩⟩
  · have := K a_machineVar a_cellUsed a_cellLink
    rw [(gr_mh_6 (by omega)).1, (gr_mh_6 (by omega)).2] at this
    exact this M
  · subst e
    have ha := i2 (by omega)
    rw [gr_ex_n (by omega), nI_clamp (by omega)]
    refine ⟨vp_in_nI (by omega) (by omega), nm_e (K _ a_cellUsed a_cellLink ?_)⟩
    rw [gr_mh_0.1, gr_mh_0.2]
    exact xq_mv M rfl
  · subst e
    have ha := i2 (by omega)
    have hb := i4 (by omega)
    rw [gr_ex_n (show a < 40 by omega), gr_ex_n (show b < 40 by omega), nI_clamp (by omega), nI_clamp (by omega)]
    refine ⟨vp_in_nI (by omega) (by omega), vp_in_nI (by omega) (by omega), nm_e (K _ a_cellUsed a_cellLink ?_)⟩
    rw [gr_mh_1.1, gr_mh_1.2]
    exact xq_mv M (M.1 b hb)
  · subst e
    have ha := i2 (by omega)
    obtain ⟨hf, rfl⟩ := h2 rfl
    rw [gr_ex_n (show a < 40 by omega), nI_clamp (by omega), nI_clamp (by omega)]
    refine ⟨vp_in_nI (by omega) (by omega), nm_e ⟨vp_in_nI (by omega) (by omega), nm_e ⟨vp_in_nI (by omega) (by omega), nm_e (K _ _ _ ?_)⟩⟩⟩
    rw [gr_mh_2.1, gr_mh_2.2]
    refine xq_mv ⟨M.1, fun c hc => ?_⟩ (gr_ex_n (by omega)).symm
    rcases Nat.decEq c fr with z | z
    · rw [pk_un z, pk_un z, gr_up_n z]; exact M.2 c hc
    · rw [z, pk_us, pk_us, gr_up_s]
      exact ⟨⟨fun q => absurd q (by decide), fun q => absurd q (by omega)⟩, rfl⟩
  · subst e
    have ha := i2 (by omega)
    have hb := i4 (by omega)
    have hl : mv b < cl := by
      rcases W.2.1 b hb with z | z
      · exact z
      · exact absurd (Or.inl ⟨rfl, by show 40 ≤ mv b; omega⟩) hok
    rw [gr_ex_n (show a < 40 by omega), gr_ex_n (show b < 40 by omega), nI_clamp (by omega), nI_clamp (by omega), M.1 b hb, gr_ex_n (show mv b < 40 by omega), nI_clamp (by omega)]
    refine ⟨vp_in_nI (by omega) (by omega), vp_in_nI (by omega) (by omega), vp_in_nI (by omega) (by omega), nm_e (K _ a_cellUsed a_cellLink ?_)⟩
    rw [gr_mh_3.1, gr_mh_3.2]
    exact xq_mv M (M.2 _ hl).2
  · subst e
    have ha := i2 (by omega)
    have hb := i4 (by omega)
    have hl : mv a < cl := by
      rcases W.2.1 a ha with z | z
      · exact z
      · exact absurd (Or.inr ⟨Or.inl rfl, by show 40 ≤ mv a; omega⟩) hok
    have hu := W.2.2.1 a ha (by omega)
    rw [gr_ex_n (show a < 40 by omega), gr_ex_n (show b < 40 by omega), nI_clamp (by omega), nI_clamp (by omega), M.1 a ha, gr_ex_n (show mv a < 40 by omega), nI_clamp (by omega)]
    refine ⟨vp_in_nI (by omega) (by omega), vp_in_nI (by omega) (by omega), vp_in_nI (by omega) (by omega), nm_e (K a_machineVar a_cellUsed _ ?_)⟩
    rw [gr_mh_4.1, gr_mh_4.2]
    refine ⟨M.1, fun c hc => ?_⟩
    rcases Nat.decEq c (mv a) with z | z
    · rw [pk_un z, gr_up_n z]; exact M.2 c hc
    · rw [z, pk_us, gr_up_s, M.1 b hb]
      refine ⟨⟨fun q => absurd ((M.2 _ hl).1.mp q) hu, fun q => ?_⟩, rfl⟩
      rcases W.2.1 b hb with y | y <;> omega
  · subst e
    have ha := i2 (by omega)
    have hl : mv a < cl := by
      rcases W.2.1 a ha with z | z
      · exact z
      · exact absurd (Or.inr ⟨Or.inr rfl, by show 40 ≤ mv a; omega⟩) hok
    have hu := W.2.2.1 a ha (by omega)
    rw [gr_ex_n (show a < 40 by omega), nI_clamp (by omega), M.1 a ha, gr_ex_n (show mv a < 40 by omega), nI_clamp (by omega)]
    refine ⟨vp_in_nI (by omega) (by omega), vp_in_nI (by omega) (by omega), nm_e (K a_machineVar a_cellUsed _ ?_)⟩
    rw [gr_mh_5.1, gr_mh_5.2]
    refine ⟨M.1, fun c hc => ?_⟩
    rcases Nat.decEq c (mv a) with z | z
    · rw [pk_un z, gr_up_n z]; exact M.2 c hc
    · rw [z, pk_us, gr_up_s]
      exact ⟨⟨fun q => absurd ((M.2 _ hl).1.mp q) hu, fun q => by omega⟩, rfl⟩
/-! collectCells -/
theorem xq_c10 {post : SX → Prop} {lo : Int32} (hcl : cl ≤ 32) (W : gr_MW cl vs mh mv) (hM : ∀ c, c < cl → (a_cellUsed c = 0 ↔ mh c = 41) ∧ a_cellLink c = gr_ex (mh c)) (hm : ∀ u, u < 40 → (¬ a_mark u = 0 ↔ gr_R mh mv vs u))
    (K : ∀ cu ck, (∀ c, c < cl → (cu c = 0 ↔ gr_mc cl vs mh mv c = 41) ∧ ck c = gr_ex (gr_mc cl vs mh mv c)) → post (f_vars, nI cl, f_lengthLimit, f_entryLimit, f_count, f_fixed, f_machine, f_machinePc, lo + nI (gr_cn (fun u => mh u ≠ 41 ∧ ¬ gr_R mh mv vs u) cl), f_coinBits, f_analysis, f_entryCount, f_outCount, f_outLost, f_wCount, f_workLost, f_numbered, f_sumMask, f_walkCount, f_walkSummary, f_walkRing, a_opOf, a_aOf, a_bOf, a_tOf, a_machineVar, cu, ck, a_tabNodes, a_tabSum, a_tabVar, a_tabSucc, a_entPoint, a_entPending, a_outPoint, a_wVar, a_wSucc, a_wSum, a_mark, a_head, a_preds, a_number, a_rawNext)) :
    ∀ d i cu ck, i + d = cl → (∀ c, c < i → (cu c = 0 ↔ gr_mc cl vs mh mv c = 41) ∧ ck c = gr_ex (gr_mc cl vs mh mv c)) → (∀ c, i ≤ c → cu c = a_cellUsed c ∧ ck c = a_cellLink c) →
      wX_collectCells_10 post f_vars (nI cl) f_lengthLimit f_entryLimit f_count f_fixed f_machine f_machinePc f_coinBits f_analysis f_entryCount f_outCount f_outLost f_wCount f_workLost f_numbered f_sumMask f_walkCount f_walkSummary f_walkRing (d + 1) (nI i) (lo + nI (gr_cn (fun u => mh u ≠ 41 ∧ ¬ gr_R mh mv vs u) i)) a_opOf a_aOf a_bOf a_tOf a_machineVar cu ck a_tabNodes a_tabSum a_tabVar a_tabSucc a_entPoint a_entPending a_outPoint a_wVar a_wSucc a_wSum a_mark a_head a_preds a_number a_rawNext := by
  have W' := gr_MW_W W
  intro d
  induction d with
  | zero =>
    intro i cu ck hi h1 h2
    have e : i = cl := by omega
    subst e
    exact br_t (nI_le (by omega) (by omega)) (K cu ck h1)
  | succ d ih =>
    intro i cu ck hi h1 h2
    have ih2 := fun cu' ck' => ih (i + 1) cu' ck' (by omega)
    simp only [gr_cn] at ih2
    have hc := hM i (by omega)
    have hk := h2 i (Nat.le_refl _)
    have same : gr_mc cl vs mh mv i = mh i → ∀ c, c < i + 1 → (cu c = 0 ↔ gr_mc cl vs mh mv c = 41) ∧ ck c = gr_ex (gr_mc cl vs mh mv c) := fun e c hc' => by
      rcases Nat.decEq c i with z | z
      · exact h1 c (by omega)
      · rw [z, hk.1, hk.2, e]; exact hc
    have mce : gr_mc cl vs mh mv i = gr_fc mh mv vs i := if_pos (by omega)
    refine br_f (nI_ge (by omega) (by omega)) ⟨vp_in_nI (by omega) (by omega), ?_⟩
    rw [nI_clamp (by omega), hk.1]
    refine br_c (fun z => nm_r (nI_1 i) ?_) (fun z => ⟨vp_in_nI (by omega) (by omega), br_c (fun y => ⟨vp_in_nI (by omega) (by omega), nm_e ⟨vp_in_nI (by omega) (by omega), nm_e (nm_e (nm_r (nI_1 i) ?_))⟩⟩) (fun y => nm_r (nI_1 i) ?_)⟩)
    · have h41 := hc.1.mp z
      have nr : ¬ gr_R mh mv vs i := fun r => W'.2.2 i r h41
      have := ih2 cu ck (same (by rw [mce, gr_fc_f nr, h41])) (fun c hc' => h2 c (by omega))
      rw [gr_b1_f (fun q => q.1 h41)] at this
      exact this
    · have nr : ¬ gr_R mh mv vs i := fun r => (hm i (by omega)).mpr r y
      have := ih2 (upd cu i (vp_nar .boolean 0)) (upd ck i (-1)) (fun c hc' => ?_) (fun c hc' => ?_)
      · rw [gr_b1_t ⟨fun q => z (hc.1.mpr q), nr⟩, ← nI_1 (gr_cn (fun u => mh u ≠ 41 ∧ ¬ gr_R mh mv vs u) i), ← Int32.add_assoc] at this
        exact this
      · rcases Nat.decEq c i with w | w
        · rw [pk_un w, pk_un w]; exact h1 c (by omega)
        · rw [w, pk_us, pk_us, mce, gr_fc_f nr]; exact ⟨⟨fun _ => rfl, fun _ => rfl⟩, rfl⟩
      · rw [pk_un (by omega), pk_un (by omega)]; exact h2 c (by omega)
    · have r := (hm i (by omega)).mp y
      have := ih2 cu ck (same (by rw [mce, gr_fc_t r])) (fun c hc' => h2 c (by omega))
      rw [gr_b1_f (fun q => q.2 r)] at this
      exact this
theorem xq_collect {post : SX → Prop} (hcl : cl ≤ 32) (hvs : vs ≤ 3) (W : gr_MW cl vs mh mv) (M : xs_M vs cl mv mh a_machineVar a_cellUsed a_cellLink)
    (K : ∀ wc wl wv wu wm mk cu ck, xs_M vs cl mv (gr_mc cl vs mh mv) a_machineVar cu ck → post (nI vs, nI cl, f_lengthLimit, f_entryLimit, f_count, f_fixed, f_machine, f_machinePc, f_lostCount + nI (gr_cn (fun u => mh u ≠ 41 ∧ ¬ gr_R mh mv vs u) cl), f_coinBits, f_analysis, f_entryCount, f_outCount, f_outLost, wc, wl, f_numbered, f_sumMask, f_walkCount, f_walkSummary, f_walkRing, a_opOf, a_aOf, a_bOf, a_tOf, a_machineVar, cu, ck, a_tabNodes, a_tabSum, a_tabVar, a_tabSucc, a_entPoint, a_entPending, a_outPoint, wv, wu, wm, mk, a_head, a_preds, a_number, a_rawNext)) :
    wpX_collectCells post (nI vs, nI cl, f_lengthLimit, f_entryLimit, f_count, f_fixed, f_machine, f_machinePc, f_lostCount, f_coinBits, f_analysis, f_entryCount, f_outCount, f_outLost, f_wCount, f_workLost, f_numbered, f_sumMask, f_walkCount, f_walkSummary, f_walkRing, a_opOf, a_aOf, a_bOf, a_tOf, a_machineVar, a_cellUsed, a_cellLink, a_tabNodes, a_tabSum, a_tabVar, a_tabSucc, a_entPoint, a_entPending, a_outPoint, a_wVar, a_wSucc, a_wSum, a_mark, a_head, a_preds, a_number, a_rawNext) := by
  unfold wpX_collectCells
  dsimp only
  refine xl_heap hcl hvs M (fun wv wu wm T => ?_)
  refine xm_ok (n := cl) (h := mh) (va := mv) (gr_MW_W W) hvs T.1 T.2.1 (fun mk wl m1 m2 => Exists.intro (cl + 1) ?_)
  have e0 : f_lostCount = f_lostCount + nI (gr_cn (fun u => mh u ≠ 41 ∧ ¬ gr_R mh mv vs u) 0) := (Int32.add_zero _).symm
  have key := fun lo (e : lo = f_lostCount + nI (gr_cn (fun u => mh u ≠ 41 ∧ ¬ gr_R mh mv vs u) 0)) => show wX_collectCells_10 post (nI vs) (nI cl) f_lengthLimit f_entryLimit f_count f_fixed f_machine f_machinePc f_coinBits f_analysis f_entryCount f_outCount f_outLost (nI cl) wl f_numbered f_sumMask f_walkCount f_walkSummary f_walkRing (cl + 1) (nI 0) lo a_opOf a_aOf a_bOf a_tOf a_machineVar a_cellUsed a_cellLink a_tabNodes a_tabSum a_tabVar a_tabSucc a_entPoint a_entPending a_outPoint wv wu wm mk a_head a_preds a_number a_rawNext from by
    rw [e]
    exact xq_c10 hcl W M.2 m1 (fun cu ck hck => K (nI cl) wl wv wu wm mk cu ck ⟨M.1, hck⟩) cl 0 a_cellUsed a_cellLink (by omega) (fun c hc => by omega) (fun _ _ => ⟨rfl, rfl⟩)
  exact key f_lostCount e0
/-! execute -/
theorem xq_exec {post : Int32 → SX → Prop} {nn : Nat} (hi : i < 32) (hvs : vs ≤ 3) (hcl : cl ≤ 32) (hnn : nn ≤ 32) (H : xs_I i op a b t a_opOf a_aOf a_bOf a_tOf) (I : gr_ins vs op a b t) (W : gr_MW cl vs mh mv) (M : xs_M vs cl mv mh a_machineVar a_cellUsed a_cellLink) (F : gr_fr cl mh fr)
    (hk : op = 8 → (k = 1 ↔ ¬ f_coinBits &&& 1 = 0))
    (K3 : gr_bad op a b (gr_ms cl mh mv) → post 0 (nI vs, nI cl, f_lengthLimit, f_entryLimit, nI nn, f_fixed, 3, nI i, f_lostCount, f_coinBits, f_analysis, f_entryCount, f_outCount, f_outLost, f_wCount, f_workLost, f_numbered, f_sumMask, f_walkCount, f_walkSummary, f_walkRing, a_opOf, a_aOf, a_bOf, a_tOf, a_machineVar, a_cellUsed, a_cellLink, a_tabNodes, a_tabSum, a_tabVar, a_tabSucc, a_entPoint, a_entPending, a_outPoint, a_wVar, a_wSucc, a_wSum, a_mark, a_head, a_preds, a_number, a_rawNext))
    (K4 : ¬ gr_bad op a b (gr_ms cl mh mv) → op = 2 → fr = cl → post 0 (nI vs, nI cl, f_lengthLimit, f_entryLimit, nI nn, f_fixed, 4, nI i, f_lostCount, f_coinBits, f_analysis, f_entryCount, f_outCount, f_outLost, f_wCount, f_workLost, f_numbered, f_sumMask, f_walkCount, f_walkSummary, f_walkRing, a_opOf, a_aOf, a_bOf, a_tOf, a_machineVar, a_cellUsed, a_cellLink, a_tabNodes, a_tabSum, a_tabVar, a_tabSucc, a_entPoint, a_entPending, a_outPoint, a_wVar, a_wSucc, a_wSum, a_mark, a_head, a_preds, a_number, a_rawNext))
    (K : ¬ gr_bad op a b (gr_ms cl mh mv) → (op = 2 → fr < cl) → ∀ cb wc wl wv wu wm mk ma cu ck mc, (op = 8 → cb = (f_coinBits.toUInt32 >>> ((1 : Int32).toUInt32 &&& Int32.toUInt32 31)).toInt32) → (op ≠ 8 → cb = f_coinBits) →
      xs_M vs cl (gr_mv op a b fr cl mh mv) (gr_mc cl vs (gr_mh op a b fr cl mh mv) (gr_mv op a b fr cl mh mv)) ma cu ck → ((gr_q op a b t k i (gr_ms cl mh mv) = nn ∧ mc = 2) ∨ (gr_q op a b t k i (gr_ms cl mh mv) ≠ nn ∧ mc = f_machine)) →
      post 1 (nI vs, nI cl, f_lengthLimit, f_entryLimit, nI nn, f_fixed, mc, nI (gr_q op a b t k i (gr_ms cl mh mv)), f_lostCount + nI (gr_cn (fun u => gr_mh op a b fr cl mh mv u ≠ 41 ∧ ¬ gr_R (gr_mh op a b fr cl mh mv) (gr_mv op a b fr cl mh mv) vs u) cl), cb, f_analysis, f_entryCount, f_outCount, f_outLost, wc, wl, f_numbered, f_sumMask, f_walkCount, f_walkSummary, f_walkRing, a_opOf, a_aOf, a_bOf, a_tOf, ma, cu, ck, a_tabNodes, a_tabSum, a_tabVar, a_tabSucc, a_entPoint, a_entPending, a_outPoint, wv, wu, wm, mk, a_head, a_preds, a_number, a_rawNext)) :
    wpX_execute post (nI vs, nI cl, f_lengthLimit, f_entryLimit, nI nn, f_fixed, f_machine, nI i, f_lostCount, f_coinBits, f_analysis, f_entryCount, f_outCount, f_outLost, f_wCount, f_workLost, f_numbered, f_sumMask, f_walkCount, f_walkSummary, f_walkRing, a_opOf, a_aOf, a_bOf, a_tOf, a_machineVar, a_cellUsed, a_cellLink, a_tabNodes, a_tabSum, a_tabVar, a_tabSucc, a_entPoint, a_entPending, a_outPoint, a_wVar, a_wSucc, a_wSum, a_mark, a_head, a_preds, a_number, a_rawNext) := by
  have hq : gr_q op a b t k i (gr_ms cl mh mv) ≤ 40 := by
    rcases Classical.em (gr_jp op a b k (gr_ms cl mh mv)) with z | z
    · rw [gr_q_t z]
      obtain ⟨i1, i2, i3, i4, i5, i6, i7⟩ := I
      rcases Nat.lt_or_ge op 6 with y | y
      · have := i7 y; omega
      · have := i6 y; omega
    · rw [gr_q_f z]; omega
  have go : ¬ gr_bad op a b (gr_ms cl mh mv) → (op = 2 → fr < cl) → ∀ p1, (op = 2 → p1 = nI fr) → wX_execute_49 post (nI i) p1 (nI vs) (nI cl) f_lengthLimit f_entryLimit (nI nn) f_fixed f_machine (nI i) f_lostCount f_coinBits f_analysis f_entryCount f_outCount f_outLost f_wCount f_workLost f_numbered f_sumMask f_walkCount f_walkSummary f_walkRing a_opOf a_aOf a_bOf a_tOf a_machineVar a_cellUsed a_cellLink a_tabNodes a_tabSum a_tabVar a_tabSucc a_entPoint a_entPending a_outPoint a_wVar a_wSucc a_wSum a_mark a_head a_preds a_number a_rawNext := by
    intro hok h2 p1 hp
    refine xq_target hi hvs H I (fun x hx => by have := W.2.1 x hx; have := W.1.1; omega) M hk (fun cb c1 c2 => ?_)
    refine xq_effect (fr := fr) hi hvs hcl H I W M hok (fun e => ⟨h2 e, hp e⟩) (fun ma cu ck M2 => ?_)
    refine xq_collect hcl hvs (gr_mef I W hcl hok F h2) M2 (fun wc wl wv wu wm mk cu2 ck2 M3 => ?_)
    exact pk_eq (gr_q op a b t k i (gr_ms cl mh mv)) nn (fun e => K hok h2 cb wc wl wv wu wm mk ma cu2 ck2 2 c1 c2 M3 (Or.inl ⟨e, rfl⟩)) (fun e => K hok h2 cb wc wl wv wu wm mk ma cu2 ck2 f_machine c1 c2 M3 (Or.inr ⟨e, rfl⟩))
  unfold wpX_execute
  dsimp only
  refine xq_null hi hvs H I M (fun r hr => ?_)
  rcases hr with ⟨rfl, q⟩ | ⟨rfl, q⟩
  · refine br_t rfl ?_
    have nofr : fr ≤ cl := by rcases F with z | z <;> omega
    have hop := I.1
    refine xq_free hcl M F (fun hf => ?_) (fun hf => ?_)
    · rw [nI_clamp (by omega), H.1]
      exact ⟨vp_in_nI hi (by omega), pk_eq op 2 (fun e => br_f (gr_nm1 (by omega)) (go q (fun _ => hf) _ (fun _ => rfl))) (fun e => go q (fun z => absurd z e) _ (fun z => absurd z e))⟩
    · rw [nI_clamp (by omega), H.1]
      exact ⟨vp_in_nI hi (by omega), pk_eq op 2 (fun e => br_t rfl (K4 q e hf)) (fun e => go q (fun z => absurd z e) _ (fun z => absurd z e))⟩
  · exact br_f (by decide) (K3 q)
end
end
section
/-! X: the outcomes of an instruction on an entry -/
def xs_Fl (tn ts tv tu tn' ts' tv' tu' : Nat → Int32) : Prop :=
  ∀ s', s' < 257 → tn' s' = tn s' ∧ ts' s' = ts s' ∧ (∀ x, x < 3 → tv' (s' * 3 + x) = tv (s' * 3 + x)) ∧ ∀ u, u < 12 → tu' (s' * 12 + u) = tu (s' * 12 + u)
theorem xs_Fl_S {vs s' : Nat} {S : gr_S} {tn ts tv tu tn' ts' tv' tu' : Nat → Int32} (hvs : vs ≤ 3) (hn : S.1 ≤ 12) (F : xs_Fl tn ts tv tu tn' ts' tv' tu') (h : s' < 257) (T : xS vs s' S tn ts tv tu) : xS vs s' S tn' ts' tv' tu' := by
  obtain ⟨f1, f2, f3, f4⟩ := F s' h
  refine ⟨f1.trans T.1, fun x hx => (f3 x (by omega)).trans (T.2.1 x hx), fun u hu => (f4 u (by omega)).trans (T.2.2.1 u hu), fun i hi => ?_⟩
  rw [f2]; exact T.2.2.2 i hi
theorem xs_Fl_0 {tn ts tv tu : Nat → Int32} : xs_Fl tn ts tv tu tn ts tv tu := fun _ _ => ⟨rfl, rfl, fun _ _ => rfl, fun _ _ => rfl⟩
theorem xs_Fl_s {s : Nat} {tn0 ts0 tv0 tu0 tn ts tv tu tn' ts' tv' tu' : Nat → Int32} (hs : 257 ≤ s) (F : xs_Fl tn0 ts0 tv0 tu0 tn ts tv tu) (G : xs_F s tn ts tv tu tn' ts' tv' tu') : xs_Fl tn0 ts0 tv0 tu0 tn' ts' tv' tu' := fun s' h => by
  obtain ⟨f1, f2, f3, f4⟩ := F s' h
  obtain ⟨g1, g2, g3, g4⟩ := G s' (by omega)
  exact ⟨g1.trans f1, g2.trans f2, fun x hx => (g3 x hx).trans (f3 x hx), fun u hu => (g4 u hu).trans (f4 u hu)⟩
def gr_lost (vs : Nat) (S : gr_S) : Prop := ∃ u, u < S.1 ∧ ¬ gr_R S.2.1 S.2.2.1 vs u
/-- c outcomes stand: points q k, structures T k (not yet normalised) -/
def xo_O (vs c : Nat) (q : Nat → Nat) (T : Nat → gr_S) (tn ts tv tu po : Nat → Int32) : Prop := ∀ k, k < c → po k = nI (q k) ∧ xS vs (257 + k) (gr_NF vs (T k)) tn ts tv tu
section
variable {n vs i op a b t e : Nat} {S : gr_S}
variable {f_vars f_cells f_lengthLimit f_entryLimit f_count f_fixed f_machine f_machinePc f_lostCount f_coinBits f_analysis f_entryCount f_outCount f_outLost f_wCount f_workLost f_numbered f_sumMask f_walkCount f_walkSummary f_walkRing : Int32} {a_opOf a_aOf a_bOf a_tOf a_machineVar a_cellUsed a_cellLink a_tabNodes a_tabSum a_tabVar a_tabSucc a_entPoint a_entPending a_outPoint a_wVar a_wSucc a_wSum a_mark a_head a_preds a_number a_rawNext : Nat → Int32}
theorem ix_257 (c : Nat) : 257 + nI c = nI (257 + c) := nI_add 257 c
/-- one more outcome -/
theorem xo_add {post : SX → Prop} {c q : Nat} (hc : c < 2) (hvs : vs ≤ 3) (W : gr_W S.1 vs S.2.1 S.2.2.1) (T : xW vs S a_wVar a_wSucc a_wSum) {qs : Nat → Nat} {Ts : Nat → gr_S} {tn0 ts0 tv0 tu0 : Nat → Int32}
    (O : xo_O vs c qs Ts a_tabNodes a_tabSum a_tabVar a_tabSucc a_outPoint) (hE : ∀ k, k < c → gr_ES vs (gr_NF vs (Ts k))) (hq : qs c = q) (hT : Ts c = S) (F : xs_Fl tn0 ts0 tv0 tu0 a_tabNodes a_tabSum a_tabVar a_tabSucc) {L : Nat → Prop} (hL : L c ↔ gr_lost vs S) (hl : gr_tv f_outLost (∃ k, k < c ∧ L k))
    (K : ∀ ol wl nb sk tn ts tv tu po mk hd pr nu rn, xo_O vs (c + 1) qs Ts tn ts tv tu po → xs_Fl tn0 ts0 tv0 tu0 tn ts tv tu → gr_tv ol (∃ k, k < c + 1 ∧ L k) →
      post (nI vs, f_cells, f_lengthLimit, f_entryLimit, f_count, f_fixed, f_machine, f_machinePc, f_lostCount, f_coinBits, f_analysis, f_entryCount, nI (c + 1), ol, nI S.1, wl, nb, sk, f_walkCount, f_walkSummary, f_walkRing, a_opOf, a_aOf, a_bOf, a_tOf, a_machineVar, a_cellUsed, a_cellLink, tn, ts, tv, tu, a_entPoint, a_entPending, po, a_wVar, a_wSucc, a_wSum, mk, hd, pr, nu, rn)) :
    wpX_addOutcome post (nI vs, f_cells, f_lengthLimit, f_entryLimit, f_count, f_fixed, f_machine, f_machinePc, f_lostCount, f_coinBits, f_analysis, f_entryCount, nI c, f_outLost, nI S.1, f_workLost, f_numbered, f_sumMask, f_walkCount, f_walkSummary, f_walkRing, a_opOf, a_aOf, a_bOf, a_tOf, a_machineVar, a_cellUsed, a_cellLink, a_tabNodes, a_tabSum, a_tabVar, a_tabSucc, a_entPoint, a_entPending, a_outPoint, a_wVar, a_wSucc, a_wSum, a_mark, a_head, a_preds, a_number, a_rawNext) (nI q) := by
  unfold wpX_addOutcome
  dsimp only
  refine br_t (nI_lt (b := 2) hc (by omega)) ?_
  rw [ix_257]
  refine x_norm (s := 257 + c) (by omega) W hvs T.1 T.2.1 T.2.2 (fun wl nb sk mk hd pr nu rn tn ts tv tu hwl hS hF => ?_)
  dsimp only
  refine ⟨vp_in_nI hc (by omega), ?_⟩
  rw [nI_clamp (by omega)]
  have O2 : xo_O vs (c + 1) qs Ts tn ts tv tu (upd a_outPoint c (nI q)) := by
    intro k hk
    rcases Nat.decEq k c with z | z
    · rw [pk_un z]
      exact ⟨(O k (by omega)).1, xs_SF hvs (hE k (by omega)).1 hF (by omega) (O k (by omega)).2⟩
    · rw [z, pk_us, hq, hT]
      exact ⟨rfl, hS⟩
  have F2 := xs_Fl_s (by omega) F hF
  refine nm_e (nm_r (nI_1 c) ?_)
  rcases hwl with ⟨rfl, w⟩ | ⟨rfl, w⟩
  · refine br_t rfl (K f_outLost 0 nb sk tn ts tv tu _ mk hd pr nu rn O2 F2 (gr_tv_iff ⟨fun ⟨k, h1, h2⟩ => ⟨k, by omega, h2⟩, fun ⟨k, h1, h2⟩ => ⟨k, ?_, h2⟩⟩ hl))
    rcases Nat.decEq k c with z | z
    · omega
    · rw [z] at h2; exact absurd (hL.mp h2) w
  · exact br_f (by decide) (K 1 1 nb sk tn ts tv tu _ mk hd pr nu rn O2 F2 (gr_tv_t ⟨c, by omega, hL.mpr w⟩))
theorem xW_va {wv wu wm : Nat → Int32} {v : Int32} {w : Nat} (T : xW vs S wv wu wm) (hv : v = gr_ex w) : xW vs (S.1, S.2.1, gr_up S.2.2.1 a w, S.2.2.2) (upd wv a v) wu wm := by
  refine ⟨fun x hx => ?_, T.2.1, T.2.2⟩
  show _ = gr_ex (gr_up S.2.2.1 a w x)
  rcases Nat.decEq x a with z | z
  · rw [pk_un z, gr_up_n z]; exact T.1 x hx
  · rw [z, pk_us, gr_up_s]; exact hv
theorem xW_h {wv wu wm : Nat → Int32} {v : Int32} {w p : Nat} (T : xW vs S wv wu wm) (hv : v = gr_ex w) : xW vs (S.1, gr_up S.2.1 p w, S.2.2.1, S.2.2.2) wv (upd wu p v) wm := by
  refine ⟨T.1, fun u hu => ?_, T.2.2⟩
  show _ = gr_ex (gr_up S.2.1 p w u)
  rcases Nat.decEq u p with z | z
  · rw [pk_un z, gr_up_n z]; exact T.2.1 u hu
  · rw [z, pk_us, gr_up_s]; exact hv
theorem xW_new {wv wu wm : Nat → Int32} (T : xW vs S wv wu wm) : xW vs (S.1 + 1, gr_up S.2.1 S.1 40, S.2.2.1, gr_up S.2.2.2 S.1 false) wv (upd wu S.1 (-1)) (upd wm S.1 (vp_nar .boolean 0)) := by
  refine ⟨T.1, fun u hu => ?_, fun u hu => ?_⟩
  · have hu' : u < S.1 + 1 := hu
    show _ = gr_ex (gr_up S.2.1 S.1 40 u)
    rcases Nat.decEq u S.1 with z | z
    · rw [pk_un z, gr_up_n z]; exact T.2.1 u (by omega)
    · rw [z, pk_us, gr_up_s]; rfl
  · have hu' : u < S.1 + 1 := hu
    show _ = gr_b (gr_up S.2.2.2 S.1 false u)
    rcases Nat.decEq u S.1 with z | z
    · rw [pk_un z, gr_up_n z]; exact T.2.2 u (by omega)
    · rw [z, pk_us, gr_up_s]; rfl
theorem xo_node {post : Int32 → SX → Prop} (hn : S.1 ≤ 12) (T : xW vs S a_wVar a_wSucc a_wSum)
    (K : ∀ wu wm, xW vs (S.1 + 1, gr_up S.2.1 S.1 40, S.2.2.1, gr_up S.2.2.2 S.1 false) a_wVar wu wm → post (nI S.1) (f_vars, f_cells, f_lengthLimit, f_entryLimit, f_count, f_fixed, f_machine, f_machinePc, f_lostCount, f_coinBits, f_analysis, f_entryCount, f_outCount, f_outLost, nI (S.1 + 1), f_workLost, f_numbered, f_sumMask, f_walkCount, f_walkSummary, f_walkRing, a_opOf, a_aOf, a_bOf, a_tOf, a_machineVar, a_cellUsed, a_cellLink, a_tabNodes, a_tabSum, a_tabVar, a_tabSucc, a_entPoint, a_entPending, a_outPoint, a_wVar, wu, wm, a_mark, a_head, a_preds, a_number, a_rawNext)) : wpX_addNode post (f_vars, f_cells, f_lengthLimit, f_entryLimit, f_count, f_fixed, f_machine, f_machinePc, f_lostCount, f_coinBits, f_analysis, f_entryCount, f_outCount, f_outLost, nI S.1, f_workLost, f_numbered, f_sumMask, f_walkCount, f_walkSummary, f_walkRing, a_opOf, a_aOf, a_bOf, a_tOf, a_machineVar, a_cellUsed, a_cellLink, a_tabNodes, a_tabSum, a_tabVar, a_tabSucc, a_entPoint, a_entPending, a_outPoint, a_wVar, a_wSucc, a_wSum, a_mark, a_head, a_preds, a_number, a_rawNext) := by
  unfold wpX_addNode
  dsimp only
  rw [nI_clamp (by omega)]
  exact ⟨vp_in_nI (by omega) (by omega), nm_e ⟨vp_in_nI (by omega) (by omega), nm_e (nm_r (nI_1 S.1) (K _ _ (xW_new T)))⟩⟩
/-! one outcome, as the last or the only one -/
def xo_q (op a b t i : Nat) (S : gr_S) : Prop := True
noncomputable def xo_qs (op a b t i : Nat) (S : gr_S) (k : Nat) : Nat := gr_q op a b t k i S
noncomputable def xo_Ts (op a b : Nat) (S : gr_S) (k : Nat) : gr_S := gr_ef op a b k S.1 S
def xo_L (vs op a b : Nat) (S : gr_S) (k : Nat) : Prop := gr_lost vs (xo_Ts op a b S k)
theorem xo_plain {post : SX → Prop} (hi : i < 32) (hvs : vs ≤ 3) (H : xs_I i op a b t a_opOf a_aOf a_bOf a_tOf) (I : gr_ins vs op a b t) (E : gr_ES vs S) (T : xW vs S a_wVar a_wSucc a_wSum) (h6 : op < 6) (h3 : op ≠ 3) (hok : ¬ gr_bad op a b S)
    (K : ∀ ol wc wl nb sk tn ts tv tu po wv wu wm mk hd pr nu rn, xo_O vs 1 (xo_qs op a b t i S) (xo_Ts op a b S) tn ts tv tu po → xs_Fl a_tabNodes a_tabSum a_tabVar a_tabSucc tn ts tv tu → gr_tv ol (∃ k, k < 1 ∧ xo_L vs op a b S k) →
      post (nI vs, f_cells, f_lengthLimit, f_entryLimit, f_count, f_fixed, f_machine, f_machinePc, f_lostCount, f_coinBits, f_analysis, f_entryCount, nI 1, ol, wc, wl, nb, sk, f_walkCount, f_walkSummary, f_walkRing, a_opOf, a_aOf, a_bOf, a_tOf, a_machineVar, a_cellUsed, a_cellLink, tn, ts, tv, tu, a_entPoint, a_entPending, po, wv, wu, wm, mk, hd, pr, nu, rn)) :
    wpX_plainOutcome post (nI vs, f_cells, f_lengthLimit, f_entryLimit, f_count, f_fixed, f_machine, f_machinePc, f_lostCount, f_coinBits, f_analysis, f_entryCount, nI 0, 0, nI S.1, f_workLost, f_numbered, f_sumMask, f_walkCount, f_walkSummary, f_walkRing, a_opOf, a_aOf, a_bOf, a_tOf, a_machineVar, a_cellUsed, a_cellLink, a_tabNodes, a_tabSum, a_tabVar, a_tabSucc, a_entPoint, a_entPending, a_outPoint, a_wVar, a_wSucc, a_wSum, a_mark, a_head, a_preds, a_number, a_rawNext) (nI i) := by
  have hn := E.1
  have nj : ¬ gr_jp op a b 0 S := fun w => by rcases w with w | w | w | w <;> omega
  have hq : xo_qs op a b t i S 0 = i + 1 := gr_q_f nj
  have fin : ∀ wv wu wm, xW vs (gr_ef op a b 0 S.1 S) wv wu wm → wX_plainOutcome_133 post (nI i) (nI vs) f_cells f_lengthLimit f_entryLimit f_count f_fixed f_machine f_machinePc f_lostCount f_coinBits f_analysis f_entryCount (nI 0) 0 (nI (gr_ef op a b 0 S.1 S).1) f_workLost f_numbered f_sumMask f_walkCount f_walkSummary f_walkRing a_opOf a_aOf a_bOf a_tOf a_machineVar a_cellUsed a_cellLink a_tabNodes a_tabSum a_tabVar a_tabSucc a_entPoint a_entPending a_outPoint wv wu wm a_mark a_head a_preds a_number a_rawNext := by
    intro wv wu wm T2
    unfold wX_plainOutcome_133
    rw [nI_1]
    refine xo_add (c := 0) (S := gr_ef op a b 0 S.1 S) (qs := xo_qs op a b t i S) (Ts := xo_Ts op a b S) (L := xo_L vs op a b S) (by omega) hvs (gr_ef_W I E hok) T2 (fun k hk => by omega) (fun k hk => by omega) hq rfl xs_Fl_0 Iff.rfl (gr_tv_f (fun ⟨k, hk, _⟩ => by omega)) ?_
    intro ol wl nb sk tn ts tv tu po mk hd pr nu rn O F hl
    exact K ol _ wl nb sk tn ts tv tu po wv wu wm mk hd pr nu rn O F hl
  have hef : op ≠ 2 → gr_ef op a b 0 S.1 S = gr_old op a b S := fun h => gr_ef_f (fun c => c.elim h (fun q => by have := q.2; omega))
  obtain ⟨i1, i2, i3, i4, i5, i6, i7⟩ := I
  unfold wpX_plainOutcome
  dsimp only
  rw [nI_clamp (by omega), H.1, H.2.1, H.2.2.1]
  refine ⟨vp_in_nI hi (by omega), nm_e ⟨vp_in_nI hi (by omega), nm_e ⟨vp_in_nI hi (by omega), nm_e (br_f (nI_pos (by omega)) (pk_lt 5 op (fun e => by omega) (fun e5 => pk_eq op 0 (fun e => ?_) (fun n0 => pk_eq op 1 (fun e => ?_) (fun n1 => pk_eq op 2 (fun e => ?_) (fun n2 => pk_eq op 3 (fun e => absurd e h3) (fun n3 => pk_eq op 4 (fun e => ?_) (fun n4 => pk_eq op 5 (fun e => ?_) (fun n5 => by omega)))))))))⟩⟩⟩
  · subst e
    have ha := i2 (by omega)
    rw [gr_ex_n (show a < 40 by omega), nI_clamp (by omega)]
    have := fin (upd a_wVar a (-1)) a_wSucc a_wSum (by rw [hef (by omega)]; exact xW_va (w := 40) T rfl)
    rw [hef (by omega)] at this
    exact ⟨vp_in_nI (by omega) (by omega), nm_e this⟩
  · subst e
    have ha := i2 (by omega)
    have hb := i4 (by omega)
    rw [gr_ex_n (show a < 40 by omega), gr_ex_n (show b < 40 by omega), nI_clamp (by omega), nI_clamp (by omega)]
    have := fin (upd a_wVar a (a_wVar b)) a_wSucc a_wSum (by rw [hef (by omega)]; exact xW_va T (T.1 b hb))
    rw [hef (by omega)] at this
    exact ⟨vp_in_nI (by omega) (by omega), vp_in_nI (by omega) (by omega), nm_e this⟩
  · subst e
    have ha := i2 (by omega)
    have e2 : gr_ef 2 a b 0 S.1 S = (S.1 + 1, gr_up S.2.1 S.1 40, gr_up S.2.2.1 a S.1, gr_up S.2.2.2 S.1 false) := by
      rw [gr_ef_t (Or.inl rfl), gr_fo_n (by omega), gr_w_n (by omega)]
      unfold gr_new
      rw [if_pos rfl]; rfl
    refine xo_node hn T (fun wu wm T2 => ?_)
    dsimp only
    rw [gr_ex_n (show a < 40 by omega), nI_clamp (by omega)]
    have := fin (upd a_wVar a (nI S.1)) wu wm (by rw [e2]; exact xW_va T2 (gr_ex_n (by omega)).symm)
    rw [e2] at this
    exact ⟨vp_in_nI (by omega) (by omega), nm_e this⟩
  · subst e
    have ha := i2 (by omega)
    have hb := i4 (by omega)
    have hl : S.2.2.1 a < S.1 := by
      rcases E.2.2.2 a ha with z | z
      · exact z
      · exact absurd (Or.inr ⟨Or.inl rfl, by omega⟩) hok
    rw [gr_ex_n (show a < 40 by omega), gr_ex_n (show b < 40 by omega), nI_clamp (by omega), nI_clamp (by omega), T.1 a ha, gr_ex_n (show S.2.2.1 a < 40 by omega), nI_clamp (by omega)]
    have := fin a_wVar (upd a_wSucc (S.2.2.1 a) (a_wVar b)) a_wSum (by rw [hef (by omega)]; exact xW_h T (T.1 b hb))
    rw [hef (by omega)] at this
    exact ⟨vp_in_nI (by omega) (by omega), vp_in_nI (by omega) (by omega), vp_in_nI (by omega) (by omega), nm_e this⟩
  · subst e
    have ha := i2 (by omega)
    have hl : S.2.2.1 a < S.1 := by
      rcases E.2.2.2 a ha with z | z
      · exact z
      · exact absurd (Or.inr ⟨Or.inr rfl, by omega⟩) hok
    rw [gr_ex_n (show a < 40 by omega), nI_clamp (by omega), T.1 a ha, gr_ex_n (show S.2.2.1 a < 40 by omega), nI_clamp (by omega)]
    have := fin a_wVar (upd a_wSucc (S.2.2.1 a) (-1)) a_wSum (by rw [hef (by omega)]; exact xW_h (w := 40) T rfl)
    rw [hef (by omega)] at this
    exact ⟨vp_in_nI (by omega) (by omega), vp_in_nI (by omega) (by omega), nm_e this⟩
theorem xo_load {post : SX → Prop} (hi : i < 32) (he : e < 256) (hvs : vs ≤ 3) (H : xs_I i op a b t a_opOf a_aOf a_bOf a_tOf) (I : gr_ins vs op a b t) (E : gr_ES vs S) (TS : xS vs e S a_tabNodes a_tabSum a_tabVar a_tabSucc) (T : xW vs S a_wVar a_wSucc a_wSum) (h3 : op = 3) (hok : ¬ gr_bad op a b S)
    (K : ∀ c ol wc wl nb sk tn ts tv tu po wv wu wm mk hd pr nu rn, (c = 1 ∧ gr_fo op b S = false ∨ c = 2 ∧ gr_fo op b S = true) → xo_O vs c (xo_qs op a b t i S) (xo_Ts op a b S) tn ts tv tu po → xs_Fl a_tabNodes a_tabSum a_tabVar a_tabSucc tn ts tv tu → gr_tv ol (∃ k, k < c ∧ xo_L vs op a b S k) →
      post (nI vs, f_cells, f_lengthLimit, f_entryLimit, f_count, f_fixed, f_machine, f_machinePc, f_lostCount, f_coinBits, f_analysis, f_entryCount, nI c, ol, wc, wl, nb, sk, f_walkCount, f_walkSummary, f_walkRing, a_opOf, a_aOf, a_bOf, a_tOf, a_machineVar, a_cellUsed, a_cellLink, tn, ts, tv, tu, a_entPoint, a_entPending, po, wv, wu, wm, mk, hd, pr, nu, rn)) :
    wpX_loadOutcomes post (nI vs, f_cells, f_lengthLimit, f_entryLimit, f_count, f_fixed, f_machine, f_machinePc, f_lostCount, f_coinBits, f_analysis, f_entryCount, nI 0, 0, nI S.1, f_workLost, f_numbered, f_sumMask, f_walkCount, f_walkSummary, f_walkRing, a_opOf, a_aOf, a_bOf, a_tOf, a_machineVar, a_cellUsed, a_cellLink, a_tabNodes, a_tabSum, a_tabVar, a_tabSucc, a_entPoint, a_entPending, a_outPoint, a_wVar, a_wSucc, a_wSum, a_mark, a_head, a_preds, a_number, a_rawNext) (nI e) (nI i) := by
  subst h3
  have hn := E.1
  have nj : ∀ k, ¬ gr_jp 3 a b k S := fun k w => by rcases w with w | w | w | w <;> omega
  have hq : ∀ k, xo_qs 3 a b t i S k = i + 1 := fun k => gr_q_f (nj k)
  have ha := I.2.1 (by omega)
  have hb := I.2.2.2.1 (by omega)
  have hl : S.2.2.1 b < S.1 := by
    rcases E.2.2.2 b hb with z | z
    · exact z
    · exact absurd (Or.inl ⟨rfl, by omega⟩) hok
  have ef0 : gr_ef 3 a b 0 S.1 S = (S.1, S.2.1, gr_up S.2.2.1 a (S.2.1 (S.2.2.1 b)), if gr_fo 3 b S then gr_up S.2.2.2 (S.2.1 (S.2.2.1 b)) false else S.2.2.2) := by
    rw [gr_ef_f (fun c => c.elim (by omega) (fun q => by have := q.2; omega))]; rfl
  have W0 : gr_W (gr_ef 3 a b 0 S.1 S).1 vs (gr_ef 3 a b 0 S.1 S).2.1 (gr_ef 3 a b 0 S.1 S).2.2.1 := gr_ef_W I E hok
  have hw := E.2.1 (S.2.2.1 b)
  have one : gr_fo 3 b S = false → wX_loadOutcomes_45 post (nI i) (nI a) (gr_ex (S.2.1 (S.2.2.1 b))) (nI vs) f_cells f_lengthLimit f_entryLimit f_count f_fixed f_machine f_machinePc f_lostCount f_coinBits f_analysis f_entryCount (nI 0) 0 (nI S.1) f_workLost f_numbered f_sumMask f_walkCount f_walkSummary f_walkRing a_opOf a_aOf a_bOf a_tOf a_machineVar a_cellUsed a_cellLink a_tabNodes a_tabSum a_tabVar a_tabSucc a_entPoint a_entPending a_outPoint a_wVar a_wSucc a_wSum a_mark a_head a_preds a_number a_rawNext := by
    intro hf
    rw [hf] at ef0
    unfold wX_loadOutcomes_45
    rw [nI_clamp (by omega), nI_1]
    refine ⟨vp_in_nI (by omega) (by omega), nm_e ?_⟩
    have T2 := xW_va (a := a) T (show gr_ex (S.2.1 (S.2.2.1 b)) = gr_ex (S.2.1 (S.2.2.1 b)) from rfl)
    refine xo_add (c := 0) (S := (S.1, S.2.1, gr_up S.2.2.1 a (S.2.1 (S.2.2.1 b)), S.2.2.2)) (qs := xo_qs 3 a b t i S) (Ts := xo_Ts 3 a b S) (L := xo_L vs 3 a b S) (by omega) hvs (ef0 ▸ W0) T2 (fun k hk => by omega) (fun k hk => by omega) (hq 0) ef0 xs_Fl_0 (by unfold xo_L xo_Ts; rw [ef0]; exact Iff.rfl) (gr_tv_f (fun ⟨k, hk, _⟩ => by omega)) ?_
    intro ol wl nb sk tn ts tv tu po mk hd pr nu rn O F hl
    exact K 1 ol _ wl nb sk tn ts tv tu po _ a_wSucc a_wSum mk hd pr nu rn (Or.inl ⟨rfl, hf⟩) O F hl
  have fo_w : gr_fo 3 b S = (decide (S.2.1 (S.2.2.1 b) < 40) && S.2.2.2 (S.2.1 (S.2.2.1 b))) := rfl
  unfold wpX_loadOutcomes
  dsimp only
  rw [nI_clamp (by omega), H.2.1, H.2.2.1, gr_ex_n (show a < 40 by omega), gr_ex_n (show b < 40 by omega), nI_clamp (by omega)]
  refine ⟨vp_in_nI hi (by omega), nm_e ⟨vp_in_nI hi (by omega), vp_in_nI (by omega) (by omega), nm_r ((T.1 b hb).trans (gr_ex_n (by omega))) ⟨vp_in_nI (by omega) (by omega), ?_⟩⟩⟩
  rw [nI_clamp (by omega)]
  refine nm_r (T.2.1 _ hl) ?_
  rcases Nat.lt_or_ge (S.2.1 (S.2.2.1 b)) 40 with z | z
  · refine br_f (fun y => by have := gr_ex_m.mp y; omega) ?_
    cases hs : S.2.2.2 (S.2.1 (S.2.2.1 b))
    · have hf : gr_fo 3 b S = false := by rw [fo_w, hs, Bool.and_false]
      have o1 := one hf
      rw [gr_ex_n z] at o1 ⊢
      rw [nI_clamp (show S.2.1 (S.2.2.1 b) < 2 ^ 31 by omega), T.2.2 _ (show S.2.1 (S.2.2.1 b) < S.1 by omega), hs]
      exact ⟨vp_in_nI z (by omega), br_t rfl o1⟩
    · have hf : gr_fo 3 b S = true := by rw [fo_w, hs, decide_eq_true z]; rfl
      rw [hf] at ef0
      rw [gr_ex_n z, nI_clamp (show S.2.1 (S.2.2.1 b) < 2 ^ 31 by omega), T.2.2 _ (show S.2.1 (S.2.2.1 b) < S.1 by omega), hs, nI_clamp (show a < 2 ^ 31 by omega), nI_1]
      refine ⟨vp_in_nI z (by omega), br_f (by decide) ⟨vp_in_nI z (by omega), nm_e ⟨vp_in_nI (by omega) (by omega), nm_e ?_⟩⟩⟩
      have T2 : xW vs (S.1, S.2.1, gr_up S.2.2.1 a (S.2.1 (S.2.2.1 b)), gr_up S.2.2.2 (S.2.1 (S.2.2.1 b)) false) (upd a_wVar a (nI (S.2.1 (S.2.2.1 b)))) a_wSucc (upd a_wSum (S.2.1 (S.2.2.1 b)) (vp_nar .boolean 0)) := by
        have T1 := xW_va (a := a) T (show nI (S.2.1 (S.2.2.1 b)) = gr_ex (S.2.1 (S.2.2.1 b)) from (gr_ex_n z).symm)
        refine ⟨T1.1, T1.2.1, fun u hu => ?_⟩
        show _ = gr_b (gr_up S.2.2.2 (S.2.1 (S.2.2.1 b)) false u)
        rcases Nat.decEq u (S.2.1 (S.2.2.1 b)) with y | y
        · rw [pk_un y, gr_up_n y]; exact T.2.2 u hu
        · rw [y, pk_us, gr_up_s]; rfl
      have ef1 : gr_ef 3 a b 1 S.1 S = (S.1 + 1, gr_up (gr_up S.2.1 S.1 (S.2.1 (S.2.2.1 b))) (S.2.2.1 b) S.1, gr_up S.2.2.1 a S.1, gr_up S.2.2.2 S.1 false) := by
        rw [gr_ef_t (Or.inr ⟨hf, rfl⟩), hf, gr_w_3]
        unfold gr_new
        rw [if_pos rfl]; rfl
      have NE : gr_ES vs (gr_NF vs (xo_Ts 3 a b S 0)) := gr_NF_ES W0 hvs
      refine xo_add (c := 0) (S := (S.1, S.2.1, gr_up S.2.2.1 a (S.2.1 (S.2.2.1 b)), gr_up S.2.2.2 (S.2.1 (S.2.2.1 b)) false)) (qs := xo_qs 3 a b t i S) (Ts := xo_Ts 3 a b S) (L := xo_L vs 3 a b S) (by omega) hvs (ef0 ▸ W0) T2 (fun k hk => by omega) (fun k hk => by omega) (hq 0) ef0 xs_Fl_0 (by unfold xo_L xo_Ts; rw [ef0]; exact Iff.rfl) (gr_tv_f (fun ⟨k, hk, _⟩ => by omega)) ?_
      intro ol wl nb sk tn ts tv tu po mk hd pr nu rn O F hl2
      dsimp only
      refine xl_slot (s := e) (by omega) hvs hn (xs_Fl_S hvs hn F (by omega) TS) (fun wv3 wu3 wm3 T3 => ?_)
      dsimp only
      refine xo_node hn T3 (fun wu4 wm4 T4 => ?_)
      dsimp only
      rw [nI_clamp (show S.1 < 2 ^ 31 by omega)]
      refine ⟨vp_in_nI (by omega) (by omega), nm_e ⟨vp_in_nI (by omega) (by omega), nm_e ⟨vp_in_nI (by omega) (by omega), nm_e ?_⟩⟩⟩
      have W1 : gr_W (gr_ef 3 a b 1 S.1 S).1 vs (gr_ef 3 a b 1 S.1 S).2.1 (gr_ef 3 a b 1 S.1 S).2.2.1 := gr_ef_W I E hok
      have T5 : xW vs (S.1 + 1, gr_up (gr_up S.2.1 S.1 (S.2.1 (S.2.2.1 b))) (S.2.2.1 b) S.1, gr_up S.2.2.1 a S.1, gr_up S.2.2.2 S.1 false) (upd wv3 a (nI S.1)) (upd (upd wu4 (S.2.2.1 b) (nI S.1)) S.1 (nI (S.2.1 (S.2.2.1 b)))) wm4 := by
        have T6 := xW_va (a := a) T4 (show nI S.1 = gr_ex S.1 from (gr_ex_n (by omega)).symm)
        refine ⟨T6.1, fun u hu => ?_, T6.2.2⟩
        show _ = gr_ex (gr_up (gr_up S.2.1 S.1 (S.2.1 (S.2.2.1 b))) (S.2.2.1 b) S.1 u)
        rcases Nat.decEq u S.1 with y | y
        · rw [pk_un y]
          rcases Nat.decEq u (S.2.2.1 b) with w | w
          · rw [pk_un w, gr_up_n w, gr_up_n y]
            have := T4.2.1 u hu
            rw [show (S.1 + 1, gr_up S.2.1 S.1 40, S.2.2.1, gr_up S.2.2.2 S.1 false).2.1 u = S.2.1 u from gr_up_n y] at this
            exact this
          · rw [w, pk_us, gr_up_s]; exact (gr_ex_n (by omega)).symm
        · rw [y, pk_us, gr_up_n (by omega), gr_up_s]; exact (gr_ex_n z).symm
      refine xo_add (c := 1) (S := (S.1 + 1, gr_up (gr_up S.2.1 S.1 (S.2.1 (S.2.2.1 b))) (S.2.2.1 b) S.1, gr_up S.2.2.1 a S.1, gr_up S.2.2.2 S.1 false)) (qs := xo_qs 3 a b t i S) (Ts := xo_Ts 3 a b S) (L := xo_L vs 3 a b S) (by omega) hvs (ef1 ▸ W1) T5 O (fun k hk => ?_) (hq 1) ef1 F (by unfold xo_L xo_Ts; rw [ef1]) hl2 ?_
      · have : k = 0 := by omega
        subst this; exact NE
      · intro ol2 wl2 nb2 sk2 tn2 ts2 tv2 tu2 po2 mk2 hd2 pr2 nu2 rn2 O2 F2 hl3
        exact K 2 ol2 _ wl2 nb2 sk2 tn2 ts2 tv2 tu2 po2 _ _ wm4 mk2 hd2 pr2 nu2 rn2 (Or.inr ⟨rfl, hf⟩) O2 F2 hl3
  · have hf : gr_fo 3 b S = false := by rw [fo_w, decide_eq_false (by omega), Bool.false_and]
    have o1 := one hf
    rw [gr_ex_g z] at o1 ⊢
    exact br_t rfl o1
end
end
section
/-! X: branchOutcomes, findOutcomes -/
def xo_C (nn i op a b : Nat) (S : gr_S) (c : Nat) : Prop := ((nn ≤ i ∨ gr_bad op a b S) ∧ c = 0) ∨ (i < nn ∧ ¬ gr_bad op a b S ∧ ((gr_ok op a b 1 S ∧ c = 2) ∨ (¬ gr_ok op a b 1 S ∧ c = 1)))
theorem xo_C_ex (nn i op a b : Nat) (S : gr_S) : ∃ c, xo_C nn i op a b S c := by
  rcases Classical.em (nn ≤ i ∨ gr_bad op a b S) with z | z
  · exact ⟨0, Or.inl ⟨z, rfl⟩⟩
  · rcases Classical.em (gr_ok op a b 1 S) with y | y
    · exact ⟨2, Or.inr ⟨by omega, fun w => z (Or.inr w), Or.inl ⟨y, rfl⟩⟩⟩
    · exact ⟨1, Or.inr ⟨by omega, fun w => z (Or.inr w), Or.inr ⟨y, rfl⟩⟩⟩
theorem xo_C_u {nn i op a b : Nat} {S : gr_S} {c c' : Nat} (h : xo_C nn i op a b S c) (h' : xo_C nn i op a b S c') : c = c' := by
  rcases h with ⟨z, e⟩ | ⟨z1, z2, z3⟩ <;> rcases h' with ⟨y, e'⟩ | ⟨y1, y2, y3⟩
  · omega
  · exact absurd z (fun w => w.elim (fun w => by omega) y2)
  · exact absurd y (fun w => w.elim (fun w => by omega) z2)
  · rcases z3 with ⟨z3, e⟩ | ⟨z3, e⟩ <;> rcases y3 with ⟨y3, e'⟩ | ⟨y3, e'⟩
    · omega
    · exact absurd z3 y3
    · exact absurd y3 z3
    · omega
section
variable {n nn vs i op a b t e : Nat} {S : gr_S}
variable {f_vars f_cells f_lengthLimit f_entryLimit f_count f_fixed f_machine f_machinePc f_lostCount f_coinBits f_analysis f_entryCount f_outCount f_outLost f_wCount f_workLost f_numbered f_sumMask f_walkCount f_walkSummary f_walkRing : Int32} {a_opOf a_aOf a_bOf a_tOf a_machineVar a_cellUsed a_cellLink a_tabNodes a_tabSum a_tabVar a_tabSucc a_entPoint a_entPending a_outPoint a_wVar a_wSucc a_wSum a_mark a_head a_preds a_number a_rawNext : Nat → Int32}
theorem xo_branch {post : SX → Prop} (hi : i < 32) (hvs : vs ≤ 3) (H : xs_I i op a b t a_opOf a_aOf a_bOf a_tOf) (I : gr_ins vs op a b t) (E : gr_ES vs S) (T : xW vs S a_wVar a_wSucc a_wSum) (h6 : 6 ≤ op)
    (K : ∀ c ol wc wl nb sk tn ts tv tu po wv wu wm mk hd pr nu rn, (c = 1 ∧ op ≠ 8 ∨ c = 2 ∧ op = 8) → xo_O vs c (xo_qs op a b t i S) (xo_Ts op a b S) tn ts tv tu po → xs_Fl a_tabNodes a_tabSum a_tabVar a_tabSucc tn ts tv tu → gr_tv ol (∃ k, k < c ∧ xo_L vs op a b S k) →
      post (nI vs, f_cells, f_lengthLimit, f_entryLimit, f_count, f_fixed, f_machine, f_machinePc, f_lostCount, f_coinBits, f_analysis, f_entryCount, nI c, ol, wc, wl, nb, sk, f_walkCount, f_walkSummary, f_walkRing, a_opOf, a_aOf, a_bOf, a_tOf, a_machineVar, a_cellUsed, a_cellLink, tn, ts, tv, tu, a_entPoint, a_entPending, po, wv, wu, wm, mk, hd, pr, nu, rn)) :
    wpX_branchOutcomes post (nI vs, f_cells, f_lengthLimit, f_entryLimit, f_count, f_fixed, f_machine, f_machinePc, f_lostCount, f_coinBits, f_analysis, f_entryCount, nI 0, 0, nI S.1, f_workLost, f_numbered, f_sumMask, f_walkCount, f_walkSummary, f_walkRing, a_opOf, a_aOf, a_bOf, a_tOf, a_machineVar, a_cellUsed, a_cellLink, a_tabNodes, a_tabSum, a_tabVar, a_tabSucc, a_entPoint, a_entPending, a_outPoint, a_wVar, a_wSucc, a_wSum, a_mark, a_head, a_preds, a_number, a_rawNext) (nI i) := by
  obtain ⟨i1, i2, i3, i4, i5, i6, i7⟩ := I
  have ht : t < 40 := by have := i6 h6; omega
  have hok : ¬ gr_bad op a b S := fun w => by rcases w with w | w <;> omega
  have W := gr_E_W E
  have eS : ∀ k, xo_Ts op a b S k = S := fun k => by
    unfold xo_Ts
    rw [gr_ef_f (fun c => c.elim (by omega) (fun q => by rw [gr_fo_n (by omega)] at q; exact absurd q.1 (by decide)))]
    unfold gr_old
    rw [if_neg (by omega), if_neg (by omega), if_neg (by omega), if_neg (by omega), if_neg (by omega)]
  have eL : ∀ k, xo_L vs op a b S k ↔ gr_lost vs S := fun k => by unfold xo_L; rw [eS]
  have one : op ≠ 8 → ∀ q, xo_qs op a b t i S 0 = q → wpX_addOutcome post (nI vs, f_cells, f_lengthLimit, f_entryLimit, f_count, f_fixed, f_machine, f_machinePc, f_lostCount, f_coinBits, f_analysis, f_entryCount, nI 0, 0, nI S.1, f_workLost, f_numbered, f_sumMask, f_walkCount, f_walkSummary, f_walkRing, a_opOf, a_aOf, a_bOf, a_tOf, a_machineVar, a_cellUsed, a_cellLink, a_tabNodes, a_tabSum, a_tabVar, a_tabSucc, a_entPoint, a_entPending, a_outPoint, a_wVar, a_wSucc, a_wSum, a_mark, a_head, a_preds, a_number, a_rawNext) (nI q) := fun h8 q hq =>
    xo_add (c := 0) (qs := xo_qs op a b t i S) (Ts := xo_Ts op a b S) (L := xo_L vs op a b S) (by omega) hvs W T (fun k hk => by omega) (fun k hk => by omega) hq (eS 0) xs_Fl_0 (eL 0) (gr_tv_f (fun ⟨k, hk, _⟩ => by omega))
      (fun ol wl nb sk tn ts tv tu po mk hd pr nu rn O F hl => K 1 ol _ wl nb sk tn ts tv tu po a_wVar a_wSucc a_wSum mk hd pr nu rn (Or.inl ⟨rfl, h8⟩) O F hl)
  unfold wpX_branchOutcomes
  dsimp only
  rw [nI_clamp (by omega), H.1, H.2.1, H.2.2.1, H.2.2.2, gr_ex_n ht, nI_1]
  refine ⟨vp_in_nI hi (by omega), nm_e (nm_e ⟨vp_in_nI hi (by omega), nm_e (pk_lt op 6 (fun e => by omega) (fun e6 => pk_lt 8 op (fun e => ?_) (fun e8 => pk_eq op 6 (fun e => ?_) (fun n6 => pk_eq op 7 (fun e => ?_) (fun n7 => pk_eq op 8 (fun e => ?_) (fun n8 => by omega))))))⟩)⟩
  · exact one (by omega) t (gr_q_t (Or.inr (Or.inr (Or.inr (by omega)))))
  · have ha := i2 (by omega)
    have hj : gr_jp op a b 0 S ↔ 40 ≤ S.2.2.1 a := ⟨fun w => by rcases w with w | w | w | w <;> first | exact w.2 | omega, fun w => Or.inl ⟨e, w⟩⟩
    rw [gr_ex_n (show a < 40 by omega), nI_clamp (show a < 2 ^ 31 by omega), T.1 a ha]
    exact ⟨vp_in_nI hi (by omega), vp_in_nI (by omega) (by omega), br_c (fun z => one (by omega) t (gr_q_t (hj.mpr (gr_ex_m.mp z)))) (fun z => one (by omega) (i + 1) (gr_q_f (fun w => z (gr_ex_m.mpr (hj.mp w)))))⟩
  · have ha := i2 (by omega)
    have hb := i4 (by omega)
    have hj : gr_jp op a b 0 S ↔ S.2.2.1 a = S.2.2.1 b := ⟨fun w => by rcases w with w | w | w | w <;> first | exact w.2 | omega, fun w => Or.inr (Or.inl ⟨e, w⟩)⟩
    have h40 := (gr_E40 E).2.1
    rw [gr_ex_n (show a < 40 by omega), gr_ex_n (show b < 40 by omega), nI_clamp (show a < 2 ^ 31 by omega), nI_clamp (show b < 2 ^ 31 by omega), T.1 a ha, T.1 b hb]
    exact ⟨vp_in_nI hi (by omega), vp_in_nI (by omega) (by omega), vp_in_nI hi (by omega), vp_in_nI (by omega) (by omega), br_c (fun z => one (by omega) t (gr_q_t (hj.mpr (gr_ex_i _ _ (h40 a ha) (h40 b hb) z)))) (fun z => one (by omega) (i + 1) (gr_q_f (fun w => z (by rw [hj.mp w]))))⟩
  · have q0 : xo_qs op a b t i S 0 = i + 1 := gr_q_f (fun w => by rcases w with w | w | w | w <;> omega)
    have q1 : xo_qs op a b t i S 1 = t := gr_q_t (Or.inr (Or.inr (Or.inl ⟨e, rfl⟩)))
    refine xo_add (c := 0) (qs := xo_qs op a b t i S) (Ts := xo_Ts op a b S) (L := xo_L vs op a b S) (by omega) hvs W T (fun k hk => by omega) (fun k hk => by omega) q0 (eS 0) xs_Fl_0 (eL 0) (gr_tv_f (fun ⟨k, hk, _⟩ => by omega)) ?_
    intro ol wl nb sk tn ts tv tu po mk hd pr nu rn O F hl
    dsimp only
    refine xo_add (c := 1) (qs := xo_qs op a b t i S) (Ts := xo_Ts op a b S) (L := xo_L vs op a b S) (by omega) hvs W T O (fun k hk => by rw [eS]; exact gr_NF_ES W hvs) q1 (eS 1) F (eL 1) hl ?_
    intro ol2 wl2 nb2 sk2 tn2 ts2 tv2 tu2 po2 mk2 hd2 pr2 nu2 rn2 O2 F2 hl3
    exact K 2 ol2 _ wl2 nb2 sk2 tn2 ts2 tv2 tu2 po2 a_wVar a_wSucc a_wSum mk2 hd2 pr2 nu2 rn2 (Or.inr ⟨rfl, e⟩) O2 F2 hl3
theorem xo_null47 {post : Int32 → Prop} (hi : i < 32) (he : e < 256) (hvs : vs ≤ 3) (H : xs_I i op a b t a_opOf a_aOf a_bOf a_tOf) (ha : a < vs) (TS : xS vs e S a_tabNodes a_tabSum a_tabVar a_tabSucc) (K : ∀ r, gr_tv r (40 ≤ S.2.2.1 a) → post r) : wX_entryDerefsNull_47 post (nI e) (nI i) f_vars f_cells f_lengthLimit f_entryLimit f_count f_fixed f_machine f_machinePc f_lostCount f_coinBits f_analysis f_entryCount f_outCount f_outLost f_wCount f_workLost f_numbered f_sumMask f_walkCount f_walkSummary f_walkRing a_opOf a_aOf a_bOf a_tOf a_machineVar a_cellUsed a_cellLink a_tabNodes a_tabSum a_tabVar a_tabSucc a_entPoint a_entPending a_outPoint a_wVar a_wSucc a_wSum a_mark a_head a_preds a_number a_rawNext := by
  unfold wX_entryDerefsNull_47
  rw [nI_clamp (by omega), H.2.1, gr_ex_n (by omega), ix_3, nI_clamp (by omega), TS.2.1 a ha]
  exact ⟨vp_in_nI hi (by omega), vp_in_nI (by omega) (by omega), br_c (fun z => K 1 (gr_tv_t (gr_ex_m.mp z))) (fun z => K 0 (gr_tv_f (fun w => z (gr_ex_m.mpr w))))⟩
theorem xo_null {post : Int32 → Prop} (hi : i < 32) (he : e < 256) (hvs : vs ≤ 3) (H : xs_I i op a b t a_opOf a_aOf a_bOf a_tOf) (I : gr_ins vs op a b t) (TS : xS vs e S a_tabNodes a_tabSum a_tabVar a_tabSucc) (K : ∀ r, gr_tv r (gr_bad op a b S) → post r) : wpX_entryDerefsNull post (f_vars, f_cells, f_lengthLimit, f_entryLimit, f_count, f_fixed, f_machine, f_machinePc, f_lostCount, f_coinBits, f_analysis, f_entryCount, f_outCount, f_outLost, f_wCount, f_workLost, f_numbered, f_sumMask, f_walkCount, f_walkSummary, f_walkRing, a_opOf, a_aOf, a_bOf, a_tOf, a_machineVar, a_cellUsed, a_cellLink, a_tabNodes, a_tabSum, a_tabVar, a_tabSucc, a_entPoint, a_entPending, a_outPoint, a_wVar, a_wSucc, a_wSum, a_mark, a_head, a_preds, a_number, a_rawNext) (nI e) (nI i) := by
  obtain ⟨i1, i2, i3, i4, i5, i6, i7⟩ := I
  unfold wpX_entryDerefsNull
  dsimp only
  rw [nI_clamp (by omega), H.1]
  refine ⟨vp_in_nI hi (by omega), nm_e (pk_eq op 3 (fun e => ?_) (fun e3 => pk_eq op 4 (fun e => ?_) (fun e4 => pk_eq op 5 (fun e => ?_) (fun e5 => K 0 (gr_tv_f (fun w => ?_))))))⟩
  · have hb := i4 (by omega)
    rw [H.2.2.1, gr_ex_n (by omega), ix_3, nI_clamp (by omega), TS.2.1 b hb]
    refine ⟨vp_in_nI hi (by omega), vp_in_nI (by omega) (by omega), br_c (fun z => K 1 (gr_tv_t (Or.inl ⟨e, gr_ex_m.mp z⟩))) (fun z => K 0 (gr_tv_f (fun w => z (gr_ex_m.mpr ?_))))⟩
    rcases w with w | w
    · exact w.2
    · omega
  · refine xo_null47 hi he hvs H (i2 (by omega)) TS (fun r hr => K r (gr_tv_iff ⟨fun w => Or.inr ⟨Or.inl e, w⟩, fun w => ?_⟩ hr))
    rcases w with w | w
    · omega
    · exact w.2
  · refine xo_null47 hi he hvs H (i2 (by omega)) TS (fun r hr => K r (gr_tv_iff ⟨fun w => Or.inr ⟨Or.inr e, w⟩, fun w => ?_⟩ hr))
    rcases w with w | w
    · omega
    · exact w.2
  · rcases w with w | w
    · exact e3 w.1
    · exact w.1.elim e4 e5
theorem xo_find {post : SX → Prop} (he : e < 256) (hi : i ≤ 40) (hnn : nn ≤ 32) (hvs : vs ≤ 3) (hp : a_entPoint e = nI i) (HI : i < nn → xs_I i op a b t a_opOf a_aOf a_bOf a_tOf ∧ gr_ins vs op a b t) (E : gr_ES vs S) (TS : xS vs e S a_tabNodes a_tabSum a_tabVar a_tabSucc)
    (K : ∀ c ol wc wl nb sk tn ts tv tu po wv wu wm mk hd pr nu rn, xo_C nn i op a b S c → xo_O vs c (xo_qs op a b t i S) (xo_Ts op a b S) tn ts tv tu po → xs_Fl a_tabNodes a_tabSum a_tabVar a_tabSucc tn ts tv tu → gr_tv ol (∃ k, k < c ∧ xo_L vs op a b S k) →
      post (nI vs, f_cells, f_lengthLimit, f_entryLimit, nI nn, f_fixed, f_machine, f_machinePc, f_lostCount, f_coinBits, f_analysis, f_entryCount, nI c, ol, wc, wl, nb, sk, f_walkCount, f_walkSummary, f_walkRing, a_opOf, a_aOf, a_bOf, a_tOf, a_machineVar, a_cellUsed, a_cellLink, tn, ts, tv, tu, a_entPoint, a_entPending, po, wv, wu, wm, mk, hd, pr, nu, rn)) :
    wpX_findOutcomes post (nI vs, f_cells, f_lengthLimit, f_entryLimit, nI nn, f_fixed, f_machine, f_machinePc, f_lostCount, f_coinBits, f_analysis, f_entryCount, f_outCount, f_outLost, f_wCount, f_workLost, f_numbered, f_sumMask, f_walkCount, f_walkSummary, f_walkRing, a_opOf, a_aOf, a_bOf, a_tOf, a_machineVar, a_cellUsed, a_cellLink, a_tabNodes, a_tabSum, a_tabVar, a_tabSucc, a_entPoint, a_entPending, a_outPoint, a_wVar, a_wSucc, a_wSum, a_mark, a_head, a_preds, a_number, a_rawNext) (nI e) := by
  have K0 : xo_C nn i op a b S 0 → post (nI vs, f_cells, f_lengthLimit, f_entryLimit, nI nn, f_fixed, f_machine, f_machinePc, f_lostCount, f_coinBits, f_analysis, f_entryCount, 0, 0, f_wCount, f_workLost, f_numbered, f_sumMask, f_walkCount, f_walkSummary, f_walkRing, a_opOf, a_aOf, a_bOf, a_tOf, a_machineVar, a_cellUsed, a_cellLink, a_tabNodes, a_tabSum, a_tabVar, a_tabSucc, a_entPoint, a_entPending, a_outPoint, a_wVar, a_wSucc, a_wSum, a_mark, a_head, a_preds, a_number, a_rawNext) := fun hc => K 0 0 f_wCount f_workLost f_numbered f_sumMask a_tabNodes a_tabSum a_tabVar a_tabSucc a_outPoint a_wVar a_wSucc a_wSum a_mark a_head a_preds a_number a_rawNext hc (fun k hk => by omega) xs_Fl_0 (gr_tv_f (fun ⟨k, hk, _⟩ => by omega))
  unfold wpX_findOutcomes
  dsimp only
  rw [nI_clamp (by omega)]
  refine ⟨vp_in_nI he (by omega), nm_r hp (pk_lt i nn (fun z => ?_) (fun z => K0 (Or.inl ⟨Or.inl z, rfl⟩)))⟩
  obtain ⟨H, I⟩ := HI z
  refine xo_null (by omega) he hvs H I TS (fun r hr => ?_)
  rcases hr with ⟨rfl, w⟩ | ⟨rfl, w⟩
  · refine br_t rfl (xl_slot (s := e) (by omega) hvs E.1 TS (fun wv wu wm T => ?_))
    dsimp only
    rw [nI_clamp (show i < 2 ^ 31 by omega), H.1]
    have hop := I.1
    refine ⟨vp_in_nI (by omega) (by omega), pk_eq op 3 (fun e3 => ?_) (fun e3 => ⟨vp_in_nI (by omega) (by omega), pk_lt op 6 (fun e6 => ?_) (fun e6 => ?_)⟩)⟩
    · refine xo_load (by omega) he hvs H I E TS T e3 w (fun c ol wc wl nb sk tn ts tv tu po wv wu wm mk hd pr nu rn hc O F hl => ?_)
      refine K c ol wc wl nb sk tn ts tv tu po wv wu wm mk hd pr nu rn (Or.inr ⟨z, w, ?_⟩) O F hl
      rcases hc with ⟨hc, hf⟩ | ⟨hc, hf⟩
      · refine Or.inr ⟨fun y => ?_, hc⟩
        rcases y.2 rfl with y | y
        · omega
        · rw [hf] at y; exact absurd y (by decide)
      · exact Or.inl ⟨⟨w, fun _ => Or.inr hf⟩, hc⟩
    · refine xo_plain (by omega) hvs H I E T e6 e3 w (fun ol wc wl nb sk tn ts tv tu po wv wu wm mk hd pr nu rn O F hl => ?_)
      refine K 1 ol wc wl nb sk tn ts tv tu po wv wu wm mk hd pr nu rn (Or.inr ⟨z, w, Or.inr ⟨fun y => ?_, rfl⟩⟩) O F hl
      rcases y.2 rfl with y | y
      · omega
      · rw [gr_fo_n e3] at y; exact absurd y (by decide)
    · refine xo_branch (by omega) hvs H I E T e6 (fun c ol wc wl nb sk tn ts tv tu po wv wu wm mk hd pr nu rn hc O F hl => ?_)
      refine K c ol wc wl nb sk tn ts tv tu po wv wu wm mk hd pr nu rn (Or.inr ⟨z, w, ?_⟩) O F hl
      rcases hc with ⟨hc, hf⟩ | ⟨hc, hf⟩
      · refine Or.inr ⟨fun y => ?_, hc⟩
        rcases y.2 rfl with y | y
        · exact hf y
        · rw [gr_fo_n e3] at y; exact absurd y (by decide)
      · exact Or.inl ⟨⟨w, fun _ => Or.inl hf⟩, hc⟩
  · exact br_f (by decide) (K0 (Or.inl ⟨Or.inr w, rfl⟩))
end
end
section
/-! the abstract analysis: an, ec, E, pp, pd -/
abbrev gr_A : Type := Int32 × Nat × (Nat → gr_S) × (Nat → Nat) × (Nat → Bool)
def xE (vs : Nat) (A : gr_A) (tn ts tv tu ep eq : Nat → Int32) : Prop := ∀ e, e < A.2.1 → xS vs e (A.2.2.1 e) tn ts tv tu ∧ ep e = nI (A.2.2.2.1 e) ∧ eq e = gr_b (A.2.2.2.2 e)
def gE (vs el : Nat) (A : gr_A) : Prop := el ≤ 256 ∧ A.2.1 ≤ el ∧ ∀ e, e < A.2.1 → gr_ES vs (A.2.2.1 e) ∧ A.2.2.2.1 e ≤ 40
def gr_hit (vs q : Nat) (T : gr_S) (A : gr_A) (f : Nat) : Prop := f < A.2.1 ∧ A.2.2.2.1 f = q ∧ gr_SK vs (A.2.2.1 f) T
def gr_mg (S T : gr_S) : gr_S := (S.1, S.2.1, S.2.2.1, fun u => S.2.2.2 u || T.2.2.2 u)
def gr_ch (S T : gr_S) : Prop := ∃ u, u < S.1 ∧ T.2.2.2 u = true ∧ S.2.2.2 u = false
noncomputable def gr_chb (S T : gr_S) : Bool := @decide (gr_ch S T) (Classical.propDecidable _)
theorem gr_chb_t {S T : gr_S} (h : gr_ch S T) : gr_chb S T = true := @decide_eq_true _ (Classical.propDecidable _) h
theorem gr_chb_f {S T : gr_S} (h : ¬ gr_ch S T) : gr_chb S T = false := @decide_eq_false _ (Classical.propDecidable _) h
noncomputable def gr_Ah (A : gr_A) (f : Nat) (T : gr_S) : gr_A := (A.1, A.2.1, gr_up A.2.2.1 f (gr_mg (A.2.2.1 f) T), A.2.2.2.1, gr_up A.2.2.2.2 f (A.2.2.2.2 f || gr_chb (A.2.2.1 f) T))
def gr_Ao (A : gr_A) : gr_A := (3, A.2.1, A.2.2.1, A.2.2.2.1, A.2.2.2.2)
def gr_An (A : gr_A) (q : Nat) (T : gr_S) : gr_A := (A.1, A.2.1 + 1, gr_up A.2.2.1 A.2.1 T, gr_up A.2.2.2.1 A.2.1 q, gr_up A.2.2.2.2 A.2.1 true)
def gr_INS (vs el q : Nat) (T : gr_S) (A A' : gr_A) : Prop :=
  (∃ f, gr_hit vs q T A f ∧ (∀ g, g < f → ¬ gr_hit vs q T A g) ∧ A' = gr_Ah A f T) ∨ ((∀ f, ¬ gr_hit vs q T A f) ∧ A.2.1 = el ∧ A' = gr_Ao A) ∨ ((∀ f, ¬ gr_hit vs q T A f) ∧ A.2.1 < el ∧ A' = gr_An A q T)
theorem gr_INS_ex {vs el q : Nat} {T : gr_S} {A : gr_A} (h : A.2.1 ≤ el) : ∃ A', gr_INS vs el q T A A' := by
  rcases Classical.em (∃ f, gr_hit vs q T A f) with z | z
  · obtain ⟨f, h1, h2⟩ := pk_least (fun f => gr_hit vs q T A f) z
    exact ⟨_, Or.inl ⟨f, h1, h2, rfl⟩⟩
  · have z' : ∀ f, ¬ gr_hit vs q T A f := fun f w => z ⟨f, w⟩
    rcases Nat.decEq A.2.1 el with y | y
    · exact ⟨_, Or.inr (Or.inr ⟨z', by omega, rfl⟩)⟩
    · exact ⟨_, Or.inr (Or.inl ⟨z', y, rfl⟩)⟩
theorem gr_INS_gE {vs el q : Nat} {T : gr_S} {A A' : gr_A} (g : gE vs el A) (hT : gr_ES vs T) (hq : q ≤ 40) (h : gr_INS vs el q T A A') : gE vs el A' := by
  obtain ⟨g1, g2, g3⟩ := g
  rcases h with ⟨f, h1, h2, rfl⟩ | ⟨h1, h2, rfl⟩ | ⟨h1, h2, rfl⟩
  · refine ⟨g1, g2, fun e he => ?_⟩
    have he' : e < A.2.1 := he
    refine ⟨?_, (g3 e he').2⟩
    show gr_ES vs (gr_up A.2.2.1 f (gr_mg (A.2.2.1 f) T) e)
    rcases Nat.decEq e f with z | z
    · rw [gr_up_n z]; exact (g3 e he').1
    · rw [z, gr_up_s]; exact (g3 f h1.1).1
  · exact ⟨g1, g2, g3⟩
  · refine ⟨g1, by show A.2.1 + 1 ≤ el; omega, fun e he => ?_⟩
    have he' : e < A.2.1 + 1 := he
    show gr_ES vs (gr_up A.2.2.1 A.2.1 T e) ∧ gr_up A.2.2.2.1 A.2.1 q e ≤ 40
    rcases Nat.decEq e A.2.1 with z | z
    · rw [gr_up_n z, gr_up_n z]; exact g3 e (by omega)
    · rw [z, gr_up_s, gr_up_s]; exact ⟨hT, hq⟩
/-- an insertion at another point leaves an entry as it is -/
theorem gr_INS_keep {vs el q : Nat} {T : gr_S} {A A' : gr_A} (h : gr_INS vs el q T A A') {e : Nat} (he : e < A.2.1) : e < A'.2.1 ∧ A'.2.2.2.1 e = A.2.2.2.1 e ∧ (A.2.2.2.1 e ≠ q → A'.2.2.1 e = A.2.2.1 e) ∧ (A'.2.2.1 e).1 = (A.2.2.1 e).1 ∧ (A'.2.2.1 e).2.1 = (A.2.2.1 e).2.1 ∧ (A'.2.2.1 e).2.2.1 = (A.2.2.1 e).2.2.1 := by
  rcases h with ⟨f, h1, h2, rfl⟩ | ⟨h1, h2, rfl⟩ | ⟨h1, h2, rfl⟩
  · refine ⟨he, rfl, fun hne => ?_, ?_⟩
    · show gr_up A.2.2.1 f (gr_mg (A.2.2.1 f) T) e = _
      rw [gr_up_n (fun z => hne (by rw [z]; exact h1.2.1))]
    · show (gr_up A.2.2.1 f (gr_mg (A.2.2.1 f) T) e).1 = _ ∧ (gr_up A.2.2.1 f (gr_mg (A.2.2.1 f) T) e).2.1 = _ ∧ (gr_up A.2.2.1 f (gr_mg (A.2.2.1 f) T) e).2.2.1 = _
      rcases Nat.decEq e f with z | z
      · rw [gr_up_n z]; exact ⟨rfl, rfl, rfl⟩
      · rw [z, gr_up_s]; exact ⟨rfl, rfl, rfl⟩
  · exact ⟨he, rfl, fun _ => rfl, rfl, rfl, rfl⟩
  · have z : e ≠ A.2.1 := by omega
    refine ⟨by show e < A.2.1 + 1; omega, ?_, fun _ => ?_, ?_⟩
    · show gr_up A.2.2.2.1 A.2.1 q e = _
      rw [gr_up_n z]
    · show gr_up A.2.2.1 A.2.1 T e = _
      rw [gr_up_n z]
    · show (gr_up A.2.2.1 A.2.1 T e).1 = _ ∧ (gr_up A.2.2.1 A.2.1 T e).2.1 = _ ∧ (gr_up A.2.2.1 A.2.1 T e).2.2.1 = _
      rw [gr_up_n z]; exact ⟨rfl, rfl, rfl⟩
def xs_Fh (tn ts tv tu tn' ts' tv' tu' : Nat → Int32) : Prop :=
  ∀ s', 257 ≤ s' → tn' s' = tn s' ∧ ts' s' = ts s' ∧ (∀ x, x < 3 → tv' (s' * 3 + x) = tv (s' * 3 + x)) ∧ ∀ u, u < 12 → tu' (s' * 12 + u) = tu (s' * 12 + u)
theorem xs_Fh_S {vs s' : Nat} {S : gr_S} {tn ts tv tu tn' ts' tv' tu' : Nat → Int32} (hvs : vs ≤ 3) (hn : S.1 ≤ 12) (F : xs_Fh tn ts tv tu tn' ts' tv' tu') (h : 257 ≤ s') (T : xS vs s' S tn ts tv tu) : xS vs s' S tn' ts' tv' tu' := by
  obtain ⟨f1, f2, f3, f4⟩ := F s' h
  refine ⟨f1.trans T.1, fun x hx => (f3 x (by omega)).trans (T.2.1 x hx), fun u hu => (f4 u (by omega)).trans (T.2.2.1 u hu), fun i hi => ?_⟩
  rw [f2]; exact T.2.2.2 i hi
theorem xs_Fh_0 {tn ts tv tu : Nat → Int32} : xs_Fh tn ts tv tu tn ts tv tu := fun _ _ => ⟨rfl, rfl, fun _ _ => rfl, fun _ _ => rfl⟩
/-- or of two masks -/
theorem ix_or {p q : Int32} {S T : gr_S} (h1 : ∀ i, i < 32 → bt p i = (decide (i < S.1) && S.2.2.2 i)) (h2 : ∀ i, i < 32 → bt q i = (decide (i < S.1) && T.2.2.2 i)) (hn : S.1 ≤ 12) : (∀ i, i < 32 → bt (p ||| q) i = (decide (i < S.1) && (S.2.2.2 i || T.2.2.2 i))) ∧ (p ||| q = p ↔ ¬ gr_ch S T) := by
  have e1 : ∀ i, i < 32 → bt (p ||| q) i = (decide (i < S.1) && (S.2.2.2 i || T.2.2.2 i)) := fun i hi => by
    rw [b_or, h1 i hi, h2 i hi]
    cases decide (i < S.1) <;> rfl
  refine ⟨e1, fun e ⟨u, hu, c1, c2⟩ => ?_, fun hc => b_ext (fun i hi => ?_)⟩
  · have := e1 u (by omega)
    rw [e, h1 u (by omega), decide_eq_true hu, c1, c2] at this
    exact absurd this (by decide)
  · rw [e1 i hi, h1 i hi]
    rcases Nat.lt_or_ge i S.1 with z | z
    · rw [decide_eq_true z, Bool.true_and, Bool.true_and]
      cases hs : S.2.2.2 i
      · cases ht : T.2.2.2 i
        · rfl
        · exact absurd ⟨i, z, ht, hs⟩ hc
      · rfl
    · rw [decide_eq_false (by omega), Bool.false_and, Bool.false_and]
section
variable {vs el q sl : Nat} {T : gr_S} {A A' : gr_A}
variable {f_vars f_cells f_lengthLimit f_entryLimit f_count f_fixed f_machine f_machinePc f_lostCount f_coinBits f_analysis f_entryCount f_outCount f_outLost f_wCount f_workLost f_numbered f_sumMask f_walkCount f_walkSummary f_walkRing : Int32} {a_opOf a_aOf a_bOf a_tOf a_machineVar a_cellUsed a_cellLink a_tabNodes a_tabSum a_tabVar a_tabSucc a_entPoint a_entPending a_outPoint a_wVar a_wSucc a_wSum a_mark a_head a_preds a_number a_rawNext : Nat → Int32}
theorem xz_2 {post : SX → Prop} (hvs : vs ≤ 3) (hsl : 257 ≤ sl ∧ sl < 259) (hq : q ≤ 40) (g : gE vs el A) (hT : gr_ES vs T) (X : xE vs A a_tabNodes a_tabSum a_tabVar a_tabSucc a_entPoint a_entPending) (TS : xS vs sl T a_tabNodes a_tabSum a_tabVar a_tabSucc) (N : gr_INS vs el q T A A')
    (K : ∀ tn ts tv tu ep eq, xE vs A' tn ts tv tu ep eq → xs_Fh a_tabNodes a_tabSum a_tabVar a_tabSucc tn ts tv tu → post (nI vs, f_cells, f_lengthLimit, nI el, f_count, f_fixed, f_machine, f_machinePc, f_lostCount, f_coinBits, A'.1, nI A'.2.1, f_outCount, f_outLost, f_wCount, f_workLost, f_numbered, f_sumMask, f_walkCount, f_walkSummary, f_walkRing, a_opOf, a_aOf, a_bOf, a_tOf, a_machineVar, a_cellUsed, a_cellLink, tn, ts, tv, tu, ep, eq, a_outPoint, a_wVar, a_wSucc, a_wSum, a_mark, a_head, a_preds, a_number, a_rawNext)) :
    ∀ d f, f + d = A.2.1 → (∀ g, g < f → ¬ gr_hit vs q T A g) → wX_insert_2 post (nI q) (nI sl) (nI vs) f_cells f_lengthLimit (nI el) f_count f_fixed f_machine f_machinePc f_lostCount f_coinBits A.1 (nI A.2.1) f_outCount f_outLost f_wCount f_workLost f_numbered f_sumMask f_walkCount f_walkSummary f_walkRing a_opOf a_aOf a_bOf a_tOf a_machineVar a_cellUsed a_cellLink a_tabNodes a_tabSum a_tabVar a_tabSucc a_entPoint a_entPending a_outPoint a_wVar a_wSucc a_wSum a_mark a_head a_preds a_number a_rawNext (d + 1) (nI f) := by
  obtain ⟨g1, g2, g3⟩ := g
  intro d
  induction d with
  | zero =>
    intro f hf hno
    have e : f = A.2.1 := by omega
    have no : ∀ f, ¬ gr_hit vs q T A f := fun f' w => hno f' (by have := w.1; omega) w
    refine br_t (nI_le (by omega) (by omega)) ?_
    rcases N with ⟨f', w, _, _⟩ | ⟨_, w2, rfl⟩ | ⟨_, w2, rfl⟩
    · exact absurd w (no f')
    · exact br_f (nI_nlt (by omega) (by omega)) (K a_tabNodes a_tabSum a_tabVar a_tabSucc a_entPoint a_entPending X xs_Fh_0)
    · refine br_t (nI_lt (by omega) (by omega)) ?_
      refine xy_ok (p := sl) (q := A.2.1) (by omega) (by omega) (by omega) hvs hT TS (fun tn ts tv tu S2 F => ?_)
      dsimp only
      rw [nI_clamp (show A.2.1 < 2 ^ 31 by omega)]
      refine ⟨vp_in_nI (by omega) (by omega), nm_e ⟨vp_in_nI (by omega) (by omega), nm_e (nm_r (nI_1 A.2.1) (K tn ts tv tu _ _ (fun e he => ?_) (fun s' hs' => F s' (by omega))))⟩⟩
      have he' : e < A.2.1 + 1 := he
      show xS vs e (gr_up A.2.2.1 A.2.1 T e) tn ts tv tu ∧ upd a_entPoint A.2.1 (nI q) e = nI (gr_up A.2.2.2.1 A.2.1 q e) ∧ upd a_entPending A.2.1 (vp_nar .boolean 1) e = gr_b (gr_up A.2.2.2.2 A.2.1 true e)
      rcases Nat.decEq e A.2.1 with z | z
      · rw [gr_up_n z, gr_up_n z, gr_up_n z, pk_un z, pk_un z]
        have x := X e (by omega)
        exact ⟨xs_SF hvs (g3 e (by omega)).1.1 F z x.1, x.2.1, x.2.2⟩
      · rw [z, gr_up_s, gr_up_s, gr_up_s, pk_us, pk_us]
        exact ⟨S2, rfl, rfl⟩
  | succ d ih =>
    intro f hf hno
    have x := X f (by omega)
    have gf := g3 f (by omega)
    have next : ¬ gr_hit vs q T A f → wX_insert_2 post (nI q) (nI sl) (nI vs) f_cells f_lengthLimit (nI el) f_count f_fixed f_machine f_machinePc f_lostCount f_coinBits A.1 (nI A.2.1) f_outCount f_outLost f_wCount f_workLost f_numbered f_sumMask f_walkCount f_walkSummary f_walkRing a_opOf a_aOf a_bOf a_tOf a_machineVar a_cellUsed a_cellLink a_tabNodes a_tabSum a_tabVar a_tabSucc a_entPoint a_entPending a_outPoint a_wVar a_wSucc a_wSum a_mark a_head a_preds a_number a_rawNext (d + 1) (nI (f + 1)) := fun w => ih (f + 1) (by omega) (fun g hg => by
      rcases Nat.decEq g f with z | z
      · exact hno g (by omega)
      · rw [z]; exact w)
    refine br_f (nI_ge (by omega) (by omega)) ⟨vp_in_nI (by omega) (by omega), ?_⟩
    rw [nI_clamp (show f < 2 ^ 31 by omega), x.2.1]
    refine pk_eq (A.2.2.2.1 f) q (fun e => ?_) (fun e => nm_r (nI_1 f) (next (fun w => e w.2.1))) rfl rfl (by omega) (by omega)
    refine xk_ok (p := f) (q := sl) (by omega) (by omega) hvs gf.1 hT x.1 TS (fun r hr => ?_)
    rcases hr with ⟨rfl, w⟩ | ⟨rfl, w⟩
    · exact br_t rfl (nm_r (nI_1 f) (next (fun y => w y.2.2)))
    · refine br_f (by decide) ?_
      rw [nI_clamp (show sl < 2 ^ 31 by omega)]
      refine ⟨vp_in_nI (by omega) (by omega), vp_in_nI (by omega) (by omega), nm_e ⟨vp_in_nI (by omega) (by omega), ?_⟩⟩
      have hit : gr_hit vs q T A f := ⟨by omega, e, w⟩
      have eA : A' = gr_Ah A f T := by
        rcases N with ⟨f', w1, w2, rfl⟩ | ⟨w1, _, _⟩ | ⟨w1, _, _⟩
        · have : f' = f := by
            rcases Nat.lt_or_ge f f' with z | z
            · exact absurd hit (w2 f z)
            · rcases Nat.lt_or_ge f' f with y | y
              · exact absurd w1 (hno f' y)
              · omega
          rw [this]
        · exact absurd hit (w1 f)
        · exact absurd hit (w1 f)
      subst eA
      have hb2 : ∀ i, i < 32 → bt (a_tabSum sl) i = (decide (i < (A.2.2.1 f).1) && T.2.2.2 i) := fun i hi => by rw [w.1]; exact TS.2.2.2 i hi
      obtain ⟨o1, o2⟩ := ix_or x.1.2.2.2 hb2 gf.1.1
      have sum : ∀ ts, ts f = a_tabSum f ||| a_tabSum sl → (∀ s', s' ≠ f → ts s' = a_tabSum s') → ∀ eq, eq f = gr_b (A.2.2.2.2 f || gr_chb (A.2.2.1 f) T) → (∀ s', s' ≠ f → eq s' = a_entPending s') →
          xE vs (gr_Ah A f T) a_tabNodes ts a_tabVar a_tabSucc a_entPoint eq ∧ xs_Fh a_tabNodes a_tabSum a_tabVar a_tabSucc a_tabNodes ts a_tabVar a_tabSucc := by
        intro ts t1 t2 eq q1 q2
        refine ⟨fun e' he' => ?_, fun s' hs' => ⟨rfl, t2 s' (by omega), fun _ _ => rfl, fun _ _ => rfl⟩⟩
        have he2 : e' < A.2.1 := he'
        have x' := X e' he2
        show xS vs e' (gr_up A.2.2.1 f (gr_mg (A.2.2.1 f) T) e') a_tabNodes ts a_tabVar a_tabSucc ∧ a_entPoint e' = nI (A.2.2.2.1 e') ∧ eq e' = gr_b (gr_up A.2.2.2.2 f (A.2.2.2.2 f || gr_chb (A.2.2.1 f) T) e')
        rcases Nat.decEq e' f with z | z
        · rw [gr_up_n z, gr_up_n z, q2 e' z]
          refine ⟨⟨x'.1.1, x'.1.2.1, x'.1.2.2.1, ?_⟩, x'.2⟩
          rw [t2 e' z]; exact x'.1.2.2.2
        · rw [z, gr_up_s, gr_up_s]
          refine ⟨⟨x.1.1, x.1.2.1, x.1.2.2.1, ?_⟩, x.2.1, q1⟩
          rw [t1]; exact o1
      refine br_c (fun y => ?_) (fun y => ⟨vp_in_nI (by omega) (by omega), nm_e ⟨vp_in_nI (by omega) (by omega), nm_e ?_⟩⟩)
      · have hc := gr_chb_f (o2.mp y)
        obtain ⟨s1, s2⟩ := sum a_tabSum y.symm (fun _ _ => rfl) a_entPending (by rw [hc, Bool.or_false]; exact x.2.2) (fun _ _ => rfl)
        exact K a_tabNodes a_tabSum a_tabVar a_tabSucc a_entPoint a_entPending s1 s2
      · have hc := gr_chb_t (Classical.byContradiction fun w => y (o2.mpr w))
        obtain ⟨s1, s2⟩ := sum (upd a_tabSum f (a_tabSum f ||| a_tabSum sl)) pk_us (fun s' h => pk_un h) (upd a_entPending f (vp_nar .boolean 1)) (by rw [hc, Bool.or_true, pk_us]; rfl) (fun s' h => pk_un h)
        exact K a_tabNodes _ a_tabVar a_tabSucc a_entPoint _ s1 s2
theorem xz_ins {post : SX → Prop} (hvs : vs ≤ 3) (hsl : 257 ≤ sl ∧ sl < 259) (hq : q ≤ 40) (g : gE vs el A) (hT : gr_ES vs T) (X : xE vs A a_tabNodes a_tabSum a_tabVar a_tabSucc a_entPoint a_entPending) (TS : xS vs sl T a_tabNodes a_tabSum a_tabVar a_tabSucc) (N : gr_INS vs el q T A A')
    (K : ∀ tn ts tv tu ep eq, xE vs A' tn ts tv tu ep eq → xs_Fh a_tabNodes a_tabSum a_tabVar a_tabSucc tn ts tv tu → post (nI vs, f_cells, f_lengthLimit, nI el, f_count, f_fixed, f_machine, f_machinePc, f_lostCount, f_coinBits, A'.1, nI A'.2.1, f_outCount, f_outLost, f_wCount, f_workLost, f_numbered, f_sumMask, f_walkCount, f_walkSummary, f_walkRing, a_opOf, a_aOf, a_bOf, a_tOf, a_machineVar, a_cellUsed, a_cellLink, tn, ts, tv, tu, ep, eq, a_outPoint, a_wVar, a_wSucc, a_wSum, a_mark, a_head, a_preds, a_number, a_rawNext)) :
    wpX_insert post (nI vs, f_cells, f_lengthLimit, nI el, f_count, f_fixed, f_machine, f_machinePc, f_lostCount, f_coinBits, A.1, nI A.2.1, f_outCount, f_outLost, f_wCount, f_workLost, f_numbered, f_sumMask, f_walkCount, f_walkSummary, f_walkRing, a_opOf, a_aOf, a_bOf, a_tOf, a_machineVar, a_cellUsed, a_cellLink, a_tabNodes, a_tabSum, a_tabVar, a_tabSucc, a_entPoint, a_entPending, a_outPoint, a_wVar, a_wSucc, a_wSum, a_mark, a_head, a_preds, a_number, a_rawNext) (nI q) (nI sl) :=
  Exists.intro (A.2.1 + 1) (xz_2 hvs hsl hq g hT X TS N K A.2.1 0 (by omega) (fun g hg => by omega))
/-! firstPending -/
def gr_fp (ec : Nat) (pd : Nat → Bool) (e : Nat) : Prop := (e < ec ∧ pd e = true ∧ ∀ f, f < e → pd f = false) ∨ (e = ec ∧ ∀ f, f < ec → pd f = false)
theorem gr_fp_ex (ec : Nat) (pd : Nat → Bool) : ∃ e, gr_fp ec pd e := by
  rcases Classical.em (∃ u, u < ec ∧ pd u = true) with q | q
  · obtain ⟨u, ⟨h1, h2⟩, h3⟩ := pk_least (fun u => u < ec ∧ pd u = true) q
    refine ⟨u, Or.inl ⟨h1, h2, fun w hw => ?_⟩⟩
    cases hh : pd w
    · rfl
    · exact absurd ⟨by omega, hh⟩ (h3 w hw)
  · refine ⟨ec, Or.inr ⟨rfl, fun u hu => ?_⟩⟩
    cases hh : pd u
    · rfl
    · exact absurd ⟨u, hu, hh⟩ q
theorem xz_fp2 {post : Int32 → Prop} {ec e : Nat} {pd : Nat → Bool} (hec : ec ≤ 256) (hp : ∀ e, e < ec → a_entPending e = gr_b (pd e)) (F : gr_fp ec pd e) (K1 : e < ec → post (nI e)) (K0 : e = ec → post (-1)) :
    ∀ d i, i + d = ec → i ≤ e → wX_firstPending_2 post f_vars f_cells f_lengthLimit f_entryLimit f_count f_fixed f_machine f_machinePc f_lostCount f_coinBits f_analysis (nI ec) f_outCount f_outLost f_wCount f_workLost f_numbered f_sumMask f_walkCount f_walkSummary f_walkRing a_opOf a_aOf a_bOf a_tOf a_machineVar a_cellUsed a_cellLink a_tabNodes a_tabSum a_tabVar a_tabSucc a_entPoint a_entPending a_outPoint a_wVar a_wSucc a_wSum a_mark a_head a_preds a_number a_rawNext (d + 1) (nI i) := by
  intro d
  induction d with
  | zero =>
    intro i hi hf
    refine br_t (nI_le (by omega) (by omega)) (K0 ?_)
    rcases F with z | z <;> omega
  | succ d ih =>
    intro i hi hf
    refine br_f (nI_ge (by omega) (by omega)) ⟨vp_in_nI (by omega) (by omega), ?_⟩
    rw [nI_clamp (by omega), hp i (by omega)]
    rcases Nat.decEq i e with z | z
    · have hne : pd i = false := by
        rcases F with y | y
        · exact y.2.2 i (by omega)
        · exact y.2 i (by omega)
      exact br_t (gr_b_0.mpr hne) (nm_r (nI_1 i) (ih (i + 1) (by omega) (by omega)))
    · have h41 : pd i = true := by
        rcases F with y | y
        · rw [z]; exact y.2.1
        · omega
      refine br_f (fun w => by rw [gr_b_0.mp w] at h41; exact absurd h41 (by decide)) ?_
      rw [z]
      exact K1 (by omega)
theorem xz_fp {post : Int32 → Prop} {ec e : Nat} {pd : Nat → Bool} (hec : ec ≤ 256) (hp : ∀ e, e < ec → a_entPending e = gr_b (pd e)) (F : gr_fp ec pd e) (K1 : e < ec → post (nI e)) (K0 : e = ec → post (-1)) : wpX_firstPending post (f_vars, f_cells, f_lengthLimit, f_entryLimit, f_count, f_fixed, f_machine, f_machinePc, f_lostCount, f_coinBits, f_analysis, nI ec, f_outCount, f_outLost, f_wCount, f_workLost, f_numbered, f_sumMask, f_walkCount, f_walkSummary, f_walkRing, a_opOf, a_aOf, a_bOf, a_tOf, a_machineVar, a_cellUsed, a_cellLink, a_tabNodes, a_tabSum, a_tabVar, a_tabSucc, a_entPoint, a_entPending, a_outPoint, a_wVar, a_wSucc, a_wSum, a_mark, a_head, a_preds, a_number, a_rawNext) :=
  Exists.intro (ec + 1) (xz_fp2 hec hp F K1 K0 ec 0 (by omega) (by omega))
end
/-! one step of the analysis -/
def gr_A0 (A : gr_A) (e : Nat) : gr_A := (A.1, A.2.1, A.2.2.1, A.2.2.2.1, gr_up A.2.2.2.2 e false)
/-- the outcomes of entry e are put in -/
def gr_PUT (vs el : Nat) (q : Nat → Nat) (T : Nat → gr_S) (c : Nat) (A A' : gr_A) : Prop :=
  (c = 0 ∧ A' = A) ∨ (c = 1 ∧ gr_INS vs el (q 0) (gr_NF vs (T 0)) A A') ∨ (c = 2 ∧ ∃ B, gr_INS vs el (q 0) (gr_NF vs (T 0)) A B ∧ ((B.1 = 1 ∧ gr_INS vs el (q 1) (gr_NF vs (T 1)) B A') ∨ (B.1 ≠ 1 ∧ A' = B)))
def gr_FIN (A A' : gr_A) : Prop := (A.1 = 1 ∧ (∀ f, f < A.2.1 → A.2.2.2.2 f = false) ∧ A' = (2, A.2)) ∨ (¬ (A.1 = 1 ∧ ∀ f, f < A.2.1 → A.2.2.2.2 f = false) ∧ A' = A)
theorem gr_FIN_ex (A : gr_A) : ∃ A', gr_FIN A A' := by
  rcases Classical.em (A.1 = 1 ∧ ∀ f, f < A.2.1 → A.2.2.2.2 f = false) with z | z
  · exact ⟨_, Or.inl ⟨z.1, z.2, rfl⟩⟩
  · exact ⟨_, Or.inr ⟨z, rfl⟩⟩
def gr_STEP (vs el nn : Nat) (op pa pb pt : Nat → Nat) (A A' : gr_A) : Prop :=
  ∃ e B, gr_fp A.2.1 A.2.2.2.2 e ∧ ((e = A.2.1 ∧ B = A) ∨ (e < A.2.1 ∧ ∃ c, xo_C nn (A.2.2.2.1 e) (op (A.2.2.2.1 e)) (pa (A.2.2.2.1 e)) (pb (A.2.2.2.1 e)) (A.2.2.1 e) c ∧
    gr_PUT vs el (xo_qs (op (A.2.2.2.1 e)) (pa (A.2.2.2.1 e)) (pb (A.2.2.2.1 e)) (pt (A.2.2.2.1 e)) (A.2.2.2.1 e) (A.2.2.1 e)) (xo_Ts (op (A.2.2.2.1 e)) (pa (A.2.2.2.1 e)) (pb (A.2.2.2.1 e)) (A.2.2.1 e)) c (gr_A0 A e) B)) ∧ gr_FIN B A'
theorem gr_q_le {vs op a b t k i : Nat} {S : gr_S} (I : gr_ins vs op a b t) (hi : i < 32) : gr_q op a b t k i S ≤ 40 := by
  rcases Classical.em (gr_jp op a b k S) with z | z
  · rw [gr_q_t z]
    obtain ⟨i1, i2, i3, i4, i5, i6, i7⟩ := I
    rcases Nat.lt_or_ge op 6 with y | y
    · have := i7 y; omega
    · have := i6 y; omega
  · rw [gr_q_f z]; omega
/-- what the loop of insertions keeps -/
theorem gr_PUT_gE {vs el c : Nat} {q : Nat → Nat} {T : Nat → gr_S} {A A' : gr_A} (g : gE vs el A) (hq : ∀ k, k < c → q k ≤ 40) (hT : ∀ k, k < c → gr_ES vs (gr_NF vs (T k))) (P : gr_PUT vs el q T c A A') : gE vs el A' := by
  rcases P with ⟨h1, rfl⟩ | ⟨h1, h2⟩ | ⟨h1, B, h2, h3⟩
  · exact g
  · exact gr_INS_gE g (hT 0 (by omega)) (hq 0 (by omega)) h2
  · have gB := gr_INS_gE g (hT 0 (by omega)) (hq 0 (by omega)) h2
    rcases h3 with ⟨_, h4⟩ | ⟨_, rfl⟩
    · exact gr_INS_gE gB (hT 1 (by omega)) (hq 1 (by omega)) h4
    · exact gB
theorem gr_PUT_ex {vs el c : Nat} {q : Nat → Nat} {T : Nat → gr_S} {A : gr_A} (g : gE vs el A) (hc : c ≤ 2) (hq : ∀ k, k < c → q k ≤ 40) (hT : ∀ k, k < c → gr_ES vs (gr_NF vs (T k))) : ∃ A', gr_PUT vs el q T c A A' := by
  rcases (show c = 0 ∨ c = 1 ∨ c = 2 by omega) with e | e | e
  · exact ⟨A, Or.inl ⟨e, rfl⟩⟩
  · obtain ⟨A', h⟩ := gr_INS_ex (vs := vs) (q := q 0) (T := gr_NF vs (T 0)) g.2.1
    exact ⟨A', Or.inr (Or.inl ⟨e, h⟩)⟩
  · obtain ⟨B, h⟩ := gr_INS_ex (vs := vs) (q := q 0) (T := gr_NF vs (T 0)) g.2.1
    have gB := gr_INS_gE g (hT 0 (by omega)) (hq 0 (by omega)) h
    rcases Classical.em (B.1 = 1) with z | z
    · obtain ⟨A', h'⟩ := gr_INS_ex (vs := vs) (q := q 1) (T := gr_NF vs (T 1)) gB.2.1
      exact ⟨A', Or.inr (Or.inr ⟨e, B, h, Or.inl ⟨z, h'⟩⟩)⟩
    · exact ⟨B, Or.inr (Or.inr ⟨e, B, h, Or.inr ⟨z, rfl⟩⟩)⟩
theorem gr_FIN_gE {vs el : Nat} {A A' : gr_A} (g : gE vs el A) (h : gr_FIN A A') : gE vs el A' := by
  rcases h with ⟨_, _, rfl⟩ | ⟨_, rfl⟩
  · exact g
  · exact g
section
variable {vs el nn c : Nat} {A A' : gr_A} {op pa pb pt : Nat → Nat}
variable {f_vars f_cells f_lengthLimit f_entryLimit f_count f_fixed f_machine f_machinePc f_lostCount f_coinBits f_analysis f_entryCount f_outCount f_outLost f_wCount f_workLost f_numbered f_sumMask f_walkCount f_walkSummary f_walkRing : Int32} {a_opOf a_aOf a_bOf a_tOf a_machineVar a_cellUsed a_cellLink a_tabNodes a_tabSum a_tabVar a_tabSucc a_entPoint a_entPending a_outPoint a_wVar a_wSucc a_wSum a_mark a_head a_preds a_number a_rawNext : Nat → Int32}
theorem xz_61 {post : SX → Prop} {ec : Nat} (hec : A.2.1 ≤ 256) (X : xE vs A a_tabNodes a_tabSum a_tabVar a_tabSucc a_entPoint a_entPending) (F : gr_FIN A A') (K : xE vs A' a_tabNodes a_tabSum a_tabVar a_tabSucc a_entPoint a_entPending → post (f_vars, f_cells, f_lengthLimit, f_entryLimit, f_count, f_fixed, f_machine, f_machinePc, f_lostCount, f_coinBits, A'.1, nI A'.2.1, f_outCount, f_outLost, f_wCount, f_workLost, f_numbered, f_sumMask, f_walkCount, f_walkSummary, f_walkRing, a_opOf, a_aOf, a_bOf, a_tOf, a_machineVar, a_cellUsed, a_cellLink, a_tabNodes, a_tabSum, a_tabVar, a_tabSucc, a_entPoint, a_entPending, a_outPoint, a_wVar, a_wSucc, a_wSum, a_mark, a_head, a_preds, a_number, a_rawNext)) : wX_analysisStep_61 post f_vars f_cells f_lengthLimit f_entryLimit f_count f_fixed f_machine f_machinePc f_lostCount f_coinBits A.1 (nI A.2.1) f_outCount f_outLost f_wCount f_workLost f_numbered f_sumMask f_walkCount f_walkSummary f_walkRing a_opOf a_aOf a_bOf a_tOf a_machineVar a_cellUsed a_cellLink a_tabNodes a_tabSum a_tabVar a_tabSucc a_entPoint a_entPending a_outPoint a_wVar a_wSucc a_wSum a_mark a_head a_preds a_number a_rawNext := by
  obtain ⟨e, he⟩ := gr_fp_ex A.2.1 A.2.2.2.2
  unfold wX_analysisStep_61
  refine xz_fp hec (fun e he => (X e he).2.2) he (fun h1 => ?_) (fun h0 => ?_)
  · have nf : ¬ (A.1 = 1 ∧ ∀ f, f < A.2.1 → A.2.2.2.2 f = false) := fun w => by
      rcases he with y | y
      · have := w.2 e h1
        rw [y.2.1] at this; exact absurd this (by decide)
      · omega
    have eA : A' = A := by
      rcases F with ⟨w1, w2, _⟩ | ⟨_, w⟩
      · exact absurd ⟨w1, w2⟩ nf
      · exact w
    subst eA
    exact br_c (fun z => br_f (gr_nm1 (by omega)) (K X)) (fun z => K X)
  · have al : ∀ f, f < A.2.1 → A.2.2.2.2 f = false := by
      rcases he with y | y
      · omega
      · exact y.2
    refine br_c (fun z => br_t rfl ?_) (fun z => ?_)
    · have eA : A' = (2, A.2) := by
        rcases F with ⟨_, _, w⟩ | ⟨w, _⟩
        · exact w
        · exact absurd ⟨z, al⟩ w
      subst eA
      exact K X
    · have eA : A' = A := by
        rcases F with ⟨w, _, _⟩ | ⟨_, w⟩
        · exact absurd w z
        · exact w
      subst eA
      exact K X
/-- the loop of insertions -/
theorem xz_24 {post : SX → Prop} {q : Nat → Nat} {T : Nat → gr_S} {B : gr_A} (hvs : vs ≤ 3) (h1 : A.1 = 1) (hc : c ≤ 2) (g : gE vs el A) (hq : ∀ k, k < c → q k ≤ 40) (hT : ∀ k, k < c → gr_ES vs (gr_NF vs (T k))) (X : xE vs A a_tabNodes a_tabSum a_tabVar a_tabSucc a_entPoint a_entPending) (O : xo_O vs c q T a_tabNodes a_tabSum a_tabVar a_tabSucc a_outPoint) (P : gr_PUT vs el q T c A B) (F : gr_FIN B A')
    (K : ∀ tn ts tv tu ep eq, xE vs A' tn ts tv tu ep eq → post (nI vs, f_cells, f_lengthLimit, nI el, f_count, f_fixed, f_machine, f_machinePc, f_lostCount, f_coinBits, A'.1, nI A'.2.1, nI c, f_outLost, f_wCount, f_workLost, f_numbered, f_sumMask, f_walkCount, f_walkSummary, f_walkRing, a_opOf, a_aOf, a_bOf, a_tOf, a_machineVar, a_cellUsed, a_cellLink, tn, ts, tv, tu, ep, eq, a_outPoint, a_wVar, a_wSucc, a_wSum, a_mark, a_head, a_preds, a_number, a_rawNext)) :
    ∃ m, wX_analysisStep_24 post m 0 (nI vs) f_cells f_lengthLimit (nI el) f_count f_fixed f_machine f_machinePc f_lostCount f_coinBits A.1 (nI A.2.1) (nI c) f_outLost f_wCount f_workLost f_numbered f_sumMask f_walkCount f_walkSummary f_walkRing a_opOf a_aOf a_bOf a_tOf a_machineVar a_cellUsed a_cellLink a_tabNodes a_tabSum a_tabVar a_tabSucc a_entPoint a_entPending a_outPoint a_wVar a_wSucc a_wSum a_mark a_head a_preds a_number a_rawNext := by
  have gB := gr_PUT_gE g hq hT P
  rcases P with ⟨e, rfl⟩ | ⟨e, h2⟩ | ⟨e, D, h2, h3⟩
  · subst e
    refine Exists.intro 1 (br_t (nI_le (a := 0) (b := 0) (by omega) (by omega)) ?_)
    exact xz_61 (ec := 0) (by have := g.2.1; have := g.1; omega) X F (K a_tabNodes a_tabSum a_tabVar a_tabSucc a_entPoint a_entPending)
  · subst e
    refine Exists.intro 2 (br_f (nI_ge (a := 0) (b := 1) (by omega) (by omega)) (br_t h1 ⟨vp_in_nI (n := 0) (by omega) (by omega), ?_⟩))
    have o0 := O 0 (by omega)
    rw [show (0 : Int32).toNatClampNeg = 0 from rfl, o0.1]
    refine xz_ins (sl := 257) hvs (by omega) (hq 0 (by omega)) g (hT 0 (by omega)) X o0.2 h2 (fun tn ts tv tu ep eq X2 _ => nm_e ?_)
    exact br_t (nI_le (a := 1) (b := 1) (by omega) (by omega)) (xz_61 (ec := 0) (by have := gB.2.1; have := gB.1; omega) X2 F (K tn ts tv tu ep eq))
  · subst e
    have gD := gr_INS_gE g (hT 0 (by omega)) (hq 0 (by omega)) h2
    refine Exists.intro 3 (br_f (nI_ge (a := 0) (b := 2) (by omega) (by omega)) (br_t h1 ⟨vp_in_nI (n := 0) (by omega) (by omega), ?_⟩))
    have o0 := O 0 (by omega)
    have o1 := O 1 (by omega)
    rw [show (0 : Int32).toNatClampNeg = 0 from rfl, o0.1]
    refine xz_ins (sl := 257) hvs (by omega) (hq 0 (by omega)) g (hT 0 (by omega)) X o0.2 h2 (fun tn ts tv tu ep eq X2 F2 => nm_e ?_)
    refine br_f (nI_ge (a := 1) (b := 2) (by omega) (by omega)) ?_
    rcases h3 with ⟨z, h4⟩ | ⟨z, rfl⟩
    · refine br_t z ⟨vp_in_nI (n := 1) (by omega) (by omega), ?_⟩
      rw [show ((0 : Int32) + 1).toNatClampNeg = 1 from rfl, o1.1]
      refine xz_ins (sl := 258) hvs (by omega) (hq 1 (by omega)) gD (hT 1 (by omega)) X2 (xs_Fh_S hvs (hT 1 (by omega)).1 F2 (by omega) o1.2) h4 (fun tn ts tv tu ep eq X3 _ => nm_e ?_)
      exact br_t (nI_le (a := 2) (b := 2) (by omega) (by omega)) (xz_61 (ec := 0) (by have := gB.2.1; have := gB.1; omega) X3 F (K tn ts tv tu ep eq))
    · exact br_f z (xz_61 (ec := 0) (by have := gB.2.1; have := gB.1; omega) X2 F (K tn ts tv tu ep eq))
end
end
section
/-! X: one step of the analysis -/
/-- the program, as X holds it -/
def xs_P (vs nn : Nat) (op pa pb pt : Nat → Nat) (a_opOf a_aOf a_bOf a_tOf : Nat → Int32) : Prop := ∀ i, i < nn → xs_I i (op i) (pa i) (pb i) (pt i) a_opOf a_aOf a_bOf a_tOf
def gr_pg (vs nn : Nat) (op pa pb pt : Nat → Nat) : Prop := ∀ i, i < nn → gr_ins vs (op i) (pa i) (pb i) (pt i)
theorem xo_C_k {nn vs i op a b t c : Nat} {S : gr_S} (hvs : vs ≤ 3) (hnn : nn ≤ 32) (I : i < nn → gr_ins vs op a b t) (E : gr_ES vs S) (C : xo_C nn i op a b S c) : c ≤ 2 ∧ ∀ k, k < c → xo_qs op a b t i S k ≤ 40 ∧ gr_ES vs (gr_NF vs (xo_Ts op a b S k)) := by
  rcases C with ⟨z, e⟩ | ⟨z1, z2, z3⟩
  · exact ⟨by omega, fun k hk => by omega⟩
  · refine ⟨by rcases z3 with ⟨_, e⟩ | ⟨_, e⟩ <;> omega, fun k hk => ⟨gr_q_le (I z1) (by omega), ?_⟩⟩
    exact gr_NF_ES (gr_ef_W (I z1) E z2) hvs
theorem gr_STEP_ex {vs el nn : Nat} {op pa pb pt : Nat → Nat} {A : gr_A} (hvs : vs ≤ 3) (hnn : nn ≤ 32) (P : gr_pg vs nn op pa pb pt) (g : gE vs el A) : ∃ A', gr_STEP vs el nn op pa pb pt A A' := by
  obtain ⟨e, he⟩ := gr_fp_ex A.2.1 A.2.2.2.2
  rcases Nat.decEq e A.2.1 with z | z
  · have hlt : e < A.2.1 := by rcases he with y | y <;> omega
    obtain ⟨c, hc⟩ := xo_C_ex nn (A.2.2.2.1 e) (op (A.2.2.2.1 e)) (pa (A.2.2.2.1 e)) (pb (A.2.2.2.1 e)) (A.2.2.1 e)
    have ck := xo_C_k (t := pt (A.2.2.2.1 e)) hvs hnn (fun w => P _ w) (g.2.2 e hlt).1 hc
    have g0 : gE vs el (gr_A0 A e) := ⟨g.1, g.2.1, g.2.2⟩
    obtain ⟨B, hB⟩ := gr_PUT_ex (q := xo_qs (op (A.2.2.2.1 e)) (pa (A.2.2.2.1 e)) (pb (A.2.2.2.1 e)) (pt (A.2.2.2.1 e)) (A.2.2.2.1 e) (A.2.2.1 e)) (T := xo_Ts (op (A.2.2.2.1 e)) (pa (A.2.2.2.1 e)) (pb (A.2.2.2.1 e)) (A.2.2.1 e)) g0 ck.1 (fun k hk => (ck.2 k hk).1) (fun k hk => (ck.2 k hk).2)
    obtain ⟨A', hA⟩ := gr_FIN_ex B
    exact ⟨A', e, B, he, Or.inr ⟨hlt, c, hc, hB⟩, hA⟩
  · obtain ⟨A', hA⟩ := gr_FIN_ex A
    exact ⟨A', e, A, he, Or.inl ⟨z, rfl⟩, hA⟩
theorem gr_STEP_gE {vs el nn : Nat} {op pa pb pt : Nat → Nat} {A A' : gr_A} (hvs : vs ≤ 3) (hnn : nn ≤ 32) (P : gr_pg vs nn op pa pb pt) (g : gE vs el A) (h : gr_STEP vs el nn op pa pb pt A A') : gE vs el A' := by
  obtain ⟨e, B, he, h1, h2⟩ := h
  refine gr_FIN_gE ?_ h2
  rcases h1 with ⟨_, rfl⟩ | ⟨hlt, c, hc, hB⟩
  · exact g
  · have ck := xo_C_k (t := pt (A.2.2.2.1 e)) hvs hnn (fun w => P _ w) (g.2.2 e hlt).1 hc
    exact gr_PUT_gE (A := gr_A0 A e) ⟨g.1, g.2.1, g.2.2⟩ (fun k hk => (ck.2 k hk).1) (fun k hk => (ck.2 k hk).2) hB
section
variable {vs el nn : Nat} {A A' : gr_A} {op pa pb pt : Nat → Nat}
variable {f_vars f_cells f_lengthLimit f_entryLimit f_count f_fixed f_machine f_machinePc f_lostCount f_coinBits f_analysis f_entryCount f_outCount f_outLost f_wCount f_workLost f_numbered f_sumMask f_walkCount f_walkSummary f_walkRing : Int32} {a_opOf a_aOf a_bOf a_tOf a_machineVar a_cellUsed a_cellLink a_tabNodes a_tabSum a_tabVar a_tabSucc a_entPoint a_entPending a_outPoint a_wVar a_wSucc a_wSum a_mark a_head a_preds a_number a_rawNext : Nat → Int32}
theorem xz_step {post : SX → Prop} (hvs : vs ≤ 3) (hnn : nn ≤ 32) (h1 : A.1 = 1) (g : gE vs el A) (P : gr_pg vs nn op pa pb pt) (H : xs_P vs nn op pa pb pt a_opOf a_aOf a_bOf a_tOf) (X : xE vs A a_tabNodes a_tabSum a_tabVar a_tabSucc a_entPoint a_entPending) (ST : gr_STEP vs el nn op pa pb pt A A')
    (K : ∀ oc ol wc wl nb sk tn ts tv tu po wv wu wm mk hd pr nu rn ep eq, xE vs A' tn ts tv tu ep eq → post (nI vs, f_cells, f_lengthLimit, nI el, nI nn, f_fixed, f_machine, f_machinePc, f_lostCount, f_coinBits, A'.1, nI A'.2.1, oc, ol, wc, wl, nb, sk, f_walkCount, f_walkSummary, f_walkRing, a_opOf, a_aOf, a_bOf, a_tOf, a_machineVar, a_cellUsed, a_cellLink, tn, ts, tv, tu, ep, eq, po, wv, wu, wm, mk, hd, pr, nu, rn)) :
    wpX_analysisStep post (nI vs, f_cells, f_lengthLimit, nI el, nI nn, f_fixed, f_machine, f_machinePc, f_lostCount, f_coinBits, A.1, nI A.2.1, f_outCount, f_outLost, f_wCount, f_workLost, f_numbered, f_sumMask, f_walkCount, f_walkSummary, f_walkRing, a_opOf, a_aOf, a_bOf, a_tOf, a_machineVar, a_cellUsed, a_cellLink, a_tabNodes, a_tabSum, a_tabVar, a_tabSucc, a_entPoint, a_entPending, a_outPoint, a_wVar, a_wSucc, a_wSum, a_mark, a_head, a_preds, a_number, a_rawNext) := by
  obtain ⟨e, B, he, hs, hf⟩ := ST
  have hec : A.2.1 ≤ 256 := by have := g.1; have := g.2.1; omega
  unfold wpX_analysisStep
  dsimp only
  refine xz_fp hec (fun e he => (X e he).2.2) he (fun hlt => ?_) (fun h0 => ?_)
  · rcases hs with ⟨z, _⟩ | ⟨_, c, hc, hB⟩
    · omega
    · have ck := xo_C_k (t := pt (A.2.2.2.1 e)) hvs hnn (fun w => P _ w) (g.2.2 e hlt).1 hc
      have xe := X e hlt
      refine br_f (gr_nm1 (by omega)) ⟨vp_in_nI (by omega) (by omega), nm_e ?_⟩
      rw [nI_clamp (by omega)]
      refine xo_find (e := e) (by omega) (g.2.2 e hlt).2 hnn hvs xe.2.1 (fun w => ⟨H _ w, P _ w⟩) (g.2.2 e hlt).1 xe.1 ?_
      intro c' ol wc wl nb sk tn ts tv tu po wv wu wm mk hd pr nu rn hc' O F _
      have ec := xo_C_u hc' hc
      subst ec
      refine xz_24 (A := gr_A0 A e) hvs h1 ck.1 ⟨g.1, g.2.1, g.2.2⟩ (fun k hk => (ck.2 k hk).1) (fun k hk => (ck.2 k hk).2) (fun f hf => ?_) O hB hf (fun tn2 ts2 tv2 tu2 ep eq X2 => ?_)
      · have hf' : f < A.2.1 := hf
        have xf := X f hf'
        refine ⟨xs_Fl_S hvs (g.2.2 f hf').1.1 F (by omega) xf.1, xf.2.1, ?_⟩
        show upd a_entPending e (vp_nar .boolean 0) f = gr_b (gr_up A.2.2.2.2 e false f)
        rcases Nat.decEq f e with z | z
        · rw [pk_un z, gr_up_n z]; exact xf.2.2
        · rw [z, pk_us, gr_up_s]; rfl
      · exact K (nI c') ol wc wl nb sk tn2 ts2 tv2 tu2 po wv wu wm mk hd pr nu rn ep eq X2
  · rcases hs with ⟨_, rfl⟩ | ⟨z, _⟩
    · refine br_t rfl (xz_61 (ec := 0) hec X hf ?_)
      exact K f_outCount f_outLost f_wCount f_workLost f_numbered f_sumMask a_tabNodes a_tabSum a_tabVar a_tabSucc a_outPoint a_wVar a_wSucc a_wSum a_mark a_head a_preds a_number a_rawNext a_entPoint a_entPending
    · omega
end
end
section
/-! Y: leads, reaches, collect, before, plain -/
theorem ix_40b (s : Nat) : nI s * 40 = nI (s * 40) := by rw [show (40 : Int32) = nI 40 from rfl, pk_mul]
/-- h' agrees with h where the variables reach -/
theorem gr_agree {h h' va : Nat → Nat} {vs n : Nat} (G : gr_G n h) (ha : ∀ u, gr_R h va vs u ∨ 40 ≤ u → h' u = h u) {x : Nat} (hx : x < vs) : ∀ k, gr_it h' k (va x) = gr_it h k (va x)
  | 0 => rfl
  | k + 1 => by
    rw [gr_it_s, gr_it_s, gr_agree G ha hx k]
    rcases Nat.lt_or_ge (gr_it h k (va x)) 40 with z | z
    · exact ha _ (Or.inl ⟨z, x, hx, k, rfl⟩)
    · exact ha _ (Or.inr z)
def ys_S (vs s n : Nat) (h va : Nat → Nat) (sm : Nat → Bool) (sz pl su ma : Nat → Int32) : Prop :=
  sz s = nI n ∧ (∀ x, x < vs → pl (s * 3 + x) = gr_en (va x)) ∧ (∀ u, u < n → su (s * 40 + u) = gr_en (h u)) ∧ ∀ u, u < n → ma (s * 40 + u) = gr_b (sm u)
def ys_F (s : Nat) (sz pl su ma sz' pl' su' ma' : Nat → Int32) : Prop :=
  ∀ s', s' ≠ s → sz' s' = sz s' ∧ (∀ x, x < 3 → pl' (s' * 3 + x) = pl (s' * 3 + x)) ∧ (∀ u, u < 40 → su' (s' * 40 + u) = su (s' * 40 + u)) ∧ ∀ u, u < 40 → ma' (s' * 40 + u) = ma (s' * 40 + u)
theorem ys_SF {vs s s' n : Nat} {h va : Nat → Nat} {sm : Nat → Bool} {sz pl su ma sz' pl' su' ma' : Nat → Int32} (hvs : vs ≤ 3) (hn : n ≤ 40) (F : ys_F s sz pl su ma sz' pl' su' ma') (ne : s' ≠ s) (S : ys_S vs s' n h va sm sz pl su ma) : ys_S vs s' n h va sm sz' pl' su' ma' := by
  obtain ⟨f1, f2, f3, f4⟩ := F s' ne
  exact ⟨f1.trans S.1, fun x hx => (f2 x (by omega)).trans (S.2.1 x hx), fun u hu => (f3 u (by omega)).trans (S.2.2.1 u hu), fun u hu => (f4 u (by omega)).trans (S.2.2.2 u hu)⟩
section
variable {n vs s : Nat} {h va : Nat → Nat} {sm : Nat → Bool}
variable {f_vars f_cells f_lengthLimit f_entryLimit f_n f_pc f_lostCells f_machine f_analysis f_count f_gone f_fixed : Int32} {a_prog a_at a_pend a_size a_place a_succ a_many a_num a_newSucc a_newMany : Nat → Int32}
theorem yl_6 {post : Int32 → Prop} (hs : s < 259) (G : gr_G n h) (hS : ∀ u, u < n → a_succ (s * 40 + u) = gr_en (h u)) {u v : Nat} (hu : u < n) (hv : v < 40) (K : ∀ r, gr_tv r (gr_ld h u v) → post r) :
    ∀ d k, k + d = 40 → (∀ i, i < k → gr_it h (i + 1) u ≠ v) → wY_leads_6 post (nI s) (nI v) f_vars f_cells f_lengthLimit f_entryLimit f_n f_pc f_lostCells f_machine f_analysis f_count f_gone f_fixed a_prog a_at a_pend a_size a_place a_succ a_many a_num a_newSucc a_newMany (d + 1) (gr_en (gr_it h k u)) (nI k) := by
  have hn := G.1
  intro d
  induction d with
  | zero =>
    intro k hk hi
    refine br_t (nI_le (a := 40) (by omega) (by omega)) (K 0 (gr_tv_f fun q => ?_))
    obtain ⟨k', h1, h2⟩ := gr_ph1 G hv q
    exact hi k' (by omega) h2
  | succ d ih =>
    intro k hk hi
    have h41 : gr_it h k u ≤ 41 := by
      cases k with
      | zero => show u ≤ 41; omega
      | succ k => rw [gr_it_s]; exact gr_le41 G _
    refine br_f (nI_ge (b := 40) (by omega) (by omega)) ?_
    rcases Nat.lt_or_ge (gr_it h k u) 40 with z | z
    · have pn := gr_it_n G hu z
      refine br_f (fun e => absurd ((gr_en_neg h41).mp e) (by omega)) ?_
      rw [gr_en_n z, ix_40, nI_clamp (by omega)]
      refine ⟨vp_in_nI (by omega) (by omega), nm_r (hS _ pn) ?_⟩
      rw [← gr_it_s h]
      have h42 : gr_it h (k + 1) u ≤ 41 := by rw [gr_it_s]; exact gr_le41 G _
      rcases Nat.decEq (gr_it h (k + 1) u) v with y | y
      · refine br_f (fun e => y (gr_en_i _ _ h42 (by omega) (e.trans (gr_en_n hv).symm))) (nm_r (nI_1 k) (ih (k + 1) (by omega) (fun i hi' => ?_)))
        rcases Nat.decEq i k with w | w
        · exact hi i (by omega)
        · rw [w]; exact y
      · refine br_t (by rw [y]; exact gr_en_n hv) (K 1 (gr_tv_t ⟨k, y⟩))
    · refine br_t ((gr_en_neg h41).mpr z) (K 0 (gr_tv_f fun ⟨k', e⟩ => ?_))
      rcases Nat.lt_or_ge k' k with y | y
      · exact hi k' y e
      · have := gr_it_hi G (k' + 1 - k) _ z
        rw [← gr_it_add, show k + (k' + 1 - k) = k' + 1 by omega] at this
        have e2 : gr_it h (k' + 1) u = v := e
        omega
theorem yl_ok {post : Int32 → Prop} (hs : s < 259) (G : gr_G n h) (hS : ∀ u, u < n → a_succ (s * 40 + u) = gr_en (h u)) {u v : Nat} (hu : u < n) (hv : v < 40) (K : ∀ r, gr_tv r (gr_ld h u v) → post r) : wpY_leads post (f_vars, f_cells, f_lengthLimit, f_entryLimit, f_n, f_pc, f_lostCells, f_machine, f_analysis, f_count, f_gone, f_fixed, a_prog, a_at, a_pend, a_size, a_place, a_succ, a_many, a_num, a_newSucc, a_newMany) (nI s) (nI u) (nI v) := by
  have hn := G.1
  refine Exists.intro 41 ?_
  show wY_leads_6 post (nI s) (nI v) f_vars f_cells f_lengthLimit f_entryLimit f_n f_pc f_lostCells f_machine f_analysis f_count f_gone f_fixed a_prog a_at a_pend a_size a_place a_succ a_many a_num a_newSucc a_newMany 41 (nI u) (nI 0)
  have e : nI u = gr_en (gr_it h 0 u) := (gr_en_n (show gr_it h 0 u < 40 by show u < 40; omega)).symm
  rw [e]
  exact yl_6 hs G hS hu hv K 40 0 (by omega) (fun i hi => by omega)
theorem yr_ok {post : Int32 → Prop} (hs : s < 259) (G : gr_G n h) (hS : ∀ u, u < n → a_succ (s * 40 + u) = gr_en (h u)) {a u : Nat} (ha : a < n ∨ a = 40) (hu : u < 40) (K : ∀ r, gr_tv r (gr_to h a u) → post r) : wpY_reaches post (f_vars, f_cells, f_lengthLimit, f_entryLimit, f_n, f_pc, f_lostCells, f_machine, f_analysis, f_count, f_gone, f_fixed, a_prog, a_at, a_pend, a_size, a_place, a_succ, a_many, a_num, a_newSucc, a_newMany) (nI s) (gr_en a) (nI u) := by
  have hn := G.1
  unfold wpY_reaches
  dsimp only
  rcases ha with z | z
  · refine br_f (fun e => absurd ((gr_en_neg (by omega)).mp e) (by omega)) (br_f (nI_pos (by omega)) ?_)
    rw [gr_en_n (by omega)]
    refine pk_eq a u (fun e => K 1 (gr_tv_t ⟨0, e⟩)) (fun e => ?_)
    refine yl_ok hs G hS z hu (fun r hr => ?_)
    rcases hr with ⟨rfl, q⟩ | ⟨rfl, q⟩
    · exact br_t rfl (K 0 (gr_tv_f (fun w => (gr_to_step.mp w).elim e q)))
    · exact br_f (by decide) (K 1 (gr_tv_t (gr_to_step.mpr (Or.inr q))))
  · rw [z]
    exact br_t (by decide) (K 0 (gr_tv_f (gr_to_hi G (by omega) hu)))
/-! collect -/
theorem yc_40 {post : Int32 → SY → Prop} {J4 : Int32 → Int32 → (Nat → Int32) → (Nat → Int32) → (Nat → Int32) → (Nat → Int32) → (Nat → Int32) → (Nat → Int32) → (Nat → Int32) → (Nat → Int32) → (Nat → Int32) → (Nat → Int32) → Prop} (hs : s < 259) (hvs : vs ≤ 3) (G : gr_G n h) (hP : ∀ x, x < vs → a_place (s * 3 + x) = gr_en (va x)) (hva : ∀ x, x < vs → va x < n ∨ va x = 40) (hS : ∀ u, u < n → a_succ (s * 40 + u) = gr_en (h u))
    {c u : Nat} {F : Prop} (hu : u < 40)
    (K0 : ¬ (F ∨ ∃ y, y < vs ∧ gr_to h (va y) u) → J4 (nI (c + 1)) (nI (u + 1)) a_prog a_at a_pend a_size a_place (upd a_succ (s * 40 + u) (-8)) a_many a_num a_newSucc a_newMany)
    (K1 : (F ∨ ∃ y, y < vs ∧ gr_to h (va y) u) → J4 (nI c) (nI (u + 1)) a_prog a_at a_pend a_size a_place a_succ a_many a_num a_newSucc a_newMany) :
    ∀ d x kp, x + d = vs → gr_tv kp (F ∨ ∃ y, y < x ∧ gr_to h (va y) u) → wY_collect_40 post J4 (nI s) (nI c) (nI u) (nI vs) f_cells f_lengthLimit f_entryLimit f_n f_pc f_lostCells f_machine f_analysis f_count f_gone f_fixed a_prog a_at a_pend a_size a_place a_succ a_many a_num a_newSucc a_newMany (d + 1) kp (nI x) := by
  intro d
  induction d with
  | zero =>
    intro x kp hx ht
    have e : x = vs := by omega
    subst e
    refine br_t (nI_le (by omega) (by omega)) ?_
    rcases ht with ⟨rfl, q⟩ | ⟨rfl, q⟩
    · refine br_t rfl ?_
      rw [ix_40, nI_clamp (by omega)]
      exact ⟨vp_in_nI (by omega) (by omega), nm_e (nm_r (nI_1 c) (nm_r (nI_1 u) (K0 q)))⟩
    · exact br_f (by decide) (nm_r (nI_1 u) (K1 q))
  | succ d ih =>
    intro x kp hx ht
    refine br_f (nI_ge (by omega) (by omega)) ?_
    have wk : ∀ {Z : Prop}, (F ∨ ∃ y, y < x ∧ gr_to h (va y) u) ∨ Z → (Z → gr_to h (va x) u) → F ∨ ∃ y, y < x + 1 ∧ gr_to h (va y) u := fun q f => by
      rcases q with (q | ⟨y, hy, q⟩) | q
      · exact Or.inl q
      · exact Or.inr ⟨y, by omega, q⟩
      · exact Or.inr ⟨x, by omega, f q⟩
    have st : F ∨ (∃ y, y < x + 1 ∧ gr_to h (va y) u) → (F ∨ ∃ y, y < x ∧ gr_to h (va y) u) ∨ gr_to h (va x) u := fun q => by
      rcases q with q | ⟨y, hy, q⟩
      · exact Or.inl (Or.inl q)
      · rcases Nat.decEq y x with w | w
        · exact Or.inl (Or.inr ⟨y, by omega, q⟩)
        · rw [w] at q; exact Or.inr q
    rcases ht with ⟨rfl, q⟩ | ⟨rfl, q⟩
    · refine br_t rfl ?_
      rw [ix_3, nI_clamp (by omega), hP x (by omega)]
      refine ⟨vp_in_nI (by omega) (by omega), yr_ok hs G hS (hva x (by omega)) hu (fun r hr => ?_)⟩
      rcases hr with ⟨rfl, w⟩ | ⟨rfl, w⟩
      · exact br_t rfl (nm_r (nI_1 x) (ih (x + 1) 0 (by omega) (gr_tv_f (fun y => (st y).elim q w))))
      · exact br_f (by decide) (nm_r (nI_1 x) (ih (x + 1) 1 (by omega) (gr_tv_t (wk (Or.inr w) id))))
    · exact br_f (by decide) (nm_r (nI_1 x) (ih (x + 1) 1 (by omega) (gr_tv_t (wk (Z := False) (Or.inl q) (fun z => z.elim)))))
noncomputable def yc_h (h va : Nat → Nat) (vs i u : Nat) : Nat := @ite Nat (u < i ∧ ¬ gr_R h va vs u) (Classical.propDecidable _) 41 (h u)
theorem yc_h_t {i u : Nat} (c : u < i ∧ ¬ gr_R h va vs u) : yc_h h va vs i u = 41 := by unfold yc_h; rw [if_pos c]
theorem yc_h_f {i u : Nat} (c : ¬ (u < i ∧ ¬ gr_R h va vs u)) : yc_h h va vs i u = h u := by unfold yc_h; rw [if_neg c]
theorem yc_h_G (G : gr_G n h) {i : Nat} (hi : i ≤ n) : gr_G n (yc_h h va vs i) := by
  refine ⟨G.1, fun u => ?_, fun u hu => ?_⟩
  · rcases Classical.em (u < i ∧ ¬ gr_R h va vs u) with c | c
    · rw [yc_h_t c]; exact Or.inr (Or.inr rfl)
    · rw [yc_h_f c]; exact G.2.1 u
  · rw [yc_h_f (fun c => by omega)]; exact G.2.2 u hu
theorem yc_h_R (G : gr_G n h) {i : Nat} (hi : i ≤ n) {u : Nat} (hu : u < 40) : (∃ y, y < vs ∧ gr_to (yc_h h va vs i) (va y) u) ↔ gr_R h va vs u := by
  have hn := G.1
  have ag : ∀ w, gr_R h va vs w ∨ 40 ≤ w → yc_h h va vs i w = h w := fun w q => yc_h_f (fun c => by
    rcases q with q | q
    · exact c.2 q
    · omega)
  constructor
  · intro ⟨y, hy, k, e⟩
    rw [gr_agree G ag hy k] at e
    exact ⟨hu, y, hy, k, e⟩
  · intro ⟨_, y, hy, k, e⟩
    exact ⟨y, hy, k, by rw [gr_agree G ag hy k]; exact e⟩
theorem yc_4 {post : Int32 → SY → Prop} (hs : s < 259) (hvs : vs ≤ 3) (G : gr_G n h) (hz : a_size s = nI n) (hP : ∀ x, x < vs → a_place (s * 3 + x) = gr_en (va x)) (hva : ∀ x, x < vs → va x < n ∨ va x = 40)
    (K : ∀ su, (∀ u, u < n → su (s * 40 + u) = gr_en (gr_fc h va vs u)) → (∀ j, (j < s * 40 ∨ s * 40 + n ≤ j) → su j = a_succ j) → post (nI (gr_cn (fun u => h u ≠ 41 ∧ ¬ gr_R h va vs u) n)) (nI vs, f_cells, f_lengthLimit, f_entryLimit, f_n, f_pc, f_lostCells, f_machine, f_analysis, f_count, f_gone, f_fixed, a_prog, a_at, a_pend, a_size, a_place, su, a_many, a_num, a_newSucc, a_newMany)) :
    ∀ d i su, i + d = n → (∀ u, u < n → su (s * 40 + u) = gr_en (yc_h h va vs i u)) → (∀ j, (j < s * 40 ∨ s * 40 + n ≤ j) → su j = a_succ j) →
      wY_collect_4 post (nI s) (nI vs) f_cells f_lengthLimit f_entryLimit f_n f_pc f_lostCells f_machine f_analysis f_count f_gone f_fixed (d + 1) (nI (gr_cn (fun u => h u ≠ 41 ∧ ¬ gr_R h va vs u) i)) (nI i) a_prog a_at a_pend a_size a_place su a_many a_num a_newSucc a_newMany := by
  have hn := G.1
  intro d
  induction d with
  | zero =>
    intro i su hi h1 h2
    have e : i = n := by omega
    subst e
    refine And.intro (vp_in_nI hs (by omega)) ?_
    rw [nI_clamp (by omega), hz]
    refine br_t (nI_le (by omega) (by omega)) (K su (fun u hu => ?_) h2)
    rw [h1 u hu]
    rcases Classical.em (gr_R h va vs u) with r | r
    · rw [gr_fc_t r, yc_h_f (fun c => c.2 r)]
    · rw [gr_fc_f r, yc_h_t ⟨hu, r⟩]
  | succ d ih =>
    intro i su hi h1 h2
    have Gi := yc_h_G (va := va) (vs := vs) G (show i ≤ n by omega)
    have hx : yc_h h va vs i i = h i := yc_h_f (fun c => by omega)
    refine And.intro (vp_in_nI hs (by omega)) ?_
    rw [nI_clamp (by omega), hz]
    refine br_f (nI_ge (by omega) (by omega)) ?_
    rw [ix_40, nI_clamp (by omega), h1 i (by omega), hx]
    refine ⟨vp_in_nI (by omega) (by omega), ?_⟩
    have kn : ¬ (h i = 41 ∨ ∃ y, y < vs ∧ gr_to (yc_h h va vs i) (va y) i) → wY_collect_4 post (nI s) (nI vs) f_cells f_lengthLimit f_entryLimit f_n f_pc f_lostCells f_machine f_analysis f_count f_gone f_fixed (d + 1) (nI (gr_cn (fun u => h u ≠ 41 ∧ ¬ gr_R h va vs u) i + 1)) (nI (i + 1)) a_prog a_at a_pend a_size a_place (upd su (s * 40 + i) (-8)) a_many a_num a_newSucc a_newMany := by
      intro q
      have nr : ¬ gr_R h va vs i := fun r => q (Or.inr ((yc_h_R G (by omega) (by omega)).mpr r))
      have := ih (i + 1) (upd su (s * 40 + i) (-8)) (by omega) (fun u hu => ?_) (fun j hj => ?_)
      · simp only [gr_cn] at this
        rw [gr_b1_t ⟨fun z => q (Or.inl z), nr⟩] at this
        exact this
      · rcases Nat.decEq u i with w | w
        · rw [pk_un (by omega), h1 u hu]
          refine congrArg gr_en ?_
          rcases Classical.em (u < i ∧ ¬ gr_R h va vs u) with c | c
          · rw [yc_h_t c, yc_h_t ⟨by omega, c.2⟩]
          · rw [yc_h_f c, yc_h_f (fun y => c ⟨by omega, y.2⟩)]
        · rw [w, pk_us, yc_h_t ⟨by omega, nr⟩]; rfl
      · rw [pk_un (by omega)]; exact h2 j hj
    have ky : (h i = 41 ∨ ∃ y, y < vs ∧ gr_to (yc_h h va vs i) (va y) i) → wY_collect_4 post (nI s) (nI vs) f_cells f_lengthLimit f_entryLimit f_n f_pc f_lostCells f_machine f_analysis f_count f_gone f_fixed (d + 1) (nI (gr_cn (fun u => h u ≠ 41 ∧ ¬ gr_R h va vs u) i)) (nI (i + 1)) a_prog a_at a_pend a_size a_place su a_many a_num a_newSucc a_newMany := by
      intro q
      have := ih (i + 1) su (by omega) (fun u hu => ?_) h2
      · simp only [gr_cn] at this
        rw [gr_b1_f (fun z => q.elim z.1 (fun y => z.2 ((yc_h_R G (by omega) (by omega)).mp y)))] at this
        exact this
      · rw [h1 u hu]
        refine congrArg gr_en ?_
        rcases Classical.em (u < i ∧ ¬ gr_R h va vs u) with c | c
        · rw [yc_h_t c, yc_h_t ⟨by omega, c.2⟩]
        · rw [yc_h_f c]
          rcases Nat.decEq u i with w | w
          · rw [yc_h_f (fun y => c ⟨by omega, y.2⟩)]
          · rcases q with z | z
            · rcases Classical.em (u < i + 1 ∧ ¬ gr_R h va vs u) with y | y
              · rw [yc_h_t y, w]; exact z
              · rw [yc_h_f y]
            · rw [yc_h_f (fun y => y.2 (w ▸ (yc_h_R G (by omega) (by omega)).mp z))]
    have run : ∀ kp, gr_tv kp (h i = 41 ∨ ∃ y, y < 0 ∧ gr_to (yc_h h va vs i) (va y) i) → ∃ n40 : Nat, wY_collect_40 post (wY_collect_4 post (nI s) (nI vs) f_cells f_lengthLimit f_entryLimit f_n f_pc f_lostCells f_machine f_analysis f_count f_gone f_fixed (d + 1)) (nI s) (nI (gr_cn (fun u => h u ≠ 41 ∧ ¬ gr_R h va vs u) i)) (nI i) (nI vs) f_cells f_lengthLimit f_entryLimit f_n f_pc f_lostCells f_machine f_analysis f_count f_gone f_fixed a_prog a_at a_pend a_size a_place su a_many a_num a_newSucc a_newMany n40 kp 0 :=
      fun kp ht => Exists.intro (vs + 1) (yc_40 (h := yc_h h va vs i) hs hvs Gi hP hva h1 (by omega) kn ky vs 0 kp (by omega) ht)
    have h41 := gr_le41 G i
    refine br_c (fun e => run 1 (gr_tv_t (Or.inl ((gr_en_8 h41).mp e)))) (fun e => run 0 (gr_tv_f (fun q => ?_)))
    rcases q with q | ⟨y, hy, _⟩
    · exact e ((gr_en_8 h41).mpr q)
    · omega
theorem yc_ok {post : Int32 → SY → Prop} (hs : s < 259) (hvs : vs ≤ 3) (G : gr_G n h) (hz : a_size s = nI n) (hP : ∀ x, x < vs → a_place (s * 3 + x) = gr_en (va x)) (hva : ∀ x, x < vs → va x < n ∨ va x = 40) (hS : ∀ u, u < n → a_succ (s * 40 + u) = gr_en (h u))
    (K : ∀ su, (∀ u, u < n → su (s * 40 + u) = gr_en (gr_fc h va vs u)) → (∀ j, (j < s * 40 ∨ s * 40 + n ≤ j) → su j = a_succ j) → post (nI (gr_cn (fun u => h u ≠ 41 ∧ ¬ gr_R h va vs u) n)) (nI vs, f_cells, f_lengthLimit, f_entryLimit, f_n, f_pc, f_lostCells, f_machine, f_analysis, f_count, f_gone, f_fixed, a_prog, a_at, a_pend, a_size, a_place, su, a_many, a_num, a_newSucc, a_newMany)) :
    wpY_collect post (nI vs, f_cells, f_lengthLimit, f_entryLimit, f_n, f_pc, f_lostCells, f_machine, f_analysis, f_count, f_gone, f_fixed, a_prog, a_at, a_pend, a_size, a_place, a_succ, a_many, a_num, a_newSucc, a_newMany) (nI s) :=
  Exists.intro (n + 1) (yc_4 hs hvs G hz hP hva K n 0 a_succ (by omega) (fun u hu => by rw [yc_h_f (fun c => by omega)]; exact hS u hu) (fun _ _ => rfl))
/-! before, plain -/
theorem yb_5 {post : Int32 → Prop} (hs : s < 259) (hn : n ≤ 40) (hz : a_size s = nI n) {g : Nat → Nat} (h41 : ∀ u, u < n → g u ≤ 41) (hS : ∀ u, u < n → a_succ (s * 40 + u) = gr_en (g u)) {t : Nat} (ht : t < 40) (K : post (nI (gr_cn (fun w => g w = t) n))) :
    ∀ d i, i + d = n → wY_before_5 post (nI s) (nI t) f_vars f_cells f_lengthLimit f_entryLimit f_n f_pc f_lostCells f_machine f_analysis f_count f_gone f_fixed a_prog a_at a_pend a_size a_place a_succ a_many a_num a_newSucc a_newMany (d + 1) (nI (gr_cn (fun w => g w = t) i)) (nI i) := by
  intro d
  induction d with
  | zero =>
    intro i hi
    have e : i = n := by omega
    subst e
    refine And.intro (vp_in_nI hs (by omega)) ?_
    rw [nI_clamp (by omega), hz]
    exact br_t (nI_le (by omega) (by omega)) K
  | succ d ih =>
    intro i hi
    have ih' := ih (i + 1) (by omega)
    simp only [gr_cn] at ih'
    refine And.intro (vp_in_nI hs (by omega)) ?_
    rw [nI_clamp (by omega), hz]
    refine br_f (nI_ge (by omega) (by omega)) ?_
    rw [ix_40, nI_clamp (by omega), hS i (by omega)]
    refine ⟨vp_in_nI (by omega) (by omega), ?_⟩
    rcases Nat.decEq (g i) t with z | z
    · rw [gr_b1_f z] at ih'
      exact br_f (fun e => z (gr_en_i _ _ (h41 i (by omega)) (by omega) (e.trans (gr_en_n ht).symm))) (nm_r (nI_1 i) ih')
    · rw [gr_b1_t z] at ih'
      exact br_t (by rw [z]; exact gr_en_n ht) (nm_r (nI_1 _) (nm_r (nI_1 i) ih'))
theorem yb_ok {post : Int32 → Prop} (hs : s < 259) (hn : n ≤ 40) (hz : a_size s = nI n) {g : Nat → Nat} (h41 : ∀ u, u < n → g u ≤ 41) (hS : ∀ u, u < n → a_succ (s * 40 + u) = gr_en (g u)) {t : Nat} (ht : t < 40) (K : post (nI (gr_cn (fun w => g w = t) n))) : wpY_before post (f_vars, f_cells, f_lengthLimit, f_entryLimit, f_n, f_pc, f_lostCells, f_machine, f_analysis, f_count, f_gone, f_fixed, a_prog, a_at, a_pend, a_size, a_place, a_succ, a_many, a_num, a_newSucc, a_newMany) (nI s) (nI t) :=
  Exists.intro (n + 1) (yb_5 hs hn hz h41 hS ht K n 0 (by omega))
theorem yp_2 {post : Int32 → Prop} (hs : s < 259) (hvs : vs ≤ 3) (hn : n ≤ 40) (hz : a_size s = nI n) (hP : ∀ x, x < vs → a_place (s * 3 + x) = gr_en (va x)) (hva : ∀ x, x < vs → va x < n ∨ va x = 40) {g : Nat → Nat} (h41 : ∀ u, u < n → g u ≤ 41) (hS : ∀ u, u < n → a_succ (s * 40 + u) = gr_en (g u)) {t : Nat} (ht : t < 40)
    (K : ∀ r, gr_tv r (gr_P n g va vs t) → post r) : ∀ d x, x + d = vs → (∀ y, y < x → va y ≠ t) → wY_plain_2 post (nI s) (nI t) (nI vs) f_cells f_lengthLimit f_entryLimit f_n f_pc f_lostCells f_machine f_analysis f_count f_gone f_fixed a_prog a_at a_pend a_size a_place a_succ a_many a_num a_newSucc a_newMany (d + 1) (nI x) := by
  intro d
  induction d with
  | zero =>
    intro x hx hq
    have e : x = vs := by omega
    subst e
    refine br_t (nI_le (by omega) (by omega)) (yb_ok hs hn hz h41 hS ht ?_)
    have hc := gr_cn_le (fun w => g w = t) n
    refine pk_le 2 _ (fun z => K 0 (gr_tv_f (fun q => ?_))) (fun z => K 1 (gr_tv_t ⟨hq, z⟩))
    have := q.2
    omega
  | succ d ih =>
    intro x hx hq
    refine br_f (nI_ge (by omega) (by omega)) ?_
    rw [ix_3, nI_clamp (by omega), hP x (by omega)]
    refine ⟨vp_in_nI (by omega) (by omega), ?_⟩
    have hv := hva x (by omega)
    rcases Nat.decEq (va x) t with z | z
    · refine br_f (fun e => z (gr_en_i _ _ (by omega) (by omega) (e.trans (gr_en_n ht).symm))) (nm_r (nI_1 x) (ih (x + 1) (by omega) (fun y hy => ?_)))
      rcases Nat.decEq y x with w | w
      · exact hq y (by omega)
      · rw [w]; exact z
    · exact br_t (by rw [z]; exact gr_en_n ht) (K 0 (gr_tv_f (fun q => q.1 x (by omega) z)))
theorem yp_ok {post : Int32 → Prop} (hs : s < 259) (hvs : vs ≤ 3) (hn : n ≤ 40) (hz : a_size s = nI n) (hP : ∀ x, x < vs → a_place (s * 3 + x) = gr_en (va x)) (hva : ∀ x, x < vs → va x < n ∨ va x = 40) {g : Nat → Nat} (h41 : ∀ u, u < n → g u ≤ 41) (hS : ∀ u, u < n → a_succ (s * 40 + u) = gr_en (g u)) {t : Nat} (ht : t < 40)
    (K : ∀ r, gr_tv r (gr_P n g va vs t) → post r) : wpY_plain post (nI vs, f_cells, f_lengthLimit, f_entryLimit, f_n, f_pc, f_lostCells, f_machine, f_analysis, f_count, f_gone, f_fixed, a_prog, a_at, a_pend, a_size, a_place, a_succ, a_many, a_num, a_newSucc, a_newMany) (nI s) (nI t) :=
  Exists.intro (vs + 1) (yp_2 hs hvs hn hz hP hva h41 hS ht K vs 0 (by omega) (fun y hy => by omega))
end
end
section
/-! Y: normalise -/
section
variable {n vs s : Nat} {h va : Nat → Nat} {sm : Nat → Bool}
/-- a structure (g, mm) as it stands in slot s while it is blurred; the rest of the tables is as it was -/
def yn_E (s n : Nat) (st : (Nat → Nat) × (Nat → Bool)) (su0 ma0 su ma : Nat → Int32) : Prop :=
  (∀ u, u < n → su (s * 40 + u) = gr_en (st.1 u)) ∧ (∀ u, u < n → ma (s * 40 + u) = gr_b (st.2 u)) ∧ ∀ j, (j < s * 40 ∨ s * 40 + n ≤ j) → su j = su0 j ∧ ma j = ma0 j
variable {f_vars f_cells f_lengthLimit f_entryLimit f_n f_pc f_lostCells f_machine f_analysis f_count f_gone f_fixed : Int32} {a_prog a_at a_pend a_size a_place a_succ a_many a_num a_newSucc a_newMany : Nat → Int32}
variable {su0 ma0 : Nat → Int32}
theorem yn_closed {post : Int32 → SY → Prop} {J17 : Int32 → (Nat → Int32) → (Nat → Int32) → (Nat → Int32) → (Nat → Int32) → (Nat → Int32) → (Nat → Int32) → (Nat → Int32) → (Nat → Int32) → (Nat → Int32) → (Nat → Int32) → Prop} {x1 x2 x3 x4 : Int32} {u k : Nat} (m : Nat) (K : J17 (nI (u + 1)) a_prog a_at a_pend a_size a_place a_succ a_many a_num a_newSucc a_newMany) : wY_normalise_40 post J17 x1 x2 x3 x4 (nI u) f_vars f_cells f_lengthLimit f_entryLimit f_n f_pc f_lostCells f_machine f_analysis f_count f_gone f_fixed (m + 1) 0 (nI k) a_prog a_at a_pend a_size a_place a_succ a_many a_num a_newSucc a_newMany :=
  br_c (fun _ => nm_r (nI_1 u) K) (fun _ => br_t rfl (nm_r (nI_1 u) K))
theorem yn_40 {post : Int32 → SY → Prop} {J17 : Int32 → (Nat → Int32) → (Nat → Int32) → (Nat → Int32) → (Nat → Int32) → (Nat → Int32) → (Nat → Int32) → (Nat → Int32) → (Nat → Int32) → (Nat → Int32) → (Nat → Int32) → Prop} {x2 x4 : Int32} (hs : s < 259) (hvs : vs ≤ 3) (W : gr_W n vs h va) (hz : a_size s = nI n) (hP : ∀ x, x < vs → a_place (s * 3 + x) = gr_en (va x)) {u : Nat} (hu : u < n) (pu : gr_PP n vs h va u) :
    ∀ d k st su ma, k + d = 40 → gr_CT n vs h va sm st.1 st.2 → yn_E s n st su0 ma0 su ma →
      (∀ su' ma', yn_E s n (gr_bl1 (gr_PP n vs h va) u d st) su0 ma0 su' ma' → J17 (nI (u + 1)) a_prog a_at a_pend a_size a_place su' ma' a_num a_newSucc a_newMany) →
      wY_normalise_40 post J17 (nI s) x2 (nI (s * 40)) x4 (nI u) (nI vs) f_cells f_lengthLimit f_entryLimit f_n f_pc f_lostCells f_machine f_analysis f_count f_gone f_fixed (d + 2) 1 (nI k) a_prog a_at a_pend a_size a_place su ma a_num a_newSucc a_newMany := by
  have hn := W.1.1
  intro d
  induction d with
  | zero =>
    intro k st su ma hk C E K
    exact br_t (nI_le (a := 40) (by omega) (by omega)) (nm_r (nI_1 u) (K su ma E))
  | succ d ih =>
    intro k st su ma hk C E K
    have h41 := C.2.2.2.2.2 u
    refine br_f (nI_ge (b := 40) (by omega) (by omega)) (br_f (by decide) ?_)
    rw [nI_add, nI_clamp (by omega)]
    refine ⟨vp_in_nI (by omega) (by omega), nm_r (E.1 u hu) ?_⟩
    have cl : ∀ {x8 : Int32}, ¬ (st.1 u < 40 ∧ st.1 u ≠ u ∧ gr_PP n vs h va (st.1 u)) → wY_normalise_89 post J17 (wY_normalise_40 post J17 (nI s) x2 (nI (s * 40)) x4 (nI u) (nI vs) f_cells f_lengthLimit f_entryLimit f_n f_pc f_lostCells f_machine f_analysis f_count f_gone f_fixed (d + 2)) (nI s) x2 (nI (s * 40)) x4 (nI u) (nI k) x8 (nI vs) f_cells f_lengthLimit f_entryLimit f_n f_pc f_lostCells f_machine f_analysis f_count f_gone f_fixed a_prog a_at a_pend a_size a_place su ma a_num a_newSucc a_newMany := by
      intro x8 c
      rw [gr_bl1_f c] at K
      exact br_t rfl (nm_r (nI_1 k) (yn_closed (d + 1) (K su ma E)))
    rcases Nat.lt_or_ge (st.1 u) 40 with z | z
    · refine br_f (fun e => absurd ((gr_en_neg h41).mp e) (by omega)) ?_
      rw [gr_en_n z]
      refine pk_eq (st.1 u) u (fun e => cl (fun c => c.2.1 e)) (fun ne => ?_)
      have kv := C.2.2.2.2.1 u z
      have vn := gr_R_n W.1 W.2.1 (C.1 _ kv)
      refine yp_ok hs hvs hn hz hP W.2.1 (g := st.1) (fun w _ => C.2.2.2.2.2 w) E.1 z (fun r hr => ?_)
      have pe : gr_P n st.1 va vs (st.1 u) ↔ gr_PP n vs h va (st.1 u) := by
        show (_ ∧ gr_cn (fun w => st.1 w = st.1 u) n < 2) ↔ (_ ∧ gr_cn (fun w => gr_fc h va vs w = st.1 u) n < 2)
        rw [C.2.2.2.1 _ z kv]
      rcases hr with ⟨rfl, q⟩ | ⟨rfl, q⟩
      · exact br_t rfl (cl (fun c => q (pe.mpr c.2.2)))
      · refine br_f (by decide) ?_
        have c : st.1 u < 40 ∧ st.1 u ≠ u ∧ gr_PP n vs h va (st.1 u) := ⟨z, ne, pe.mp q⟩
        rw [gr_bl1_t c] at K
        have C2 := gr_CTs W C pu z ne (pe.mp q)
        refine br_f (by decide) ?_
        rw [nI_add, nI_add, nI_clamp (by omega), nI_clamp (by omega)]
        refine ⟨vp_in_nI (by omega) (by omega), vp_in_nI (by omega) (by omega), nm_e ⟨vp_in_nI (by omega) (by omega), nm_e ⟨vp_in_nI (by omega) (by omega), nm_e (nm_r (nI_1 k) ?_)⟩⟩⟩
        refine ih (k + 1) (gr_up (gr_up st.1 u (st.1 (st.1 u))) (st.1 u) 41, gr_up st.2 u true) _ _ (by omega) C2 ⟨fun w hw => ?_, fun w hw => ?_, fun j hj => ?_⟩ K
        · show upd (upd su (s * 40 + u) (su (s * 40 + st.1 u))) (s * 40 + st.1 u) (-8) (s * 40 + w) = gr_en (gr_up (gr_up st.1 u (st.1 (st.1 u))) (st.1 u) 41 w)
          rcases Nat.decEq w (st.1 u) with y | y
          · rw [pk_un (by omega), gr_up_n y]
            rcases Nat.decEq w u with x | x
            · rw [pk_un (by omega), gr_up_n x]; exact E.1 w hw
            · rw [x, pk_us, gr_up_s]; exact E.1 _ vn
          · rw [y, pk_us, gr_up_s]; rfl
        · show upd ma (s * 40 + u) (vp_nar .boolean 1) (s * 40 + w) = gr_b (gr_up st.2 u true w)
          rcases Nat.decEq w u with x | x
          · rw [pk_un (by omega), gr_up_n x]; exact E.2.1 w hw
          · rw [x, pk_us, gr_up_s]; rfl
        · rw [pk_un (by omega), pk_un (by omega), pk_un (by omega)]
          exact E.2.2 j hj
    · exact br_t ((gr_en_neg h41).mpr z) (cl (fun c => by omega))
theorem yn_17 {post : Int32 → SY → Prop} {x2 x4 : Int32} (hs : s < 259) (hvs : vs ≤ 3) (W : gr_W n vs h va) (hz : a_size s = nI n) (hP : ∀ x, x < vs → a_place (s * 3 + x) = gr_en (va x))
    (K : ∀ su ma, yn_E s n (gr_g n vs h va sm, gr_mm n vs h va sm) su0 ma0 su ma → ∃ n151 : Nat, wY_normalise_151 post (nI s) x2 (nI (s * 40)) x4 (nI vs) f_cells f_lengthLimit f_entryLimit f_n f_pc f_lostCells f_machine f_analysis f_count f_gone f_fixed n151 0 a_prog a_at a_pend a_size a_place su ma a_num a_newSucc a_newMany) :
    ∀ d u su ma, u + d = n → yn_E s n (gr_B n vs h va sm u) su0 ma0 su ma → wY_normalise_17 post (nI s) x2 (nI (s * 40)) x4 (nI vs) f_cells f_lengthLimit f_entryLimit f_n f_pc f_lostCells f_machine f_analysis f_count f_gone f_fixed (d + 1) (nI u) a_prog a_at a_pend a_size a_place su ma a_num a_newSucc a_newMany := by
  have hn := W.1.1
  intro d
  induction d with
  | zero =>
    intro u su ma hi E
    have e : u = n := by omega
    subst e
    refine And.intro (vp_in_nI hs (by omega)) ?_
    rw [nI_clamp (by omega), hz]
    exact br_t (nI_le (by omega) (by omega)) (K su ma E)
  | succ d ih =>
    intro u su ma hi E
    have C := (gr_B_ok W (sm := sm) u).1
    refine And.intro (vp_in_nI hs (by omega)) ?_
    rw [nI_clamp (by omega), hz]
    refine br_f (nI_ge (by omega) (by omega)) ?_
    refine yp_ok hs hvs hn hz hP W.2.1 (g := (gr_B n vs h va sm u).1) (fun w _ => C.2.2.2.2.2 w) E.1 (by omega) (fun r hr => ?_)
    rcases Nat.decEq ((gr_B n vs h va sm u).1 u) 41 with kz | kz
    · have pe : gr_P n (gr_B n vs h va sm u).1 va vs u ↔ gr_PP n vs h va u := by
        show (_ ∧ gr_cn (fun w => (gr_B n vs h va sm u).1 w = u) n < 2) ↔ (_ ∧ gr_cn (fun w => gr_fc h va vs w = u) n < 2)
        rw [C.2.2.2.1 _ (by omega) kz]
      rcases hr with ⟨rfl, q⟩ | ⟨rfl, q⟩
      · have e : gr_B n vs h va sm (u + 1) = gr_B n vs h va sm u := gr_bl_f (fun p => q (pe.mpr p))
        exact Exists.intro 1 (yn_closed (k := 0) 0 (ih (u + 1) su ma (by omega) (e.symm ▸ E)))
      · have e : gr_B n vs h va sm (u + 1) = gr_bl1 (gr_PP n vs h va) u 40 (gr_B n vs h va sm u) := gr_bl_t (pe.mp q)
        exact Exists.intro 42 (yn_40 (sm := sm) hs hvs W hz hP (by omega) (pe.mp q) 40 0 (gr_B n vs h va sm u) su ma (by omega) C E (fun su' ma' E' => ih (u + 1) su' ma' (by omega) (e.symm ▸ E')))
    · have e : gr_B n vs h va sm (u + 1) = gr_B n vs h va sm u := by
        rcases Classical.em (gr_PP n vs h va u) with p | p
        · exact (gr_bl_t p).trans (gr_bl1_f (k := 39) (fun c => by have c1 : (gr_B n vs h va sm u).1 u < 40 := c.1; omega))
        · exact gr_bl_f p
      have kk := ih (u + 1) su ma (by omega) (e.symm ▸ E)
      rcases hr with ⟨rfl, q⟩ | ⟨rfl, q⟩
      · exact Exists.intro 1 (yn_closed (k := 0) 0 kk)
      · refine Exists.intro 2 (br_f (by decide) (br_f (by decide) ?_))
        rw [nI_add, nI_clamp (by omega)]
        refine ⟨vp_in_nI (by omega) (by omega), nm_r ((E.1 u (by omega)).trans (by rw [kz])) (br_t (by decide) (br_t rfl (nm_r (nI_1 0) (yn_closed 0 kk))))⟩
theorem yn_151 {post : Int32 → SY → Prop} {x1 x2 x3 x4 : Int32} (K : ∀ nu, (∀ u, u < 40 → nu u = -1) → ∃ n175 : Nat, wY_normalise_175 post x1 x2 x3 f_vars f_cells f_lengthLimit f_entryLimit f_n f_pc f_lostCells f_machine f_analysis f_count f_gone f_fixed n175 x4 0 a_prog a_at a_pend a_size a_place a_succ a_many nu a_newSucc a_newMany) :
    ∀ d i nu, i + d = 40 → (∀ u, u < i → nu u = -1) → wY_normalise_151 post x1 x2 x3 x4 f_vars f_cells f_lengthLimit f_entryLimit f_n f_pc f_lostCells f_machine f_analysis f_count f_gone f_fixed (d + 1) (nI i) a_prog a_at a_pend a_size a_place a_succ a_many nu a_newSucc a_newMany := by
  intro d
  induction d with
  | zero =>
    intro i mk hi hz
    exact br_t (nI_le (a := 40) (by omega) (by omega)) (K mk (fun u hu => hz u (by omega)))
  | succ d ih =>
    intro i mk hi hz
    refine br_f (nI_ge (b := 40) (by omega) (by omega)) ⟨vp_in_nI (by omega) (by omega), nm_e (nm_r (nI_1 i) ?_)⟩
    rw [nI_clamp (by omega)]
    refine ih (i + 1) _ (by omega) (fun u hu => ?_)
    rcases Nat.decEq u i with z | z
    · rw [pk_un z]; exact hz u (by omega)
    · rw [z, pk_us]
theorem yn_0le {r : Int32} {j : Nat} (hj : j ≤ 40) (e : r = gr_ex j) : (0 ≤ r ↔ j ≠ 40) := by
  rcases Nat.lt_or_ge j 40 with z | z
  · rw [e, gr_ex_n z]; exact ⟨fun _ => by omega, fun _ => nI_pos' (by omega)⟩
  · have : j = 40 := by omega
    subst this
    rw [e]
    exact ⟨fun q => absurd q (by decide), fun q => absurd rfl q⟩
theorem yn_200 {post : Int32 → SY → Prop} {J175 : Int32 → Int32 → (Nat → Int32) → (Nat → Int32) → (Nat → Int32) → (Nat → Int32) → (Nat → Int32) → (Nat → Int32) → (Nat → Int32) → (Nat → Int32) → (Nat → Int32) → (Nat → Int32) → Prop} {x1 x2 : Int32} (hs : s < 259) (hvs : vs ≤ 3) (W : gr_W n vs h va) (hS : ∀ u, u < n → a_succ (s * 40 + u) = gr_en (gr_g n vs h va sm u)) {x : Nat} :
    ∀ d k p st nu, k + d = 40 → gr_NI n vs h va (gr_g n vs h va sm) st p → p ≤ 41 → (∀ u, u < 40 → nu u = gr_ex (st.2.1 u) ∧ st.2.1 u ≤ 40) →
      (∀ nu', (∀ u, u < 40 → nu' u = gr_ex ((gr_nw1 (gr_g n vs h va sm) d p st).2.1 u) ∧ (gr_nw1 (gr_g n vs h va sm) d p st).2.1 u ≤ 40) → J175 (nI (gr_nw1 (gr_g n vs h va sm) d p st).1) (nI (x + 1)) a_prog a_at a_pend a_size a_place a_succ a_many nu' a_newSucc a_newMany) →
      wY_normalise_200 post J175 x1 x2 (nI (s * 40)) (nI x) f_vars f_cells f_lengthLimit f_entryLimit f_n f_pc f_lostCells f_machine f_analysis f_count f_gone f_fixed (d + 1) (nI st.1) (gr_en p) (nI k) a_prog a_at a_pend a_size a_place a_succ a_many nu a_newSucc a_newMany := by
  intro d
  induction d with
  | zero =>
    intro k p st nu hk I hp N K
    exact br_t (nI_le (a := 40) (by omega) (by omega)) (nm_r (nI_1 x) (K nu N))
  | succ d ih =>
    intro k p st nu hk I hp N K
    refine br_f (nI_ge (b := 40) (by omega) (by omega)) ?_
    rcases Nat.lt_or_ge p 40 with z | z
    · obtain ⟨kp, hdp⟩ := I.2.2.2.2 z
      have pn := gr_R_n W.1 W.2.1 ((gr_g_CT W).1 p kp)
      refine br_f (fun e => absurd ((gr_en_neg hp).mp e) (by omega)) ?_
      rw [gr_en_n z]
      refine ⟨vp_in_nI z (by omega), ?_⟩
      rw [nI_clamp (by omega)]
      have np := yn_0le (N p z).2 (N p z).1
      rcases Nat.decEq (st.2.1 p) 40 with y | y
      · rw [gr_nw1_f (fun c => y c.2)] at K
        exact br_t (np.mpr y) (nm_r (nI_1 x) (K nu N))
      · rw [gr_nw1_t ⟨z, y⟩] at K
        have I2 := gr_NIs W hvs I z y
        have h13 : st.1 + 1 ≤ 12 := I2.1
        refine br_f (fun e => np.mp e y) ⟨vp_in_nI z (by omega), nm_e (nm_r (nI_1 st.1) ?_)⟩
        rw [nI_add, nI_clamp (by omega)]
        refine ⟨vp_in_nI (by omega) (by omega), nm_r (hS p pn) (nm_r (nI_1 k) ?_)⟩
        refine ih (k + 1) (gr_g n vs h va sm p) (st.1 + 1, gr_up st.2.1 p st.1, gr_up st.2.2 st.1 p) _ (by omega) I2 ((gr_g_CT W).2.2.2.2.2 p) (fun u hu => ?_) K
        show upd nu p (nI st.1) u = gr_ex (gr_up st.2.1 p st.1 u) ∧ gr_up st.2.1 p st.1 u ≤ 40
        rcases Nat.decEq u p with w | w
        · rw [pk_un w, gr_up_n w]; exact N u hu
        · rw [w, pk_us, gr_up_s]; exact ⟨(gr_ex_n (by omega)).symm, by omega⟩
    · rw [gr_nw1_f (fun c => by omega)] at K
      exact br_t ((gr_en_neg hp).mpr z) (nm_r (nI_1 x) (K nu N))
theorem yn_175 {post : Int32 → SY → Prop} {x2 : Int32} (hs : s < 259) (hvs : vs ≤ 3) (W : gr_W n vs h va) (hP : ∀ x, x < vs → a_place (s * 3 + x) = gr_en (va x)) (hS : ∀ u, u < n → a_succ (s * 40 + u) = gr_en (gr_g n vs h va sm u))
    (K : ∀ nu, (∀ u, u < 40 → nu u = gr_ex ((gr_nf n vs h va sm).2.1 u) ∧ (gr_nf n vs h va sm).2.1 u ≤ 40) → ∃ n260 : Nat, wY_normalise_260 post (nI s) x2 (nI (s * 40)) (nI (gr_nfn n vs h va sm)) (nI vs) f_cells f_lengthLimit f_entryLimit f_n f_pc f_lostCells f_machine f_analysis f_count f_gone f_fixed n260 0 a_prog a_at a_pend a_size a_place a_succ a_many nu a_newSucc a_newMany) :
    ∀ d x nu, x + d = vs → (∀ u, u < 40 → nu u = gr_ex ((gr_nw (gr_g n vs h va sm) va x).2.1 u) ∧ (gr_nw (gr_g n vs h va sm) va x).2.1 u ≤ 40) →
      wY_normalise_175 post (nI s) x2 (nI (s * 40)) (nI vs) f_cells f_lengthLimit f_entryLimit f_n f_pc f_lostCells f_machine f_analysis f_count f_gone f_fixed (d + 1) (nI (gr_nw (gr_g n vs h va sm) va x).1) (nI x) a_prog a_at a_pend a_size a_place a_succ a_many nu a_newSucc a_newMany := by
  have hn := W.1.1
  intro d
  induction d with
  | zero =>
    intro x nu hx N
    have e : x = vs := by omega
    subst e
    exact br_t (nI_le (by omega) (by omega)) (K nu N)
  | succ d ih =>
    intro x nu hx N
    have hv := W.2.1 x (by omega)
    refine br_f (nI_ge (by omega) (by omega)) ?_
    rw [ix_3, nI_clamp (by omega)]
    refine ⟨vp_in_nI (by omega) (by omega), nm_r (hP x (by omega)) (Exists.intro 41 ?_)⟩
    exact yn_200 hs hvs W hS 40 0 (va x) (gr_nw (gr_g n vs h va sm) va x) nu (by omega) (gr_NI_cur W (by omega) (gr_nw_ok W hvs x (by omega)).1) (by omega) N (fun nu' N' => ih (x + 1) nu' (by omega) N')
theorem yn_260 {post : Int32 → SY → Prop} {x2 : Int32} (hs : s < 259) (hvs : vs ≤ 3) (W : gr_W n vs h va) (hz : a_size s = nI n) (hS : ∀ u, u < n → a_succ (s * 40 + u) = gr_en (gr_g n vs h va sm u)) (hM : ∀ u, u < n → a_many (s * 40 + u) = gr_b (gr_mm n vs h va sm u))
    (N : ∀ u, u < 40 → a_num u = gr_ex ((gr_nf n vs h va sm).2.1 u) ∧ (gr_nf n vs h va sm).2.1 u ≤ 40)
    (K : ∀ ns nm, (∀ i, i < gr_nfn n vs h va sm → ns i = gr_en (gr_nfh n vs h va sm i) ∧ nm i = gr_b (gr_nfs n vs h va sm i)) → ∃ n350 : Nat, wY_normalise_350 post (nI s) x2 (nI (s * 40)) (nI (gr_nfn n vs h va sm)) f_vars f_cells f_lengthLimit f_entryLimit f_n f_pc f_lostCells f_machine f_analysis f_count f_gone f_fixed n350 0 a_prog a_at a_pend a_size a_place a_succ a_many a_num ns nm) :
    ∀ d u ns nm, u + d = n → (∀ i, i < gr_nfn n vs h va sm → (gr_nf n vs h va sm).2.2 i < u → ns i = gr_en (gr_nfh n vs h va sm i) ∧ nm i = gr_b (gr_nfs n vs h va sm i)) →
      wY_normalise_260 post (nI s) x2 (nI (s * 40)) (nI (gr_nfn n vs h va sm)) f_vars f_cells f_lengthLimit f_entryLimit f_n f_pc f_lostCells f_machine f_analysis f_count f_gone f_fixed (d + 1) (nI u) a_prog a_at a_pend a_size a_place a_succ a_many a_num ns nm := by
  have hn := W.1.1
  have I := gr_nf_NI (sm := sm) W hvs
  have E := gr_nf_E (sm := sm) W hvs
  intro d
  induction d with
  | zero =>
    intro u ns nm hu Q
    have e : u = n := by omega
    subst e
    refine And.intro (vp_in_nI hs (by omega)) ?_
    rw [nI_clamp (by omega), hz]
    refine br_t (nI_le (by omega) (by omega)) (K ns nm (fun i hi => Q i hi ?_))
    exact gr_R_n W.1 W.2.1 ((gr_g_CT W).1 _ (I.2.2.1 i hi).2.1)
  | succ d ih =>
    intro u ns nm hu Q
    have g41 := (gr_g_CT (sm := sm) W).2.2.2.2.2 u
    refine And.intro (vp_in_nI hs (by omega)) ?_
    rw [nI_clamp (by omega), hz]
    refine br_f (nI_ge (by omega) (by omega)) ?_
    rw [nI_add, nI_clamp (by omega), nI_clamp (by omega)]
    refine ⟨vp_in_nI (by omega) (by omega), nm_r (hS u (by omega)) ⟨vp_in_nI (by omega) (by omega), ?_⟩⟩
    rw [(N u (by omega)).1]
    rcases Nat.decEq ((gr_nf n vs h va sm).2.1 u) 40 with z | z
    · obtain ⟨_, ku, hlt, hvis⟩ := I.2.1 u z
      have hlt' : (gr_nf n vs h va sm).2.1 u < gr_nfn n vs h va sm := hlt
      have hE := E.1
      rw [gr_ex_n (by omega)]
      refine br_f (nI_pos (by omega)) ⟨vp_in_nI (by omega) (by omega), ?_⟩
      have step : ∀ v, v = gr_en (gr_nfh n vs h va sm ((gr_nf n vs h va sm).2.1 u)) → wY_normalise_319 post (wY_normalise_260 post (nI s) x2 (nI (s * 40)) (nI (gr_nfn n vs h va sm)) f_vars f_cells f_lengthLimit f_entryLimit f_n f_pc f_lostCells f_machine f_analysis f_count f_gone f_fixed (d + 1)) (nI s) x2 (nI (s * 40)) (nI (gr_nfn n vs h va sm)) (nI u) v (nI ((gr_nf n vs h va sm).2.1 u)) f_vars f_cells f_lengthLimit f_entryLimit f_n f_pc f_lostCells f_machine f_analysis f_count f_gone f_fixed a_prog a_at a_pend a_size a_place a_succ a_many a_num ns nm := by
        intro v hv
        refine And.intro (vp_in_nI (by omega) (by omega)) ?_
        rw [nI_add, nI_clamp (by omega), nI_clamp (by omega), nI_clamp (by omega), (N u (by omega)).1, gr_ex_n (by omega), nI_clamp (by omega), hM u (by omega), gr_b_n]
        refine nm_e ⟨vp_in_nI (by omega) (by omega), vp_in_nI (by omega) (by omega), vp_in_nI (by omega) (by omega), nm_e (nm_r (nI_1 u) (ih (u + 1) _ _ (by omega) (fun i hi hlu => ?_)))⟩
        rcases Nat.decEq i ((gr_nf n vs h va sm).2.1 u) with y | y
        · rw [pk_un y, pk_un y]
          refine Q i hi ?_
          have : (gr_nf n vs h va sm).2.2 i ≠ u := fun e => y (by rw [← e]; exact (I.2.2.1 i hi).2.2.1.symm)
          omega
        · rw [y, pk_us, pk_us]
          refine ⟨hv, ?_⟩
          show _ = gr_b (gr_mm n vs h va sm ((gr_nf n vs h va sm).2.2 ((gr_nf n vs h va sm).2.1 u)))
          rw [hvis]
      have hf : gr_nfh n vs h va sm ((gr_nf n vs h va sm).2.1 u) = gr_nfc n vs h va sm (gr_g n vs h va sm u) := by
        have : gr_nfh n vs h va sm ((gr_nf n vs h va sm).2.1 u) = gr_nfc n vs h va sm (gr_g n vs h va sm ((gr_nf n vs h va sm).2.2 ((gr_nf n vs h va sm).2.1 u))) := if_pos hlt'
        rw [this, hvis]
      rcases Nat.lt_or_ge (gr_g n vs h va sm u) 40 with y | y
      · rw [gr_en_n y]
        refine br_t (nI_pos' (by omega)) ⟨vp_in_nI y (by omega), ?_⟩
        rw [nI_clamp (by omega)]
        refine step _ ?_
        rw [(N _ y).1, hf, show gr_nfc n vs h va sm (gr_g n vs h va sm u) = (gr_nf n vs h va sm).2.1 (gr_g n vs h va sm u) from if_pos y]
        exact gr_ex_en (N _ y).2
      · refine br_f (fun e => absurd ((gr_en_neg g41).mpr y) (Int32.not_lt.mpr e)) (step _ ?_)
        rw [hf, show gr_nfc n vs h va sm (gr_g n vs h va sm u) = 40 from if_neg (by omega)]
        rfl
    · rw [z]
      refine br_t (by decide) (nm_r (nI_1 u) (ih (u + 1) ns nm (by omega) (fun i hi hlu => Q i hi ?_)))
      have : (gr_nf n vs h va sm).2.2 i ≠ u := fun e => by
        have := (I.2.2.1 i hi).2.2.1
        rw [e, z] at this
        have := E.1
        omega
      omega
theorem yn_350 {post : Int32 → SY → Prop} {x1 x2 : Int32} {c : Nat} (hs : s < 259) (hc : c ≤ 40) {f : Nat → Nat} {b : Nat → Bool} (hN : ∀ i, i < c → a_newSucc i = gr_en (f i) ∧ a_newMany i = gr_b (b i))
    (K : ∀ su ma, yn_E s c (f, b) su0 ma0 su ma → ∃ n398 : Nat, wY_normalise_398 post x1 x2 (nI c) f_vars f_cells f_lengthLimit f_entryLimit f_n f_pc f_lostCells f_machine f_analysis f_count f_gone f_fixed n398 0 a_prog a_at a_pend a_size a_place su ma a_num a_newSucc a_newMany) :
    ∀ d i su ma, i + d = c → (∀ u, u < i → su (s * 40 + u) = gr_en (f u) ∧ ma (s * 40 + u) = gr_b (b u)) → (∀ j, (j < s * 40 ∨ s * 40 + c ≤ j) → su j = su0 j ∧ ma j = ma0 j) →
      wY_normalise_350 post x1 x2 (nI (s * 40)) (nI c) f_vars f_cells f_lengthLimit f_entryLimit f_n f_pc f_lostCells f_machine f_analysis f_count f_gone f_fixed (d + 1) (nI i) a_prog a_at a_pend a_size a_place su ma a_num a_newSucc a_newMany := by
  intro d
  induction d with
  | zero =>
    intro i su ma hi h1 h2
    have e : i = c := by omega
    subst e
    exact br_t (nI_le (by omega) (by omega)) (K su ma ⟨fun u hu => (h1 u hu).1, fun u hu => (h1 u hu).2, h2⟩)
  | succ d ih =>
    intro i su ma hi h1 h2
    have hi' := hN i (by omega)
    refine br_f (nI_ge (by omega) (by omega)) ⟨vp_in_nI (by omega) (by omega), ?_⟩
    rw [nI_add, nI_clamp (by omega), nI_clamp (by omega), hi'.1, hi'.2, gr_b_n]
    refine ⟨vp_in_nI (by omega) (by omega), nm_e ⟨vp_in_nI (by omega) (by omega), vp_in_nI (by omega) (by omega), nm_e (nm_r (nI_1 i) (ih (i + 1) _ _ (by omega) (fun u hu => ?_) (fun j hj => ?_)))⟩⟩
    · rcases Nat.decEq u i with y | y
      · rw [pk_un (by omega), pk_un (by omega)]; exact h1 u (by omega)
      · rw [y, pk_us, pk_us]; exact ⟨rfl, rfl⟩
    · rw [pk_un (by omega), pk_un (by omega)]; exact h2 j hj
theorem yn_398 {post : Int32 → SY → Prop} {x2 : Int32} {c : Nat} {f : Nat → Nat} (hs : s < 259) (hvs : vs ≤ 3) (hva : ∀ x, x < vs → va x ≤ 40) (hN : ∀ u, u < 40 → a_num u = gr_ex (f u) ∧ f u ≤ 40)
    (K : ∀ pl, (∀ x, x < vs → pl (s * 3 + x) = gr_en (if va x < 40 then f (va x) else 40)) → (∀ j, (j < s * 3 ∨ s * 3 + 3 ≤ j) → pl j = a_place j) → post x2 (nI vs, f_cells, f_lengthLimit, f_entryLimit, f_n, f_pc, f_lostCells, f_machine, f_analysis, f_count, f_gone, f_fixed, a_prog, a_at, a_pend, upd a_size s (nI c), pl, a_succ, a_many, a_num, a_newSucc, a_newMany)) :
    ∀ d x pl, x + d = vs → (∀ y, y < x → pl (s * 3 + y) = gr_en (if va y < 40 then f (va y) else 40)) → (∀ y, x ≤ y → y < vs → pl (s * 3 + y) = gr_en (va y)) → (∀ j, (j < s * 3 ∨ s * 3 + 3 ≤ j) → pl j = a_place j) →
      wY_normalise_398 post (nI s) x2 (nI c) (nI vs) f_cells f_lengthLimit f_entryLimit f_n f_pc f_lostCells f_machine f_analysis f_count f_gone f_fixed (d + 1) (nI x) a_prog a_at a_pend a_size pl a_succ a_many a_num a_newSucc a_newMany := by
  intro d
  induction d with
  | zero =>
    intro x pl hx h1 h2 h3
    have e : x = vs := by omega
    subst e
    refine br_t (nI_le (by omega) (by omega)) ⟨vp_in_nI hs (by omega), ?_⟩
    rw [nI_clamp (by omega)]
    exact nm_e (K pl h1 h3)
  | succ d ih =>
    intro x pl hx h1 h2 h3
    have hv := hva x (by omega)
    refine br_f (nI_ge (by omega) (by omega)) ?_
    rw [ix_3, nI_clamp (by omega), h2 x (Nat.le_refl _) (by omega)]
    refine ⟨vp_in_nI (by omega) (by omega), ?_⟩
    rcases Nat.lt_or_ge (va x) 40 with z | z
    · refine br_f (fun e => absurd ((gr_en_neg (by omega)).mp e) (by omega)) ?_
      rw [gr_en_n z, nI_clamp (by omega)]
      refine ⟨vp_in_nI (by omega) (by omega), vp_in_nI z (by omega), vp_in_nI (by omega) (by omega), nm_e (nm_r (nI_1 x) (ih (x + 1) _ (by omega) (fun y hy => ?_) (fun y hy hy' => ?_) (fun j hj => ?_)))⟩
      · rcases Nat.decEq y x with w | w
        · rw [pk_un (by omega)]; exact h1 y (by omega)
        · rw [w, pk_us, if_pos z, (hN _ z).1]; exact gr_ex_en (hN _ z).2
      · rw [pk_un (by omega)]; exact h2 y (by omega) hy'
      · rw [pk_un (by omega)]; exact h3 j hj
    · refine br_t ((gr_en_neg (by omega)).mpr z) (nm_r (nI_1 x) (ih (x + 1) pl (by omega) (fun y hy => ?_) (fun y hy hy' => h2 y (by omega) hy') h3))
      rcases Nat.decEq y x with w | w
      · exact h1 y (by omega)
      · rw [w, h2 x (Nat.le_refl _) (by omega), if_neg (by omega), show va x = 40 by omega]
/-- Y normalises -/
theorem y_norm {post : Int32 → SY → Prop} (hs : s < 259) (hvs : vs ≤ 3) (W : gr_W n vs h va) (S : ys_S vs s n h va sm a_size a_place a_succ a_many)
    (K : ∀ nu ns nm sz pl su ma, ys_S vs s (gr_nfn n vs h va sm) (gr_nfh n vs h va sm) (gr_nfv n vs h va sm) (gr_nfs n vs h va sm) sz pl su ma → ys_F s a_size a_place a_succ a_many sz pl su ma →
      post (nI (gr_cn (fun u => h u ≠ 41 ∧ ¬ gr_R h va vs u) n)) (nI vs, f_cells, f_lengthLimit, f_entryLimit, f_n, f_pc, f_lostCells, f_machine, f_analysis, f_count, f_gone, f_fixed, a_prog, a_at, a_pend, sz, pl, su, ma, nu, ns, nm)) :
    wpY_normalise post (nI vs, f_cells, f_lengthLimit, f_entryLimit, f_n, f_pc, f_lostCells, f_machine, f_analysis, f_count, f_gone, f_fixed, a_prog, a_at, a_pend, a_size, a_place, a_succ, a_many, a_num, a_newSucc, a_newMany) (nI s) := by
  obtain ⟨hz, hP, hS, hM⟩ := S
  have hn := W.1.1
  have E := gr_nf_E (sm := sm) W hvs
  unfold wpY_normalise
  dsimp only
  refine yc_ok hs hvs W.1 hz hP W.2.1 hS (fun su h1 h2 => ?_)
  refine nm_r (ix_40b s) (Exists.intro (n + 1) ?_)
  refine yn_17 (sm := sm) (su0 := su) (ma0 := a_many) hs hvs W hz hP (fun su1 ma1 E1 => ?_) n 0 su a_many (by omega) ⟨h1, hM, fun _ _ => ⟨rfl, rfl⟩⟩
  refine Exists.intro 41 (yn_151 (fun nu hnu => Exists.intro (vs + 1) ?_) 40 0 a_num (by omega) (fun u hu => by omega))
  refine yn_175 hs hvs W hP E1.1 (fun nu1 N1 => Exists.intro (n + 1) ?_) vs 0 nu (by omega) (fun u hu => ⟨(hnu u hu).trans rfl, Nat.le_refl _⟩)
  refine yn_260 hs hvs W hz E1.1 E1.2.1 N1 (fun ns nm hnn => Exists.intro (gr_nfn n vs h va sm + 1) ?_) n 0 a_newSucc a_newMany (by omega) (fun i hi hl => by omega)
  refine yn_350 (su0 := su1) (ma0 := ma1) hs (by have := E.1; omega) hnn (fun su2 ma2 E2 => Exists.intro (vs + 1) ?_) (gr_nfn n vs h va sm) 0 su1 ma1 (by omega) (fun u hu => by omega) (fun _ _ => ⟨rfl, rfl⟩)
  refine yn_398 (va := va) (f := (gr_nf n vs h va sm).2.1) hs hvs (fun x hx => by have := W.2.1 x hx; omega) N1 (fun pl p1 p2 => ?_) vs 0 a_place (by omega) (fun y hy => by omega) (fun y _ hy => hP y hy) (fun _ _ => rfl)
  refine K nu1 ns nm _ pl su2 ma2 ⟨pk_us, p1, E2.1, E2.2.1⟩ (fun s' ne => ⟨pk_un ne, fun x hx => p2 _ (by omega), fun u hu => ?_, fun u hu => ?_⟩)
  · have hE := E.1
    rw [(E2.2.2 (s' * 40 + u) (by omega)).1, (E1.2.2 (s' * 40 + u) (by omega)).1]
    exact h2 _ (by omega)
  · have hE := E.1
    rw [(E2.2.2 (s' * 40 + u) (by omega)).2, (E1.2.2 (s' * 40 + u) (by omega)).2]
end
end
section
/-! Y: tables and questions -/
def yS (vs s : Nat) (S : gr_S) (sz pl su ma : Nat → Int32) : Prop := ys_S vs s S.1 S.2.1 S.2.2.1 S.2.2.2 sz pl su ma
section
variable {n vs s : Nat} {h va : Nat → Nat} {sm : Nat → Bool}
variable {f_vars f_cells f_lengthLimit f_entryLimit f_n f_pc f_lostCells f_machine f_analysis f_count f_gone f_fixed : Int32} {a_prog a_at a_pend a_size a_place a_succ a_many a_num a_newSucc a_newMany : Nat → Int32}
theorem yy_47 {post : SY → Prop} {p q : Nat} (hp : p < 259) (hq : q < 259) (hpq : p ≠ q) {su0 ma0 : Nat → Int32}
    (K : ∀ su ma, (∀ u, u < 40 → su (q * 40 + u) = su0 (p * 40 + u) ∧ ma (q * 40 + u) = vp_nar .boolean (ma0 (p * 40 + u))) → (∀ j, (j < q * 40 ∨ q * 40 + 40 ≤ j) → su j = su0 j ∧ ma j = ma0 j) → post (f_vars, f_cells, f_lengthLimit, f_entryLimit, f_n, f_pc, f_lostCells, f_machine, f_analysis, f_count, f_gone, f_fixed, a_prog, a_at, a_pend, a_size, a_place, su, ma, a_num, a_newSucc, a_newMany)) :
    ∀ d i su ma, i + d = 40 → (∀ u, u < i → su (q * 40 + u) = su0 (p * 40 + u) ∧ ma (q * 40 + u) = vp_nar .boolean (ma0 (p * 40 + u))) → (∀ j, (j < q * 40 ∨ q * 40 + 40 ≤ j) → su j = su0 j ∧ ma j = ma0 j) →
      wY_copy_47 post (nI p) (nI q) f_vars f_cells f_lengthLimit f_entryLimit f_n f_pc f_lostCells f_machine f_analysis f_count f_gone f_fixed (d + 1) (nI i) a_prog a_at a_pend a_size a_place su ma a_num a_newSucc a_newMany := by
  intro d
  induction d with
  | zero =>
    intro i su ma hi h1 h2
    exact br_t (nI_le (a := 40) (by omega) (by omega)) (K su ma (fun u hu => h1 u (by omega)) h2)
  | succ d ih =>
    intro i su ma hi h1 h2
    refine br_f (nI_ge (b := 40) (by omega) (by omega)) ?_
    rw [ix_40, ix_40, nI_clamp (by omega), nI_clamp (by omega)]
    refine ⟨vp_in_nI (by omega) (by omega), vp_in_nI (by omega) (by omega), nm_e ⟨vp_in_nI (by omega) (by omega), vp_in_nI (by omega) (by omega), nm_e (nm_r (nI_1 i) (ih (i + 1) _ _ (by omega) (fun u hu => ?_) (fun j hj => ?_)))⟩⟩
    · rcases Nat.decEq u i with y | y
      · rw [pk_un (by omega), pk_un (by omega)]; exact h1 u (by omega)
      · rw [y, pk_us, pk_us, (h2 (p * 40 + i) (by omega)).1, (h2 (p * 40 + i) (by omega)).2]; exact ⟨rfl, rfl⟩
    · rw [pk_un (by omega), pk_un (by omega)]; exact h2 j hj
theorem yy_14 {post : SY → Prop} {p q : Nat} (hp : p < 259) (hq : q < 259) (hpq : p ≠ q) {pl0 : Nat → Int32}
    (K : ∀ pl, (∀ u, u < 3 → pl (q * 3 + u) = pl0 (p * 3 + u)) → (∀ j, (j < q * 3 ∨ q * 3 + 3 ≤ j) → pl j = pl0 j) → ∃ n47 : Nat, wY_copy_47 post (nI p) (nI q) f_vars f_cells f_lengthLimit f_entryLimit f_n f_pc f_lostCells f_machine f_analysis f_count f_gone f_fixed n47 0 a_prog a_at a_pend a_size pl a_succ a_many a_num a_newSucc a_newMany) :
    ∀ d i pl, i + d = 3 → (∀ u, u < i → pl (q * 3 + u) = pl0 (p * 3 + u)) → (∀ j, (j < q * 3 ∨ q * 3 + 3 ≤ j) → pl j = pl0 j) → wY_copy_14 post (nI p) (nI q) f_vars f_cells f_lengthLimit f_entryLimit f_n f_pc f_lostCells f_machine f_analysis f_count f_gone f_fixed (d + 1) (nI i) a_prog a_at a_pend a_size pl a_succ a_many a_num a_newSucc a_newMany := by
  intro d
  induction d with
  | zero =>
    intro i pl hi h1 h2
    exact br_t (nI_le (a := 3) (by omega) (by omega)) (K pl (fun u hu => h1 u (by omega)) h2)
  | succ d ih =>
    intro i pl hi h1 h2
    refine br_f (nI_ge (b := 3) (by omega) (by omega)) ?_
    rw [ix_3, ix_3, nI_clamp (by omega), nI_clamp (by omega)]
    refine ⟨vp_in_nI (by omega) (by omega), vp_in_nI (by omega) (by omega), nm_e (nm_r (nI_1 i) (ih (i + 1) _ (by omega) (fun u hu => ?_) (fun j hj => ?_)))⟩
    · rcases Nat.decEq u i with y | y
      · rw [pk_un (by omega)]; exact h1 u (by omega)
      · rw [y, pk_us]; exact h2 _ (by omega)
    · rw [pk_un (by omega)]; exact h2 j hj
theorem yy_ok {post : SY → Prop} {p q : Nat} {S : gr_S} (hp : p < 259) (hq : q < 259) (hpq : p ≠ q) (hvs : vs ≤ 3) (hn : S.1 ≤ 40) (hS : yS vs p S a_size a_place a_succ a_many)
    (K : ∀ sz pl su ma, yS vs q S sz pl su ma → ys_F q a_size a_place a_succ a_many sz pl su ma → post (f_vars, f_cells, f_lengthLimit, f_entryLimit, f_n, f_pc, f_lostCells, f_machine, f_analysis, f_count, f_gone, f_fixed, a_prog, a_at, a_pend, sz, pl, su, ma, a_num, a_newSucc, a_newMany)) : wpY_copy post (f_vars, f_cells, f_lengthLimit, f_entryLimit, f_n, f_pc, f_lostCells, f_machine, f_analysis, f_count, f_gone, f_fixed, a_prog, a_at, a_pend, a_size, a_place, a_succ, a_many, a_num, a_newSucc, a_newMany) (nI p) (nI q) := by
  obtain ⟨s1, s2, s3, s4⟩ := hS
  refine And.intro (vp_in_nI hp (by omega)) ⟨vp_in_nI hq (by omega), ?_⟩
  rw [nI_clamp (by omega), nI_clamp (by omega)]
  refine nm_e (Exists.intro 4 ?_)
  refine yy_14 (pl0 := a_place) hp hq hpq (fun pl v1 v2 => Exists.intro 41 ?_) 3 0 a_place (by omega) (fun u hu => by omega) (fun _ _ => rfl)
  refine yy_47 (su0 := a_succ) (ma0 := a_many) hp hq hpq (fun su ma u1 u2 => ?_) 40 0 a_succ a_many (by omega) (fun u hu => by omega) (fun _ _ => ⟨rfl, rfl⟩)
  refine K _ pl su ma ⟨by rw [pk_us]; exact s1, fun x hx => (v1 x (by omega)).trans (s2 x hx), fun u hu => ((u1 u (by omega)).1).trans (s3 u hu), fun u hu => ?_⟩ (fun s' ne => ⟨pk_un ne, fun x hx => v2 _ (by omega), fun u hu => (u2 _ (by omega)).1, fun u hu => (u2 _ (by omega)).2⟩)
  rw [(u1 u (by omega)).2, s4 u hu, gr_b_n]
/-! blank -/
theorem yk_33 {post : SY → Prop} (hs : s < 259) {su0 ma0 : Nat → Int32}
    (K : ∀ su ma, (∀ u, u < 40 → su (s * 40 + u) = -8 ∧ ma (s * 40 + u) = 0) → (∀ j, (j < s * 40 ∨ s * 40 + 40 ≤ j) → su j = su0 j ∧ ma j = ma0 j) → post (f_vars, f_cells, f_lengthLimit, f_entryLimit, f_n, f_pc, f_lostCells, f_machine, f_analysis, f_count, f_gone, f_fixed, a_prog, a_at, a_pend, a_size, a_place, su, ma, a_num, a_newSucc, a_newMany)) :
    ∀ d i su ma, i + d = 40 → (∀ u, u < i → su (s * 40 + u) = -8 ∧ ma (s * 40 + u) = 0) → (∀ j, (j < s * 40 ∨ s * 40 + 40 ≤ j) → su j = su0 j ∧ ma j = ma0 j) →
      wY_blank_33 post (nI s) f_vars f_cells f_lengthLimit f_entryLimit f_n f_pc f_lostCells f_machine f_analysis f_count f_gone f_fixed (d + 1) (nI i) a_prog a_at a_pend a_size a_place su ma a_num a_newSucc a_newMany := by
  intro d
  induction d with
  | zero =>
    intro i su ma hi h1 h2
    exact br_t (nI_le (a := 40) (by omega) (by omega)) (K su ma (fun u hu => h1 u (by omega)) h2)
  | succ d ih =>
    intro i su ma hi h1 h2
    refine br_f (nI_ge (b := 40) (by omega) (by omega)) ?_
    rw [ix_40, nI_clamp (by omega)]
    refine ⟨vp_in_nI (by omega) (by omega), nm_e ⟨vp_in_nI (by omega) (by omega), nm_e (nm_r (nI_1 i) (ih (i + 1) _ _ (by omega) (fun u hu => ?_) (fun j hj => ?_)))⟩⟩
    · rcases Nat.decEq u i with y | y
      · rw [pk_un (by omega), pk_un (by omega)]; exact h1 u (by omega)
      · rw [y, pk_us, pk_us]; exact ⟨rfl, rfl⟩
    · rw [pk_un (by omega), pk_un (by omega)]; exact h2 j hj
theorem yk_9 {post : SY → Prop} (hs : s < 259) {pl0 : Nat → Int32}
    (K : ∀ pl, (∀ u, u < 3 → pl (s * 3 + u) = -1) → (∀ j, (j < s * 3 ∨ s * 3 + 3 ≤ j) → pl j = pl0 j) → ∃ n33 : Nat, wY_blank_33 post (nI s) f_vars f_cells f_lengthLimit f_entryLimit f_n f_pc f_lostCells f_machine f_analysis f_count f_gone f_fixed n33 0 a_prog a_at a_pend a_size pl a_succ a_many a_num a_newSucc a_newMany) :
    ∀ d i pl, i + d = 3 → (∀ u, u < i → pl (s * 3 + u) = -1) → (∀ j, (j < s * 3 ∨ s * 3 + 3 ≤ j) → pl j = pl0 j) → wY_blank_9 post (nI s) f_vars f_cells f_lengthLimit f_entryLimit f_n f_pc f_lostCells f_machine f_analysis f_count f_gone f_fixed (d + 1) (nI i) a_prog a_at a_pend a_size pl a_succ a_many a_num a_newSucc a_newMany := by
  intro d
  induction d with
  | zero =>
    intro i pl hi h1 h2
    exact br_t (nI_le (a := 3) (by omega) (by omega)) (K pl (fun u hu => h1 u (by omega)) h2)
  | succ d ih =>
    intro i pl hi h1 h2
    refine br_f (nI_ge (b := 3) (by omega) (by omega)) ?_
    rw [ix_3, nI_clamp (by omega)]
    refine ⟨vp_in_nI (by omega) (by omega), nm_e (nm_r (nI_1 i) (ih (i + 1) _ (by omega) (fun u hu => ?_) (fun j hj => ?_)))⟩
    · rcases Nat.decEq u i with y | y
      · rw [pk_un (by omega)]; exact h1 u (by omega)
      · rw [y, pk_us]
    · rw [pk_un (by omega)]; exact h2 j hj
theorem yk_ok {post : SY → Prop} (hs : s < 259) (hvs : vs ≤ 3) (hn : n ≤ 40)
    (K : ∀ sz pl su ma, yS vs s (n, (fun u => if u < n then 41 else 40), (fun _ => 40), fun _ => false) sz pl su ma → ys_F s a_size a_place a_succ a_many sz pl su ma → post (f_vars, f_cells, f_lengthLimit, f_entryLimit, f_n, f_pc, f_lostCells, f_machine, f_analysis, f_count, f_gone, f_fixed, a_prog, a_at, a_pend, sz, pl, su, ma, a_num, a_newSucc, a_newMany)) : wpY_blank post (f_vars, f_cells, f_lengthLimit, f_entryLimit, f_n, f_pc, f_lostCells, f_machine, f_analysis, f_count, f_gone, f_fixed, a_prog, a_at, a_pend, a_size, a_place, a_succ, a_many, a_num, a_newSucc, a_newMany) (nI s) (nI n) := by
  refine And.intro (vp_in_nI hs (by omega)) ?_
  rw [nI_clamp (by omega)]
  refine nm_e (Exists.intro 4 ?_)
  refine yk_9 (pl0 := a_place) hs (fun pl v1 v2 => Exists.intro 41 ?_) 3 0 a_place (by omega) (fun u hu => by omega) (fun _ _ => rfl)
  refine yk_33 (su0 := a_succ) (ma0 := a_many) hs (fun su ma u1 u2 => ?_) 40 0 a_succ a_many (by omega) (fun u hu => by omega) (fun _ _ => ⟨rfl, rfl⟩)
  refine K _ pl su ma ⟨pk_us, fun x hx => v1 x (by omega), fun u hu => ?_, fun u hu => (u1 u (Nat.lt_of_lt_of_le hu hn)).2⟩ (fun s' ne => ⟨pk_un ne, fun x hx => v2 _ (by omega), fun u hu => (u2 _ (by omega)).1, fun u hu => (u2 _ (by omega)).2⟩)
  have hu' : u < n := hu
  show su (s * 40 + u) = gr_en (if u < n then 41 else 40)
  rw [if_pos hu', (u1 u (by omega)).1]; rfl
/-! skeleton -/
theorem yt_77 {post : Int32 → Prop} {p q : Nat} {f : Nat → Nat} {A : Prop} (hp : p < 259) (hq : q < 259) (hn : n ≤ 12) (hz : a_size p = nI n) (h40 : ∀ u, u < n → h u ≤ 40) (f40 : ∀ u, f u ≤ 40) (h1 : ∀ u, u < n → a_succ (p * 40 + u) = gr_en (h u)) (h2 : A → ∀ u, u < n → a_succ (q * 40 + u) = gr_en (f u))
    (K : ∀ r, gr_tv r (A ∧ ∀ u, u < n → h u = f u) → post r) : ∀ d i r, i + d = n → gr_tv r (A ∧ ∀ u, u < i → h u = f u) → wY_skeleton_77 post (nI p) (nI q) f_vars f_cells f_lengthLimit f_entryLimit f_n f_pc f_lostCells f_machine f_analysis f_count f_gone f_fixed a_prog a_at a_pend a_size a_place a_succ a_many a_num a_newSucc a_newMany (d + 1) r (nI i) := by
  intro d
  induction d with
  | zero =>
    intro i r hi g
    have e : i = n := by omega
    subst e
    refine And.intro (vp_in_nI hp (by omega)) ?_
    rw [nI_clamp (by omega), hz]
    exact br_t (nI_le (by omega) (by omega)) ⟨gr_tv_nar g, K r g⟩
  | succ d ih =>
    intro i r hi g
    refine And.intro (vp_in_nI hp (by omega)) ?_
    rw [nI_clamp (by omega), hz]
    refine br_f (nI_ge (by omega) (by omega)) ?_
    rcases g with ⟨rfl, g⟩ | ⟨rfl, g⟩
    · exact br_t rfl (nm_r (nI_1 i) (ih (i + 1) 0 (by omega) (gr_tv_f (fun w => g ⟨w.1, fun u hu => w.2 u (by omega)⟩))))
    · refine br_f (by decide) ?_
      rw [ix_40, ix_40, nI_clamp (by omega), nI_clamp (by omega), h1 i (by omega), h2 g.1 i (by omega)]
      refine ⟨vp_in_nI (by omega) (by omega), vp_in_nI (by omega) (by omega), ?_⟩
      rcases Nat.decEq (h i) (f i) with z | z
      · refine br_f (fun e => z (gr_en_i _ _ ?_ ?_ e)) (nm_r (nI_1 i) (ih (i + 1) 0 (by omega) (gr_tv_f (fun w => z (w.2 i (by omega))))))
        · have := h40 i (by omega); omega
        · have := f40 i; omega
      · refine br_t (by rw [z]) (nm_r (nI_1 i) (ih (i + 1) 1 (by omega) (gr_tv_t ⟨g.1, fun u hu => ?_⟩)))
        rcases Nat.decEq u i with y | y
        · exact g.2 u (by omega)
        · rw [y]; exact z
theorem yt_24 {post : Int32 → Prop} {p q : Nat} {f : Nat → Nat} {A : Prop} (hp : p < 259) (hq : q < 259) (hvs : vs ≤ 3) (h40 : ∀ u, u < vs → va u ≤ 40 ∧ f u ≤ 40) (h1 : ∀ u, u < vs → a_place (p * 3 + u) = gr_en (va u)) (h2 : ∀ u, u < vs → a_place (q * 3 + u) = gr_en (f u))
    (K : ∀ r, gr_tv r (A ∧ ∀ u, u < vs → va u = f u) → ∃ n77 : Nat, wY_skeleton_77 post (nI p) (nI q) (nI vs) f_cells f_lengthLimit f_entryLimit f_n f_pc f_lostCells f_machine f_analysis f_count f_gone f_fixed a_prog a_at a_pend a_size a_place a_succ a_many a_num a_newSucc a_newMany n77 r 0) : ∀ d i r, i + d = vs → gr_tv r (A ∧ ∀ u, u < i → va u = f u) → wY_skeleton_24 post (nI p) (nI q) (nI vs) f_cells f_lengthLimit f_entryLimit f_n f_pc f_lostCells f_machine f_analysis f_count f_gone f_fixed a_prog a_at a_pend a_size a_place a_succ a_many a_num a_newSucc a_newMany (d + 1) r (nI i) := by
  intro d
  induction d with
  | zero =>
    intro i r hi g
    have e : i = vs := by omega
    subst e
    exact br_t (nI_le (by omega) (by omega)) (K r g)
  | succ d ih =>
    intro i r hi g
    refine br_f (nI_ge (by omega) (by omega)) ?_
    rcases g with ⟨rfl, g⟩ | ⟨rfl, g⟩
    · exact br_t rfl (nm_r (nI_1 i) (ih (i + 1) 0 (by omega) (gr_tv_f (fun w => g ⟨w.1, fun u hu => w.2 u (by omega)⟩))))
    · refine br_f (by decide) ?_
      rw [ix_3, ix_3, nI_clamp (by omega), nI_clamp (by omega), h1 i (by omega), h2 i (by omega)]
      refine ⟨vp_in_nI (by omega) (by omega), vp_in_nI (by omega) (by omega), ?_⟩
      have hh := h40 i (by omega)
      rcases Nat.decEq (va i) (f i) with z | z
      · exact br_f (fun e => z (gr_en_i _ _ (by omega) (by omega) e)) (nm_r (nI_1 i) (ih (i + 1) 0 (by omega) (gr_tv_f (fun w => z (w.2 i (by omega))))))
      · refine br_t (by rw [z]) (nm_r (nI_1 i) (ih (i + 1) 1 (by omega) (gr_tv_t ⟨g.1, fun u hu => ?_⟩)))
        rcases Nat.decEq u i with y | y
        · exact g.2 u (by omega)
        · rw [y]; exact z
theorem yt_ok {post : Int32 → Prop} {p q : Nat} {S T : gr_S} (hp : p < 259) (hq : q < 259) (hvs : vs ≤ 3) (ES : gr_ES vs S) (ET : gr_ES vs T) (hS : yS vs p S a_size a_place a_succ a_many) (hT : yS vs q T a_size a_place a_succ a_many)
    (K : ∀ r, gr_tv r (gr_SK vs S T) → post r) : wpY_skeleton post (nI vs, f_cells, f_lengthLimit, f_entryLimit, f_n, f_pc, f_lostCells, f_machine, f_analysis, f_count, f_gone, f_fixed, a_prog, a_at, a_pend, a_size, a_place, a_succ, a_many, a_num, a_newSucc, a_newMany) (nI p) (nI q) := by
  obtain ⟨s1, s2, s3, s4⟩ := hS
  obtain ⟨t1, t2, t3, t4⟩ := hT
  obtain ⟨a1, a2, a3⟩ := gr_E40 ES
  obtain ⟨b1, b2, b3⟩ := gr_E40 ET
  have run : ∀ r, gr_tv r (S.1 = T.1) → ∃ n24 : Nat, wY_skeleton_24 post (nI p) (nI q) (nI vs) f_cells f_lengthLimit f_entryLimit f_n f_pc f_lostCells f_machine f_analysis f_count f_gone f_fixed a_prog a_at a_pend a_size a_place a_succ a_many a_num a_newSucc a_newMany n24 r 0 := fun r hr => Exists.intro (vs + 1) (yt_24 (A := S.1 = T.1) hp hq hvs (fun u hu => ⟨a2 u hu, b2 u hu⟩) s2 t2 (fun r' g => Exists.intro (S.1 + 1)
    (yt_77 (n := S.1) (A := S.1 = T.1 ∧ ∀ u, u < vs → S.2.2.1 u = T.2.2.1 u) hp hq a3 s1 (fun u _ => a1 u) b1 s3 (fun e u hu => t3 u (by have := e.1; omega)) (fun r hr => K r (gr_tv_iff ⟨fun w => ⟨w.1.1, w.1.2, w.2⟩, fun w => ⟨⟨w.1, w.2.1⟩, w.2.2⟩⟩ hr)) S.1 0 r' (by omega) (gr_tv_iff ⟨fun w => ⟨w, fun u hu => by omega⟩, fun w => w.1⟩ g)))
    vs 0 r (by omega) (gr_tv_iff ⟨fun w => ⟨w, fun u hu => by omega⟩, fun w => w.1⟩ hr))
  refine And.intro (vp_in_nI hp (by omega)) ⟨vp_in_nI hq (by omega), ?_⟩
  rw [nI_clamp (by omega), nI_clamp (by omega), s1, t1]
  exact pk_eq S.1 T.1 (fun e => run 1 (gr_tv_t e)) (fun e => run 0 (gr_tv_f e))
theorem ye_10 {post : Int32 → Prop} {p q : Nat} {f : Nat → Bool} {A : Prop} (hp : p < 259) (hq : q < 259) (hn : n ≤ 12) (hz : a_size p = nI n) (h1 : ∀ u, u < n → a_many (p * 40 + u) = gr_b (sm u)) (h2 : A → ∀ u, u < n → a_many (q * 40 + u) = gr_b (f u))
    (K : ∀ r, gr_tv r (A ∧ ∀ u, u < n → sm u = true → f u = true) → post r) : ∀ d i r, i + d = n → gr_tv r (A ∧ ∀ u, u < i → sm u = true → f u = true) → wY_embedsIn_10 post (nI p) (nI q) f_vars f_cells f_lengthLimit f_entryLimit f_n f_pc f_lostCells f_machine f_analysis f_count f_gone f_fixed a_prog a_at a_pend a_size a_place a_succ a_many a_num a_newSucc a_newMany (d + 1) r (nI i) := by
  intro d
  induction d with
  | zero =>
    intro i r hi g
    have e : i = n := by omega
    subst e
    refine And.intro (vp_in_nI hp (by omega)) ?_
    rw [nI_clamp (by omega), hz]
    exact br_t (nI_le (by omega) (by omega)) ⟨gr_tv_nar g, K r g⟩
  | succ d ih =>
    intro i r hi g
    refine And.intro (vp_in_nI hp (by omega)) ?_
    rw [nI_clamp (by omega), hz]
    refine br_f (nI_ge (by omega) (by omega)) ?_
    rcases g with ⟨rfl, g⟩ | ⟨rfl, g⟩
    · exact br_t rfl (nm_r (nI_1 i) (ih (i + 1) 0 (by omega) (gr_tv_f (fun w => g ⟨w.1, fun u hu => w.2 u (by omega)⟩))))
    · refine br_f (by decide) ?_
      have wk : (sm i = true → f i = true) → ∀ u, u < i + 1 → sm u = true → f u = true := fun w u hu => by
        rcases Nat.decEq u i with y | y
        · exact g.2 u (by omega)
        · rw [y]; exact w
      rw [ix_40, ix_40, nI_clamp (by omega), nI_clamp (by omega), h1 i (by omega), h2 g.1 i (by omega)]
      refine ⟨vp_in_nI (by omega) (by omega), br_c (fun z => nm_r (nI_1 i) (ih (i + 1) 1 (by omega) (gr_tv_t ⟨g.1, wk (fun w => ?_)⟩))) (fun z => ⟨vp_in_nI (by omega) (by omega), br_c (fun y => nm_r (nI_1 i) (ih (i + 1) 0 (by omega) (gr_tv_f (fun w => ?_)))) (fun y => nm_r (nI_1 i) (ih (i + 1) 1 (by omega) (gr_tv_t ⟨g.1, wk (fun w => ?_)⟩)))⟩)⟩
      · rw [gr_b_0.mp z] at w; exact absurd w (by decide)
      · have hs : sm i = true := by
          cases hh : sm i
          · exact absurd (gr_b_0.mpr hh) z
          · rfl
        have := w.2 i (by omega) hs
        rw [gr_b_0.mp y] at this; exact absurd this (by decide)
      · cases hh : f i
        · exact absurd (gr_b_0.mpr hh) y
        · rfl
theorem ye_ok {post : Int32 → Prop} {p q : Nat} {S T : gr_S} (hp : p < 259) (hq : q < 259) (hvs : vs ≤ 3) (ES : gr_ES vs S) (ET : gr_ES vs T) (hS : yS vs p S a_size a_place a_succ a_many) (hT : yS vs q T a_size a_place a_succ a_many)
    (K : ∀ r, gr_tv r (gr_EM vs S T) → post r) : wpY_embedsIn post (nI vs, f_cells, f_lengthLimit, f_entryLimit, f_n, f_pc, f_lostCells, f_machine, f_analysis, f_count, f_gone, f_fixed, a_prog, a_at, a_pend, a_size, a_place, a_succ, a_many, a_num, a_newSucc, a_newMany) (nI p) (nI q) := by
  unfold wpY_embedsIn
  dsimp only
  refine yt_ok hp hq hvs ES ET hS hT (fun r hr => Exists.intro (S.1 + 1) ?_)
  exact ye_10 (n := S.1) (A := gr_SK vs S T) hp hq ES.1 hS.1 hS.2.2.2 (fun e u hu => hT.2.2.2 u (by have := e.1; omega)) K S.1 0 r (by omega) (gr_tv_iff ⟨fun w => ⟨w, fun u hu => by omega⟩, fun w => w.1⟩ hr)
theorem yj_ok {post : Int32 → Prop} {p q : Int32} (K : post (gr_join p q)) : wpY_join post (f_vars, f_cells, f_lengthLimit, f_entryLimit, f_n, f_pc, f_lostCells, f_machine, f_analysis, f_count, f_gone, f_fixed, a_prog, a_at, a_pend, a_size, a_place, a_succ, a_many, a_num, a_newSucc, a_newMany) p q := by
  unfold gr_join at K
  refine br_c (fun z => ?_) (fun z => br_c (fun y => ?_) (fun y => ?_))
  · rw [if_pos z] at K; exact K
  · rw [if_neg z, if_pos y] at K; exact K
  · rw [if_neg z, if_neg y] at K; exact K
/-! value -/
variable {kind : Nat} {x1 x4 x5 x6 x7 x8 x9 x10 x11 : Int32} {P : Prop}
theorem yv_286 {post : Int32 → Prop} (hk : kind ≤ 5) (ht : gr_tv x11 P) (K : ∀ r, gr_tv r P → post r) : wY_value_286 post (nI kind) x10 x11 f_vars f_cells f_lengthLimit f_entryLimit f_n f_pc f_lostCells f_machine f_analysis f_count f_gone f_fixed a_prog a_at a_pend a_size a_place a_succ a_many a_num a_newSucc a_newMany := by
  rcases ht with ⟨rfl, q⟩ | ⟨rfl, q⟩
  · exact br_t rfl (pk_eq kind 6 (fun e => by omega) (fun _ => K 0 (gr_tv_f q)))
  · exact br_f (by decide) (K 1 (gr_tv_t q))
theorem yv_266 {post : Int32 → Prop} (hk : kind ≤ 5) (ht : gr_tv x11 P) (K : ∀ r, gr_tv r P → post r) : wY_value_266 post (nI kind) x4 x7 x10 x11 f_vars f_cells f_lengthLimit f_entryLimit f_n f_pc f_lostCells f_machine f_analysis f_count f_gone f_fixed a_prog a_at a_pend a_size a_place a_succ a_many a_num a_newSucc a_newMany :=
  pk_eq kind 6 (fun e => by omega) (fun _ => yv_286 hk ht K)
theorem yv_233 {post : Int32 → Prop} (hk : kind ≤ 4) (ht : gr_tv x11 P) (K : ∀ r, gr_tv r P → post r) : wY_value_233 post x1 (nI kind) x4 x5 x7 x10 x11 f_vars f_cells f_lengthLimit f_entryLimit f_n f_pc f_lostCells f_machine f_analysis f_count f_gone f_fixed a_prog a_at a_pend a_size a_place a_succ a_many a_num a_newSucc a_newMany :=
  pk_eq kind 5 (fun e => by omega) (fun _ => yv_266 (by omega) ht K)
theorem yv_224 {post : Int32 → Prop} (hk : kind ≤ 3) (ht : gr_tv x11 P) (K : ∀ r, gr_tv r P → post r) : wY_value_224 post x1 (nI kind) x4 x5 x7 x9 x10 x11 f_vars f_cells f_lengthLimit f_entryLimit f_n f_pc f_lostCells f_machine f_analysis f_count f_gone f_fixed a_prog a_at a_pend a_size a_place a_succ a_many a_num a_newSucc a_newMany :=
  pk_eq kind 4 (fun e => by omega) (fun _ => yv_233 (by omega) ht K)
theorem yv_215 {post : Int32 → Prop} (hk : kind ≤ 2) (ht : gr_tv x11 P) (K : ∀ r, gr_tv r P → post r) : wY_value_215 post x1 (nI kind) x4 x5 x7 x8 x9 x10 x11 f_vars f_cells f_lengthLimit f_entryLimit f_n f_pc f_lostCells f_machine f_analysis f_count f_gone f_fixed a_prog a_at a_pend a_size a_place a_succ a_many a_num a_newSucc a_newMany :=
  pk_eq kind 3 (fun e => by omega) (fun _ => yv_224 (by omega) ht K)
theorem yv_199 {post : Int32 → Prop} (hk : kind ≤ 1) (ht : gr_tv x11 P) (K : ∀ r, gr_tv r P → post r) : wY_value_199 post x1 (nI kind) x4 x5 x6 x7 x8 x9 x10 x11 f_vars f_cells f_lengthLimit f_entryLimit f_n f_pc f_lostCells f_machine f_analysis f_count f_gone f_fixed a_prog a_at a_pend a_size a_place a_succ a_many a_num a_newSucc a_newMany :=
  pk_eq kind 2 (fun e => by omega) (fun _ => yv_215 (by omega) ht K)
theorem yv_180 {post : Int32 → Prop} (hk : kind = 0) (ht : gr_tv x11 P) (K : ∀ r, gr_tv r P → post r) : wY_value_180 post x1 (nI kind) x4 x5 x6 x7 x8 x9 x10 x11 f_vars f_cells f_lengthLimit f_entryLimit f_n f_pc f_lostCells f_machine f_analysis f_count f_gone f_fixed a_prog a_at a_pend a_size a_place a_succ a_many a_num a_newSucc a_newMany :=
  pk_eq kind 1 (fun e => by omega) (fun _ => yv_199 (by omega) ht K)
/-- the tail of value, kind by kind -/
theorem yv_end {post : Int32 → Prop} {S : gr_S} {a bn vb : Nat} {b : Int32} (hs : s < 259) (hk : kind ≤ 6) (ha : a < vs) (hb : 1 ≤ kind → kind ≤ 3 → b = nI bn ∧ bn < vs ∧ vb = S.2.2.1 bn) (hvb : vb < S.1 ∨ vb = 40) (W : gr_W S.1 vs S.2.1 S.2.2.1) (hS : ∀ u, u < S.1 → a_succ (s * 40 + u) = gr_en (S.2.1 u))
    (h8 : gr_tv x8 (∃ u, u < 40 ∧ gr_to S.2.1 (S.2.2.1 a) u ∧ gr_to S.2.1 vb u)) (h9 : gr_tv x9 (∃ u, u < 40 ∧ gr_to S.2.1 (S.2.2.1 a) u ∧ gr_ld S.2.1 u u)) (h10 : gr_tv x10 (∃ u, u < 40 ∧ gr_to S.2.1 (S.2.2.1 a) u ∧ S.2.2.2 u = true))
    (h7 : x7 = nI (gr_cn (gr_to S.2.1 (S.2.2.1 a)) 40)) (K : ∀ r, gr_VS S kind a b bn r → post r) :
    ((nI kind = 0 → ((0 ≤ gr_en (S.2.2.1 a) → wY_value_178 post (nI s) (nI kind) b (gr_en (S.2.2.1 a)) (gr_en vb) x7 x8 x9 x10 0 f_vars f_cells f_lengthLimit f_entryLimit f_n f_pc f_lostCells f_machine f_analysis f_count f_gone f_fixed a_prog a_at a_pend a_size a_place a_succ a_many a_num a_newSucc a_newMany) ∧ (¬ 0 ≤ gr_en (S.2.2.1 a) → wY_value_178 post (nI s) (nI kind) b (gr_en (S.2.2.1 a)) (gr_en vb) x7 x8 x9 x10 1 f_vars f_cells f_lengthLimit f_entryLimit f_n f_pc f_lostCells f_machine f_analysis f_count f_gone f_fixed a_prog a_at a_pend a_size a_place a_succ a_many a_num a_newSucc a_newMany))) ∧
     (¬ nI kind = 0 → wY_value_180 post (nI s) (nI kind) b (gr_en (S.2.2.1 a)) (gr_en vb) x7 x8 x9 x10 0 f_vars f_cells f_lengthLimit f_entryLimit f_n f_pc f_lostCells f_machine f_analysis f_count f_gone f_fixed a_prog a_at a_pend a_size a_place a_succ a_many a_num a_newSucc a_newMany)) := by
  have hva := W.2.1 a ha
  have hn := W.1.1
  have neg : ¬ 0 ≤ gr_en (S.2.2.1 a) ↔ 40 ≤ S.2.2.1 a := by
    rw [← gr_en_neg (show S.2.2.1 a ≤ 41 by omega)]
    exact ⟨fun z => Int32.not_le.mp z, fun z => Int32.not_le.mpr z⟩
  refine pk_eq kind 0 (fun e => ?_) (fun e0 => ?_)
  · have mkV : ∀ r, gr_tv r (40 ≤ S.2.2.1 a) → post r := fun r hr => K r ⟨fun _ => hr, fun z => by omega, fun z => by omega, fun z => by omega, fun z => by omega, fun z => by omega, fun z => by omega⟩
    exact br_c (fun z => yv_180 e (gr_tv_f (fun w => neg.mpr w z)) mkV) (fun z => yv_180 e (gr_tv_t (neg.mp z)) mkV)
  · refine pk_eq kind 1 (fun e => ?_) (fun e1 => pk_eq kind 2 (fun e => ?_) (fun e2 => pk_eq kind 3 (fun e => ?_) (fun e3 => pk_eq kind 4 (fun e => ?_) (fun e4 => pk_eq kind 5 (fun e => ?_) (fun e5 => ?_)))))
    · obtain ⟨rfl, hbn, rfl⟩ := hb (by omega) (by omega)
      have mkV : ∀ r, gr_tv r (S.2.2.1 a = S.2.2.1 bn) → post r := fun r hr => K r ⟨fun z => by omega, fun _ => hr, fun z => by omega, fun z => by omega, fun z => by omega, fun z => by omega, fun z => by omega⟩
      exact br_c (fun z => yv_199 (by omega) (gr_tv_t (gr_en_i _ _ (by omega) (by omega) z)) mkV) (fun z => yv_199 (by omega) (gr_tv_f (fun w => z (by rw [w]))) mkV)
    · obtain ⟨rfl, hbn, rfl⟩ := hb (by omega) (by omega)
      have mkV : ∀ r, gr_tv r (S.2.2.1 a < 40 ∧ S.2.2.1 bn < 40 ∧ gr_to S.2.1 (S.2.2.1 a) (S.2.2.1 bn)) → post r := fun r hr => K r ⟨fun z => by omega, fun z => by omega, fun _ => hr, fun z => by omega, fun z => by omega, fun z => by omega, fun z => by omega⟩
      rcases Nat.lt_or_ge (S.2.2.1 bn) 40 with y | y
      · rw [gr_en_n y]
        refine yr_ok hs W.1 hS hva y (fun r hr => yv_215 (by omega) (gr_tv_iff ⟨fun w => ⟨?_, y, w⟩, fun w => w.2.2⟩ hr) mkV)
        rcases Nat.lt_or_ge (S.2.2.1 a) 40 with z | z
        · exact z
        · exact absurd w (gr_to_hi W.1 z y)
      · have e40 : S.2.2.1 bn = 40 := by omega
        rw [e40]
        unfold wpY_reaches
        dsimp only
        have fin : wY_value_215 post (nI s) (nI kind) (nI bn) (gr_en (S.2.2.1 a)) x7 x8 x9 x10 0 f_vars f_cells f_lengthLimit f_entryLimit f_n f_pc f_lostCells f_machine f_analysis f_count f_gone f_fixed a_prog a_at a_pend a_size a_place a_succ a_many a_num a_newSucc a_newMany := yv_215 (by omega) (gr_tv_f (fun w => by omega)) mkV
        exact br_c (fun _ => fin) (fun _ => br_t (by decide) fin)
    · obtain ⟨rfl, hbn, rfl⟩ := hb (by omega) (by omega)
      exact yv_224 (by omega) h8 (fun r hr => K r ⟨fun z => by omega, fun z => by omega, fun z => by omega, fun _ => hr, fun z => by omega, fun z => by omega, fun z => by omega⟩)
    · exact yv_233 (by omega) h9 (fun r hr => K r ⟨fun z => by omega, fun z => by omega, fun z => by omega, fun z => by omega, fun _ => hr, fun z => by omega, fun z => by omega⟩)
    · have mkV : ∀ r, gr_tv r (S.2.2.1 a < 40 ∧ 40 ≤ S.2.1 (S.2.2.1 a)) → post r := fun r hr => K r ⟨fun z => by omega, fun z => by omega, fun z => by omega, fun z => by omega, fun z => by omega, fun _ => hr, fun z => by omega⟩
      rcases Nat.lt_or_ge (S.2.2.1 a) 40 with z | z
      · refine br_f (fun w => by have := (gr_en_neg (by omega)).mp w; omega) ?_
        rw [gr_en_n z, ix_40, nI_clamp (by omega), hS _ (by omega)]
        have h41 := gr_le41 W.1 (S.2.2.1 a)
        have hne := W.2.2 _ (gr_R_v ha z)
        refine ⟨vp_in_nI (by omega) (by omega), br_c (fun y => yv_266 (by omega) (gr_tv_t ⟨z, ?_⟩) mkV) (fun y => yv_266 (by omega) (gr_tv_f (fun w => y ?_)) mkV)⟩
        · have := w.2
          rw [show S.2.1 (S.2.2.1 a) = 40 by omega]; rfl
        · have := (gr_en_m h41).mp y; omega
      · exact br_t ((gr_en_neg (by omega)).mpr z) (yv_266 (by omega) (gr_tv_f (fun w => by omega)) mkV)
    · have e6 : kind = 6 := by omega
      have mkV : ∀ r, ((b ≤ nI (gr_cn (gr_to S.2.1 (S.2.2.1 a)) 40) → r = 1) ∧ (¬ b ≤ nI (gr_cn (gr_to S.2.1 (S.2.2.1 a)) 40) → ((∃ u, u < 40 ∧ gr_to S.2.1 (S.2.2.1 a) u ∧ S.2.2.2 u = true) → r = 2) ∧ (¬ (∃ u, u < 40 ∧ gr_to S.2.1 (S.2.2.1 a) u ∧ S.2.2.2 u = true) → r = 0))) → post r := fun r hr =>
        K r ⟨fun z => by omega, fun z => by omega, fun z => by omega, fun z => by omega, fun z => by omega, fun z => by omega, fun _ => hr⟩
      refine pk_eq kind 6 (fun _ => ?_) (fun w => absurd e6 w)
      subst h7
      refine br_c (fun z => br_t rfl (pk_eq kind 6 (fun _ => ?_) (fun w => absurd e6 w))) (fun z => br_f (by decide) (mkV 1 ⟨fun _ => rfl, fun y => absurd (Int32.not_lt.mp z) y⟩))
      rcases h10 with ⟨rfl, q⟩ | ⟨rfl, q⟩
      · exact br_t rfl (mkV 0 ⟨fun y => absurd z (Int32.not_lt.mpr y), fun _ => ⟨fun y => absurd y q, fun _ => rfl⟩⟩)
      · exact br_f (by decide) (mkV 2 ⟨fun y => absurd z (Int32.not_lt.mpr y), fun _ => ⟨fun _ => rfl, fun y => absurd q y⟩⟩)
theorem gr_tv_ex {Q : Nat → Prop} {i : Nat} {r : Int32} (hr : gr_tv r (∃ u, u < i ∧ Q u)) (hn : ¬ Q i) : gr_tv r (∃ u, u < i + 1 ∧ Q u) := by
  refine gr_tv_iff ⟨fun ⟨u, a, b⟩ => ⟨u, by omega, b⟩, fun ⟨u, a, b⟩ => ⟨u, ?_, b⟩⟩ hr
  rcases Nat.decEq u i with y | y
  · omega
  · rw [y] at b; exact absurd b hn
theorem yv_57 {post : Int32 → Prop} {S : gr_S} {a bn vb : Nat} {b : Int32} (hs : s < 259) (hk : kind ≤ 6) (ha : a < vs) (hvs : vs ≤ 3) (hb : 1 ≤ kind → kind ≤ 3 → b = nI bn ∧ bn < vs ∧ vb = S.2.2.1 bn) (hvb : vb < S.1 ∨ vb = 40) (W : gr_W S.1 vs S.2.1 S.2.2.1) (T : yS vs s S a_size a_place a_succ a_many)
    (K : ∀ r, gr_VS S kind a b bn r → post r) :
    ∀ d i x8 x9 x10, i + d = S.1 → gr_tv x8 (∃ u, u < i ∧ gr_to S.2.1 (S.2.2.1 a) u ∧ gr_to S.2.1 vb u) → gr_tv x9 (∃ u, u < i ∧ gr_to S.2.1 (S.2.2.1 a) u ∧ gr_ld S.2.1 u u) → gr_tv x10 (∃ u, u < i ∧ gr_to S.2.1 (S.2.2.1 a) u ∧ S.2.2.2 u = true) →
      wY_value_57 post (nI s) (nI kind) b (gr_en (S.2.2.1 a)) (gr_en vb) 0 f_vars f_cells f_lengthLimit f_entryLimit f_n f_pc f_lostCells f_machine f_analysis f_count f_gone f_fixed a_prog a_at a_pend a_size a_place a_succ a_many a_num a_newSucc a_newMany (d + 1) (nI (gr_cn (gr_to S.2.1 (S.2.2.1 a)) i)) x8 x9 x10 (nI i) := by
  obtain ⟨t1, t2, t3, t4⟩ := T
  have hn := W.1.1
  have hva := W.2.1 a ha
  have small : ∀ u, u < 40 → gr_to S.2.1 (S.2.2.1 a) u → u < S.1 := fun u hu q => gr_R_n W.1 W.2.1 ⟨hu, a, ha, q⟩
  intro d
  induction d with
  | zero =>
    intro i x8 x9 x10 hi h8 h9 h10
    have e : i = S.1 := by omega
    subst e
    refine And.intro (vp_in_nI hs (by omega)) ?_
    rw [nI_clamp (by omega), t1]
    refine br_t (nI_le (by omega) (by omega)) ?_
    refine yv_end hs hk ha hb hvb W t3 (gr_tv_iff ⟨fun ⟨u, p, q⟩ => ⟨u, by omega, q⟩, fun ⟨u, p, q⟩ => ⟨u, small u p q.1, q⟩⟩ h8) (gr_tv_iff ⟨fun ⟨u, p, q⟩ => ⟨u, by omega, q⟩, fun ⟨u, p, q⟩ => ⟨u, small u p q.1, q⟩⟩ h9) (gr_tv_iff ⟨fun ⟨u, p, q⟩ => ⟨u, by omega, q⟩, fun ⟨u, p, q⟩ => ⟨u, small u p q.1, q⟩⟩ h10) (congrArg nI ?_) K
    have ext : ∀ m, S.1 + m ≤ 40 → gr_cn (gr_to S.2.1 (S.2.2.1 a)) (S.1 + m) = gr_cn (gr_to S.2.1 (S.2.2.1 a)) S.1 := by
      intro m
      induction m with
      | zero => intro _; rfl
      | succ m ih =>
        intro hm
        show gr_cn (gr_to S.2.1 (S.2.2.1 a)) (S.1 + m) + gr_b1 (gr_to S.2.1 (S.2.2.1 a) (S.1 + m)) = _
        rw [ih (by omega), gr_b1_f (fun q => by have := small _ (by omega) q; omega)]
        rfl
    have := ext (40 - S.1) (by omega)
    rw [show S.1 + (40 - S.1) = 40 by omega] at this
    exact this.symm
  | succ d ih =>
    intro i x8 x9 x10 hi h8 h9 h10
    refine And.intro (vp_in_nI hs (by omega)) ?_
    rw [nI_clamp (by omega), t1]
    refine br_f (nI_ge (by omega) (by omega)) (yr_ok hs W.1 t3 hva (by omega) (fun r hr => ?_))
    rcases hr with ⟨rfl, q⟩ | ⟨rfl, q⟩
    · have := ih (i + 1) x8 x9 x10 (by omega) (gr_tv_ex h8 (fun w => q w.1)) (gr_tv_ex h9 (fun w => q w.1)) (gr_tv_ex h10 (fun w => q w.1))
      simp only [gr_cn] at this
      rw [gr_b1_f q] at this
      exact br_t rfl (nm_r (nI_1 i) this)
    · refine br_f (by decide) (nm_r (nI_1 _) ?_)
      have ih2 := fun y8 y9 y10 => ih (i + 1) y8 y9 y10 (by omega)
      simp only [gr_cn] at ih2
      rw [gr_b1_t q] at ih2
      have R : ∀ y8 y10, gr_tv y8 (∃ u, u < i + 1 ∧ gr_to S.2.1 (S.2.2.1 a) u ∧ gr_to S.2.1 vb u) → gr_tv y10 (∃ u, u < i + 1 ∧ gr_to S.2.1 (S.2.2.1 a) u ∧ S.2.2.2 u = true) →
          wY_value_132 post (wY_value_57 post (nI s) (nI kind) b (gr_en (S.2.2.1 a)) (gr_en vb) 0 f_vars f_cells f_lengthLimit f_entryLimit f_n f_pc f_lostCells f_machine f_analysis f_count f_gone f_fixed a_prog a_at a_pend a_size a_place a_succ a_many a_num a_newSucc a_newMany (d + 1)) (nI s) (nI kind) b (gr_en (S.2.2.1 a)) (gr_en vb) (nI (gr_cn (gr_to S.2.1 (S.2.2.1 a)) i + 1)) x9 y10 0 (nI i) y8 f_vars f_cells f_lengthLimit f_entryLimit f_n f_pc f_lostCells f_machine f_analysis f_count f_gone f_fixed a_prog a_at a_pend a_size a_place a_succ a_many a_num a_newSucc a_newMany := by
        intro y8 y10 g8 g10
        rcases h9 with ⟨rfl, w⟩ | ⟨rfl, w⟩
        · refine br_t rfl (yl_ok hs W.1 t3 (by omega) (by omega) (fun r hr => ?_))
          rcases hr with ⟨rfl, y⟩ | ⟨rfl, y⟩
          · exact br_t rfl (nm_r (nI_1 i) (ih2 y8 0 y10 g8 (gr_tv_ex (gr_tv_f w) (fun z => y z.2)) g10))
          · exact br_f (by decide) (nm_r (nI_1 i) (ih2 y8 1 y10 g8 (gr_tv_t ⟨i, by omega, q, y⟩) g10))
        · obtain ⟨u, p1, p2⟩ := w
          exact br_f (by decide) (nm_r (nI_1 i) (ih2 y8 1 y10 g8 (gr_tv_t ⟨u, by omega, p2⟩) g10))
      have M : ∀ y10, gr_tv y10 (∃ u, u < i + 1 ∧ gr_to S.2.1 (S.2.2.1 a) u ∧ S.2.2.2 u = true) →
          wY_value_108 post (wY_value_57 post (nI s) (nI kind) b (gr_en (S.2.2.1 a)) (gr_en vb) 0 f_vars f_cells f_lengthLimit f_entryLimit f_n f_pc f_lostCells f_machine f_analysis f_count f_gone f_fixed a_prog a_at a_pend a_size a_place a_succ a_many a_num a_newSucc a_newMany (d + 1)) (nI s) (nI kind) b (gr_en (S.2.2.1 a)) (gr_en vb) (nI (gr_cn (gr_to S.2.1 (S.2.2.1 a)) i + 1)) x8 x9 0 (nI i) y10 f_vars f_cells f_lengthLimit f_entryLimit f_n f_pc f_lostCells f_machine f_analysis f_count f_gone f_fixed a_prog a_at a_pend a_size a_place a_succ a_many a_num a_newSucc a_newMany := by
        intro y10 g10
        rcases h8 with ⟨rfl, w⟩ | ⟨rfl, w⟩
        · refine br_t rfl (yr_ok hs W.1 t3 hvb (by omega) (fun r hr => ?_))
          rcases hr with ⟨rfl, y⟩ | ⟨rfl, y⟩
          · exact br_t rfl (R 0 y10 (gr_tv_ex (gr_tv_f w) (fun z => y z.2)) g10)
          · exact br_f (by decide) (R 1 y10 (gr_tv_t ⟨i, by omega, q, y⟩) g10)
        · obtain ⟨u, p1, p2⟩ := w
          exact br_f (by decide) (R 1 y10 (gr_tv_t ⟨u, by omega, p2⟩) g10)
      rcases h10 with ⟨rfl, w⟩ | ⟨rfl, w⟩
      · refine br_t rfl ?_
        rw [ix_40, nI_clamp (by omega), t4 i (by omega)]
        refine ⟨vp_in_nI (by omega) (by omega), br_c (fun z => M 0 (gr_tv_ex (gr_tv_f w) (fun y => ?_))) (fun z => M 1 (gr_tv_t ⟨i, by omega, q, ?_⟩))⟩
        · have := y.2
          rw [gr_b_0.mp z] at this; exact absurd this (by decide)
        · cases hh : S.2.2.2 i
          · exact absurd (gr_b_0.mpr hh) z
          · rfl
      · obtain ⟨u, p1, p2⟩ := w
        exact br_f (by decide) (M 1 (gr_tv_t ⟨u, by omega, p2⟩))
theorem yv_ok {post : Int32 → Prop} {S : gr_S} {a bn : Nat} {b : Int32} (hs : s < 259) (hk : kind ≤ 6) (ha : a < vs) (hvs : vs ≤ 3) (hb : 1 ≤ kind → kind ≤ 3 → b = nI bn ∧ bn < vs) (W : gr_W S.1 vs S.2.1 S.2.2.1) (T : yS vs s S a_size a_place a_succ a_many)
    (K : ∀ r, gr_VS S kind a b bn r → post r) : wpY_value post (f_vars, f_cells, f_lengthLimit, f_entryLimit, f_n, f_pc, f_lostCells, f_machine, f_analysis, f_count, f_gone, f_fixed, a_prog, a_at, a_pend, a_size, a_place, a_succ, a_many, a_num, a_newSucc, a_newMany) (nI s) (nI kind) (nI a) b := by
  have run : ∀ vb, (1 ≤ kind → kind ≤ 3 → b = nI bn ∧ bn < vs ∧ vb = S.2.2.1 bn) → (vb < S.1 ∨ vb = 40) → ∃ n57 : Nat, wY_value_57 post (nI s) (nI kind) b (gr_en (S.2.2.1 a)) (gr_en vb) 0 f_vars f_cells f_lengthLimit f_entryLimit f_n f_pc f_lostCells f_machine f_analysis f_count f_gone f_fixed a_prog a_at a_pend a_size a_place a_succ a_many a_num a_newSucc a_newMany n57 0 0 0 0 0 := fun vb h1 h2 =>
    Exists.intro (S.1 + 1) (yv_57 hs hk ha hvs h1 h2 W T K S.1 0 0 0 0 (by omega) (gr_tv_f (fun ⟨u, p, _⟩ => by omega)) (gr_tv_f (fun ⟨u, p, _⟩ => by omega)) (gr_tv_f (fun ⟨u, p, _⟩ => by omega)))
  unfold wpY_value
  dsimp only
  rw [ix_3, nI_clamp (by omega)]
  refine ⟨vp_in_nI (by omega) (by omega), nm_r (T.2.1 a ha) (pk_lt kind 1 (fun e => run 40 (fun z => by omega) (Or.inr rfl)) (fun e1 => pk_lt 3 kind (fun e => run 40 (fun _ z => by omega) (Or.inr rfl)) (fun e2 => ?_)))⟩
  obtain ⟨rfl, hbn⟩ := hb (by omega) (by omega)
  rw [ix_3, nI_clamp (by omega), T.2.1 bn hbn]
  exact ⟨vp_in_nI (by omega) (by omega), run _ (fun _ _ => ⟨rfl, hbn, rfl⟩) (W.2.1 bn hbn)⟩
end
end
section
/-! Y: freeNode, effect -/
def ys_I (i op a b t : Nat) (a_prog : Nat → Int32) : Prop := a_prog (i * 4) = nI op ∧ a_prog (i * 4 + 1) = gr_ex a ∧ a_prog (i * 4 + 2) = gr_ex b ∧ a_prog (i * 4 + 3) = gr_ex t
theorem ix_4b (s : Nat) : nI s * 4 = nI (s * 4) := by rw [show (4 : Int32) = nI 4 from rfl, pk_mul]
theorem ys_F0 {s : Nat} {sz pl su ma : Nat → Int32} : ys_F s sz pl su ma sz pl su ma := fun _ _ => ⟨rfl, fun _ _ => rfl, fun _ _ => rfl, fun _ _ => rfl⟩
theorem ys_Ft {s : Nat} {sz pl su ma sz' pl' su' ma' sz2 pl2 su2 ma2 : Nat → Int32} (F : ys_F s sz pl su ma sz' pl' su' ma') (G : ys_F s sz' pl' su' ma' sz2 pl2 su2 ma2) : ys_F s sz pl su ma sz2 pl2 su2 ma2 := fun s' h => by
  obtain ⟨f1, f2, f3, f4⟩ := F s' h
  obtain ⟨g1, g2, g3, g4⟩ := G s' h
  exact ⟨g1.trans f1, fun x hx => (g2 x hx).trans (f2 x hx), fun u hu => (g3 u hu).trans (f3 u hu), fun u hu => (g4 u hu).trans (f4 u hu)⟩
theorem ysF_pl {s a : Nat} {v : Int32} {sz pl su ma : Nat → Int32} (ha : a < 3) : ys_F s sz pl su ma sz (upd pl (s * 3 + a) v) su ma := fun s' h => ⟨rfl, fun x hx => pk_un (by omega), fun _ _ => rfl, fun _ _ => rfl⟩
theorem ysF_su {s p : Nat} {v : Int32} {sz pl su ma : Nat → Int32} (hp : p < 40) : ys_F s sz pl su ma sz pl (upd su (s * 40 + p) v) ma := fun s' h => ⟨rfl, fun _ _ => rfl, fun u hu => pk_un (by omega), fun _ _ => rfl⟩
theorem ysF_ma {s p : Nat} {v : Int32} {sz pl su ma : Nat → Int32} (hp : p < 40) : ys_F s sz pl su ma sz pl su (upd ma (s * 40 + p) v) := fun s' h => ⟨rfl, fun _ _ => rfl, fun _ _ => rfl, fun u hu => pk_un (by omega)⟩
theorem ysF_sz {s : Nat} {v : Int32} {sz pl su ma : Nat → Int32} : ys_F s sz pl su ma (upd sz s v) pl su ma := fun s' h => ⟨pk_un h, fun _ _ => rfl, fun _ _ => rfl, fun _ _ => rfl⟩
section
variable {vs s i op a b t k fr : Nat} {S : gr_S}
theorem yS_va {sz pl su ma : Nat → Int32} {v : Int32} {w : Nat} (T : yS vs s S sz pl su ma) (hv : v = gr_en w) : yS vs s (S.1, S.2.1, gr_up S.2.2.1 a w, S.2.2.2) sz (upd pl (s * 3 + a) v) su ma := by
  refine ⟨T.1, fun x hx => ?_, T.2.2.1, T.2.2.2⟩
  show _ = gr_en (gr_up S.2.2.1 a w x)
  rcases Nat.decEq x a with z | z
  · rw [pk_un (by omega), gr_up_n z]; exact T.2.1 x hx
  · rw [z, pk_us, gr_up_s]; exact hv
theorem yS_h {sz pl su ma : Nat → Int32} {v : Int32} {w p : Nat} (T : yS vs s S sz pl su ma) (hv : v = gr_en w) : yS vs s (S.1, gr_up S.2.1 p w, S.2.2.1, S.2.2.2) sz pl (upd su (s * 40 + p) v) ma := by
  refine ⟨T.1, T.2.1, fun u hu => ?_, T.2.2.2⟩
  show _ = gr_en (gr_up S.2.1 p w u)
  rcases Nat.decEq u p with z | z
  · rw [pk_un (by omega), gr_up_n z]; exact T.2.2.1 u hu
  · rw [z, pk_us, gr_up_s]; exact hv
theorem yS_m {sz pl su ma : Nat → Int32} {p : Nat} (T : yS vs s S sz pl su ma) : yS vs s (S.1, S.2.1, S.2.2.1, gr_up S.2.2.2 p false) sz pl su (upd ma (s * 40 + p) (vp_nar .boolean 0)) := by
  refine ⟨T.1, T.2.1, T.2.2.1, fun u hu => ?_⟩
  show _ = gr_b (gr_up S.2.2.2 p false u)
  rcases Nat.decEq u p with z | z
  · rw [pk_un (by omega), gr_up_n z]; exact T.2.2.2 u hu
  · rw [z, pk_us, gr_up_s]; rfl
variable {f_vars f_cells f_lengthLimit f_entryLimit f_n f_pc f_lostCells f_machine f_analysis f_count f_gone f_fixed : Int32} {a_prog a_at a_pend a_size a_place a_succ a_many a_num a_newSucc a_newMany : Nat → Int32}
theorem yf_2 {post : Int32 → Prop} (hs : s < 259) (hn : S.1 ≤ 40) (h41 : ∀ u, S.2.1 u ≤ 41) (T : yS vs s S a_size a_place a_succ a_many) (F : gr_fr S.1 S.2.1 fr) (K : post (nI fr)) : ∀ d j, j + d = S.1 → j ≤ fr → wY_freeNode_2 post (nI s) f_vars f_cells f_lengthLimit f_entryLimit f_n f_pc f_lostCells f_machine f_analysis f_count f_gone f_fixed a_prog a_at a_pend a_size a_place a_succ a_many a_num a_newSucc a_newMany (d + 1) (nI j) := by
  intro d
  induction d with
  | zero =>
    intro j hj hf
    refine And.intro (vp_in_nI hs (by omega)) ?_
    rw [nI_clamp (by omega), T.1]
    have e : fr = S.1 := by rcases F with z | z <;> omega
    rw [e] at K
    exact br_t (nI_le (by omega) (by omega)) ⟨vp_in_nI hs (by omega), K⟩
  | succ d ih =>
    intro j hj hf
    refine And.intro (vp_in_nI hs (by omega)) ?_
    rw [nI_clamp (by omega), T.1]
    refine br_f (nI_ge (by omega) (by omega)) ?_
    rw [ix_40, nI_clamp (by omega), T.2.2.1 j (by omega)]
    refine ⟨vp_in_nI (by omega) (by omega), ?_⟩
    rcases Nat.decEq j fr with z | z
    · have hne : S.2.1 j ≠ 41 := by
        rcases F with y | y
        · exact y.2.2 j (by omega)
        · exact y.2 j (by omega)
      exact br_f (fun e => hne ((gr_en_8 (h41 j)).mp e)) (nm_r (nI_1 j) (ih (j + 1) (by omega) (by omega)))
    · have hne : S.2.1 j = 41 := by
        rcases F with y | y
        · rw [z]; exact y.2.1
        · omega
      refine br_t ((gr_en_8 (h41 j)).mpr hne) ?_
      rw [z]; exact K
theorem yf_free {post : Int32 → Prop} (hs : s < 259) (hn : S.1 ≤ 40) (h41 : ∀ u, S.2.1 u ≤ 41) (T : yS vs s S a_size a_place a_succ a_many) (F : gr_fr S.1 S.2.1 fr) (K : post (nI fr)) : wpY_freeNode post (f_vars, f_cells, f_lengthLimit, f_entryLimit, f_n, f_pc, f_lostCells, f_machine, f_analysis, f_count, f_gone, f_fixed, a_prog, a_at, a_pend, a_size, a_place, a_succ, a_many, a_num, a_newSucc, a_newMany) (nI s) :=
  Exists.intro (S.1 + 1) (yf_2 hs hn h41 T F K S.1 0 (by omega) (by omega))
/-- the end of effect: where to go -/
theorem yf_398 {post : Int32 → SY → Prop} {ua vb q : Nat} (hi : i < 32) (hop : op ≤ 9) (hk : k ≤ 1) (hua : ua ≤ 41) (hvb : vb ≤ 41) (ht : 6 ≤ op → t ≤ 32) (hp : a_prog (i * 4 + 3) = gr_ex t)
    (h1 : ((op = 6 ∧ 40 ≤ ua) ∨ (op = 7 ∧ ua = vb) ∨ (op = 8 ∧ k = 1) ∨ op = 9) → q = t) (h2 : ¬ ((op = 6 ∧ 40 ≤ ua) ∨ (op = 7 ∧ ua = vb) ∨ (op = 8 ∧ k = 1) ∨ op = 9) → q = i + 1) (K : post (nI q) (f_vars, f_cells, f_lengthLimit, f_entryLimit, f_n, f_pc, f_lostCells, f_machine, f_analysis, f_count, f_gone, f_fixed, a_prog, a_at, a_pend, a_size, a_place, a_succ, a_many, a_num, a_newSucc, a_newMany)) :
    wY_effect_398 post (nI i) (nI k) (nI op) (gr_en ua) (gr_en vb) f_vars f_cells f_lengthLimit f_entryLimit f_n f_pc f_lostCells f_machine f_analysis f_count f_gone f_fixed a_prog a_at a_pend a_size a_place a_succ a_many a_num a_newSucc a_newMany := by
  have T : ((op = 6 ∧ 40 ≤ ua) ∨ (op = 7 ∧ ua = vb) ∨ (op = 8 ∧ k = 1) ∨ op = 9) → wY_effect_443 post (nI i) f_vars f_cells f_lengthLimit f_entryLimit f_n f_pc f_lostCells f_machine f_analysis f_count f_gone f_fixed a_prog a_at a_pend a_size a_place a_succ a_many a_num a_newSucc a_newMany := by
    intro w
    have h6 : 6 ≤ op := by rcases w with w | w | w | w <;> omega
    have := ht h6
    unfold wY_effect_443 wY_effect_448
    rw [ix_4 i 3 |> (fun e => show nI i * 4 + 3 = nI (i * 4 + 3) from e), nI_clamp (by omega), hp, gr_ex_n (by omega), ← h1 w]
    exact br_f (by decide) ⟨vp_in_nI (by omega) (by omega), K⟩
  have f436 : ¬ (op = 6 ∧ 40 ≤ ua) → ¬ (op = 7 ∧ ua = vb) → ¬ (op = 8 ∧ k = 1) → wY_effect_436 post (nI i) (nI op) f_vars f_cells f_lengthLimit f_entryLimit f_n f_pc f_lostCells f_machine f_analysis f_count f_gone f_fixed a_prog a_at a_pend a_size a_place a_succ a_many a_num a_newSucc a_newMany := by
    intro n6 n7 n8
    refine pk_eq op 9 (fun e => T (Or.inr (Or.inr (Or.inr e)))) (fun e => br_t rfl ?_)
    rw [nI_1, ← h2 (fun w => by rcases w with w | w | w | w <;> first | exact n6 w | exact n7 w | exact n8 w | exact e w)]
    exact K
  have f424 : ¬ (op = 6 ∧ 40 ≤ ua) → ¬ (op = 7 ∧ ua = vb) → wY_effect_424 post (nI i) (nI k) (nI op) f_vars f_cells f_lengthLimit f_entryLimit f_n f_pc f_lostCells f_machine f_analysis f_count f_gone f_fixed a_prog a_at a_pend a_size a_place a_succ a_many a_num a_newSucc a_newMany := fun n6 n7 =>
    pk_eq op 8 (fun e => pk_eq k 1 (fun e1 => T (Or.inr (Or.inr (Or.inl ⟨e, e1⟩)))) (fun e1 => f436 n6 n7 (fun w => e1 w.2))) (fun e => f436 n6 n7 (fun w => e w.1))
  have f410 : ¬ (op = 6 ∧ 40 ≤ ua) → wY_effect_410 post (nI i) (nI k) (nI op) (gr_en ua) (gr_en vb) f_vars f_cells f_lengthLimit f_entryLimit f_n f_pc f_lostCells f_machine f_analysis f_count f_gone f_fixed a_prog a_at a_pend a_size a_place a_succ a_many a_num a_newSucc a_newMany := fun n6 =>
    pk_eq op 7 (fun e => br_c (fun z => T (Or.inr (Or.inl ⟨e, gr_en_i _ _ hua hvb z⟩))) (fun z => f424 n6 (fun w => z (by rw [w.2])))) (fun e => f424 n6 (fun w => e w.1))
  exact pk_eq op 6 (fun e => br_c (fun z => T (Or.inl ⟨e, (gr_en_neg hua).mp z⟩)) (fun z => f410 (fun w => z ((gr_en_neg hua).mpr w.2)))) (fun e => f410 (fun w => e w.1))
/-- effect without a new node -/
theorem yf_280 {post : Int32 → SY → Prop} {ua vb : Nat} (hs : s < 259) (hvs : vs ≤ 3) (I : gr_ins vs op a b t) (W : gr_W S.1 vs S.2.1 S.2.2.1) (T : yS vs s S a_size a_place a_succ a_many) (h2 : op ≠ 2) (hok : ¬ gr_bad op a b S) (hua : op ≤ 7 → ua = S.2.2.1 a) (hvb : (op = 1 ∨ op = 3 ∨ op = 4 ∨ op = 7) → vb = S.2.2.1 b)
    (K : ∀ sz pl su ma, yS vs s (gr_old op a b S) sz pl su ma → ys_F s a_size a_place a_succ a_many sz pl su ma → wY_effect_398 post (nI i) (nI k) (nI op) (gr_en ua) (gr_en vb) f_vars f_cells f_lengthLimit f_entryLimit f_n f_pc f_lostCells f_machine f_analysis f_count f_gone f_fixed a_prog a_at a_pend sz pl su ma a_num a_newSucc a_newMany) :
    wY_effect_280 post (nI s) (nI i) (nI k) (nI op) (gr_ex a) (nI (s * 40)) (gr_en ua) (gr_en vb) (gr_en (gr_w op b S)) (gr_b (gr_fo op b S)) f_vars f_cells f_lengthLimit f_entryLimit f_n f_pc f_lostCells f_machine f_analysis f_count f_gone f_fixed a_prog a_at a_pend a_size a_place a_succ a_many a_num a_newSucc a_newMany := by
  obtain ⟨i1, i2, i3, i4, i5, i6, i7⟩ := I
  have hn := W.1.1
  unfold wY_effect_280
  refine pk_eq op 3 (fun e => ?_) (fun n3 => pk_eq op 0 (fun e => ?_) (fun n0 => pk_eq op 1 (fun e => ?_) (fun n1 => pk_eq op 4 (fun e => ?_) (fun n4 => pk_eq op 5 (fun e => ?_) (fun n5 => ?_)))))
  · subst e
    have ha := i2 (by omega)
    have hb := i4 (by omega)
    have T1 : yS vs s (S.1, S.2.1, gr_up S.2.2.1 a (gr_w 3 b S), S.2.2.2) a_size (upd a_place (s * 3 + a) (gr_en (gr_w 3 b S))) a_succ a_many := yS_va T rfl
    cases hf : gr_fo 3 b S
    · refine br_t rfl ?_
      unfold wY_effect_302
      rw [gr_ex_n (show a < 40 by omega), ix_3, nI_clamp (by omega)]
      refine ⟨vp_in_nI (by omega) (by omega), nm_e (K _ _ _ _ ?_ (ysF_pl (by omega)))⟩
      have e : gr_old 3 a b S = (S.1, S.2.1, gr_up S.2.2.1 a (gr_w 3 b S), S.2.2.2) := by
        unfold gr_old; rw [if_pos rfl, hf]; rfl
      rw [e]; exact T1
    · have hw := (gr_fo_lt hf).1
      refine br_f (by decide) ?_
      rw [gr_en_n hw, nI_add, nI_clamp (by omega)]
      refine ⟨vp_in_nI (by omega) (by omega), nm_e ?_⟩
      unfold wY_effect_302
      rw [gr_ex_n (show a < 40 by omega), ix_3, nI_clamp (by omega)]
      refine ⟨vp_in_nI (by omega) (by omega), nm_e (K _ _ _ _ ?_ (ys_Ft (ysF_ma hw) (ysF_pl (by omega))))⟩
      have e : gr_old 3 a b S = (S.1, S.2.1, gr_up S.2.2.1 a (gr_w 3 b S), gr_up S.2.2.2 (gr_w 3 b S) false) := by
        unfold gr_old; rw [if_pos rfl, hf]; rfl
      rw [e]
      exact yS_va (yS_m T) (gr_en_n hw).symm
  · subst e
    have ha := i2 (by omega)
    rw [gr_ex_n (show a < 40 by omega), ix_3, nI_clamp (by omega)]
    exact ⟨vp_in_nI (by omega) (by omega), nm_e (K _ _ _ _ (yS_va (w := 40) T rfl) (ysF_pl (by omega)))⟩
  · subst e
    have ha := i2 (by omega)
    have hb := i4 (by omega)
    rw [gr_ex_n (show a < 40 by omega), ix_3, nI_clamp (by omega)]
    exact ⟨vp_in_nI (by omega) (by omega), nm_e (K _ _ _ _ (yS_va T (by rw [hvb (by omega)])) (ysF_pl (by omega)))⟩
  · subst e
    have ha := i2 (by omega)
    have hb := i4 (by omega)
    have hl : S.2.2.1 a < S.1 := by
      rcases W.2.1 a ha with z | z
      · exact z
      · exact absurd (Or.inr ⟨Or.inl rfl, by omega⟩) hok
    have eu := hua (by omega)
    have hu40 : ua < 40 := by omega
    have K' := K a_size a_place (upd a_succ (s * 40 + ua) (gr_en vb)) a_many (by rw [eu, hvb (by omega)]; exact yS_h T rfl) (ysF_su (by omega))
    rw [gr_en_n hu40] at K' ⊢
    rw [nI_add, nI_clamp (by omega)]
    exact ⟨vp_in_nI (by omega) (by omega), nm_e K'⟩
  · subst e
    have ha := i2 (by omega)
    have hl : S.2.2.1 a < S.1 := by
      rcases W.2.1 a ha with z | z
      · exact z
      · exact absurd (Or.inr ⟨Or.inr rfl, by omega⟩) hok
    have eu := hua (by omega)
    have hu40 : ua < 40 := by omega
    have K' := K a_size a_place (upd a_succ (s * 40 + ua) (-1)) a_many (by rw [eu]; exact yS_h (w := 40) T rfl) (ysF_su (by omega))
    rw [gr_en_n hu40] at K' ⊢
    rw [nI_add, nI_clamp (by omega)]
    exact ⟨vp_in_nI (by omega) (by omega), nm_e K'⟩
  · refine K _ _ _ _ ?_ ys_F0
    have e : gr_old op a b S = S := by
      unfold gr_old
      rw [if_neg n3, if_neg n0, if_neg n1, if_neg n4, if_neg n5]
    rw [e]; exact T
/-- effect with a new node -/
theorem yf_196 {post : Int32 → SY → Prop} {ua vb : Nat} (hs : s < 259) (hvs : vs ≤ 3) (I : gr_ins vs op a b t) (W : gr_W S.1 vs S.2.1 S.2.2.1) (T : yS vs s S a_size a_place a_succ a_many) (hop : op = 2 ∨ op = 3) (hok : ¬ gr_bad op a b S) (F : gr_fr S.1 S.2.1 fr) (h40 : fr < 40) (hvb : op = 3 → vb = S.2.2.1 b)
    (K : ∀ sz pl su ma, yS vs s (gr_new a b (gr_w op b S) fr (gr_fo op b S) S) sz pl su ma → ys_F s a_size a_place a_succ a_many sz pl su ma → wY_effect_398 post (nI i) (nI k) (nI op) (gr_en ua) (gr_en vb) f_vars f_cells f_lengthLimit f_entryLimit f_n f_pc f_lostCells f_machine f_analysis f_count f_gone f_fixed a_prog a_at a_pend sz pl su ma a_num a_newSucc a_newMany) :
    wY_effect_196 post (nI s) (nI i) (nI k) (nI op) (gr_ex a) (nI (s * 40)) (gr_en ua) (gr_en vb) (gr_en (gr_w op b S)) (gr_b (gr_fo op b S)) f_vars f_cells f_lengthLimit f_entryLimit f_n f_pc f_lostCells f_machine f_analysis f_count f_gone f_fixed a_prog a_at a_pend a_size a_place a_succ a_many a_num a_newSucc a_newMany := by
  obtain ⟨i1, i2, i3, i4, i5, i6, i7⟩ := I
  have hn := W.1.1
  have ha := i2 (by omega)
  have hfn : fr ≤ S.1 := by rcases F with z | z <;> omega
  have go : ∀ sz, sz s = nI (if fr = S.1 then S.1 + 1 else S.1) → ys_F s a_size a_place a_succ a_many sz a_place a_succ a_many → wY_effect_224 post (nI s) (nI i) (nI k) (nI op) (gr_ex a) (nI (s * 40)) (gr_en ua) (gr_en vb) (gr_en (gr_w op b S)) (gr_b (gr_fo op b S)) (nI fr) f_vars f_cells f_lengthLimit f_entryLimit f_n f_pc f_lostCells f_machine f_analysis f_count f_gone f_fixed a_prog a_at a_pend sz a_place a_succ a_many a_num a_newSucc a_newMany := by
    intro sz hsz Fz
    have Th : ∀ u, u < (if fr = S.1 then S.1 + 1 else S.1) → upd a_succ (s * 40 + fr) (gr_en (gr_w op b S)) (s * 40 + u) = gr_en (gr_up S.2.1 fr (gr_w op b S) u) := fun u hu => by
      rcases Nat.decEq u fr with z | z
      · rw [pk_un (by omega), gr_up_n z]
        refine T.2.2.1 u ?_
        split at hu <;> omega
      · rw [z, pk_us, gr_up_s]
    have Tm : ∀ u, u < (if fr = S.1 then S.1 + 1 else S.1) → upd a_many (s * 40 + fr) (vp_nar .boolean 0) (s * 40 + u) = gr_b (gr_up S.2.2.2 fr false u) := fun u hu => by
      rcases Nat.decEq u fr with z | z
      · rw [pk_un (by omega), gr_up_n z]
        refine T.2.2.2 u ?_
        split at hu <;> omega
      · rw [z, pk_us, gr_up_s]; rfl
    have Tv : ∀ x, x < vs → upd a_place (s * 3 + a) (nI fr) (s * 3 + x) = gr_en (gr_up S.2.2.1 a fr x) := fun x hx => by
      rcases Nat.decEq x a with z | z
      · rw [pk_un (by omega), gr_up_n z]; exact T.2.1 x hx
      · rw [z, pk_us, gr_up_s]; exact (gr_en_n h40).symm
    unfold wY_effect_224
    rw [nI_add, nI_clamp (by omega)]
    refine ⟨vp_in_nI (by omega) (by omega), nm_e ⟨vp_in_nI (by omega) (by omega), nm_e ?_⟩⟩
    cases hf : gr_fo op b S
    · refine br_t rfl ?_
      unfold wY_effect_264
      rw [gr_ex_n (show a < 40 by omega), ix_3, nI_clamp (by omega)]
      refine ⟨vp_in_nI (by omega) (by omega), nm_e (K _ _ _ _ ?_ (ys_Ft Fz (ys_Ft (ysF_su h40) (ys_Ft (ysF_ma h40) (ysF_pl (by omega))))))⟩
      rw [hf]
      exact ⟨hsz, Tv, Th, Tm⟩
    · have h3 : op = 3 := by
        rcases hop with z | z
        · rw [gr_fo_n (by omega)] at hf; exact absurd hf (by decide)
        · exact z
      have hb := i4 (by omega)
      have hl : S.2.2.1 b < S.1 := by
        rcases W.2.1 b hb with z | z
        · exact z
        · exact absurd (Or.inl ⟨h3, by omega⟩) hok
      have ev := hvb h3
      have hv40 : vb < 40 := by omega
      have K' := fun sz pl su ma => K sz pl su ma
      refine br_f (by decide) ?_
      unfold wY_effect_264
      rw [gr_en_n hv40] at K' ⊢
      rw [nI_add, nI_clamp (by omega), gr_ex_n (show a < 40 by omega), ix_3, nI_clamp (by omega)]
      refine ⟨vp_in_nI (by omega) (by omega), nm_e ⟨vp_in_nI (by omega) (by omega), nm_e (K' _ _ _ _ ?_ (ys_Ft Fz (ys_Ft (ysF_su h40) (ys_Ft (ysF_ma h40) (ys_Ft (ysF_su (show vb < 40 by omega)) (ysF_pl (by omega)))))))⟩⟩
      rw [hf]
      refine ⟨hsz, Tv, fun u hu => ?_, Tm⟩
      show upd (upd a_succ (s * 40 + fr) (gr_en (gr_w op b S))) (s * 40 + vb) (nI fr) (s * 40 + u) = gr_en (gr_up (gr_up S.2.1 fr (gr_w op b S)) (S.2.2.1 b) fr u)
      rw [ev]
      rcases Nat.decEq u (S.2.2.1 b) with z | z
      · rw [pk_un (by omega), gr_up_n z]; exact Th u hu
      · rw [z, pk_us, gr_up_s]; exact (gr_en_n h40).symm
  unfold wY_effect_196
  refine yf_free hs hn (fun u => gr_le41 W.1 u) T F ?_
  rw [nI_clamp (by omega), T.1]
  refine ⟨vp_in_nI hs (by omega), pk_eq fr S.1 (fun e => ⟨vp_in_nI hs (by omega), vp_in_nI hs (by omega), nm_e (go _ ?_ ysF_sz)⟩) (fun e => go _ ?_ ys_F0)⟩
  · rw [pk_us, nI_1, if_pos e]
  · rw [if_neg e]; exact T.1
theorem yf_ok {post : Int32 → SY → Prop} (hs : s < 259) (hi : i < 32) (hvs : vs ≤ 3) (hk : k ≤ 1) (H : ys_I i op a b t a_prog) (I : gr_ins vs op a b t) (W : gr_W S.1 vs S.2.1 S.2.2.1) (T : yS vs s S a_size a_place a_succ a_many) (F : gr_fr S.1 S.2.1 fr) (h40 : gr_ok op a b k S → gr_isnew op b k S → fr < 40)
    (K1 : gr_ok op a b k S → ∀ sz pl su ma, yS vs s (gr_ef op a b k fr S) sz pl su ma → ys_F s a_size a_place a_succ a_many sz pl su ma → post (nI (gr_q op a b t k i S)) (f_vars, f_cells, f_lengthLimit, f_entryLimit, f_n, f_pc, f_lostCells, f_machine, f_analysis, f_count, f_gone, f_fixed, a_prog, a_at, a_pend, sz, pl, su, ma, a_num, a_newSucc, a_newMany))
    (K0 : ¬ gr_ok op a b k S → post (-1) (f_vars, f_cells, f_lengthLimit, f_entryLimit, f_n, f_pc, f_lostCells, f_machine, f_analysis, f_count, f_gone, f_fixed, a_prog, a_at, a_pend, a_size, a_place, a_succ, a_many, a_num, a_newSucc, a_newMany)) : wpY_effect post (f_vars, f_cells, f_lengthLimit, f_entryLimit, f_n, f_pc, f_lostCells, f_machine, f_analysis, f_count, f_gone, f_fixed, a_prog, a_at, a_pend, a_size, a_place, a_succ, a_many, a_num, a_newSucc, a_newMany) (nI s) (nI i) (nI k) := by
  have hn := W.1.1
  have I' := I
  obtain ⟨i1, i2, i3, i4, i5, i6, i7⟩ := I
  obtain ⟨ua, hua, hua41⟩ : ∃ ua, (op ≤ 7 → ua = S.2.2.1 a) ∧ ua ≤ 41 ∧ ((a < 40 ∧ a < vs ∧ ua = S.2.2.1 a) ∨ (a = 40 ∧ ua = 40)) := by
    rcases Nat.lt_or_ge 7 op with z | z
    · exact ⟨40, fun y => by omega, by omega, Or.inr ⟨i3 z, rfl⟩⟩
    · have ha := i2 z
      have := W.2.1 a ha
      exact ⟨S.2.2.1 a, fun _ => rfl, by omega, Or.inl ⟨by omega, ha, rfl⟩⟩
  obtain ⟨vb, hvb, hvb41⟩ : ∃ vb, ((op = 1 ∨ op = 3 ∨ op = 4 ∨ op = 7) → vb = S.2.2.1 b) ∧ vb ≤ 41 ∧ ((b < 40 ∧ b < vs ∧ vb = S.2.2.1 b) ∨ (b = 40 ∧ vb = 40)) := by
    rcases Classical.em (op = 1 ∨ op = 3 ∨ op = 4 ∨ op = 7) with z | z
    · have hb := i4 z
      have := W.2.1 b hb
      exact ⟨S.2.2.1 b, fun _ => rfl, by omega, Or.inl ⟨by omega, hb, rfl⟩⟩
    · exact ⟨40, fun y => absurd y z, by omega, Or.inr ⟨i5 z, rfl⟩⟩
  have fin : gr_ok op a b k S → ∀ sz pl su ma, yS vs s (gr_ef op a b k fr S) sz pl su ma → ys_F s a_size a_place a_succ a_many sz pl su ma → wY_effect_398 post (nI i) (nI k) (nI op) (gr_en ua) (gr_en vb) f_vars f_cells f_lengthLimit f_entryLimit f_n f_pc f_lostCells f_machine f_analysis f_count f_gone f_fixed a_prog a_at a_pend sz pl su ma a_num a_newSucc a_newMany := by
    intro ok sz pl su ma T2 F2
    refine yf_398 (t := t) hi i1 hk hua41.1 hvb41.1 i6 H.2.2.2 (fun w => gr_q_t ?_) (fun w => gr_q_f (fun y => w ?_)) (K1 ok sz pl su ma T2 F2)
    · rcases w with w | w | w | w
      · exact Or.inl ⟨w.1, by rw [← hua (by omega)]; exact w.2⟩
      · exact Or.inr (Or.inl ⟨w.1, by rw [← hua (by omega), ← hvb (by omega)]; exact w.2⟩)
      · exact Or.inr (Or.inr (Or.inl w))
      · exact Or.inr (Or.inr (Or.inr w))
    · rcases y with y | y | y | y
      · exact Or.inl ⟨y.1, by rw [hua (by omega)]; exact y.2⟩
      · exact Or.inr (Or.inl ⟨y.1, by rw [hua (by omega), hvb (by omega)]; exact y.2⟩)
      · exact Or.inr (Or.inr (Or.inl y))
      · exact Or.inr (Or.inr (Or.inr y))
  have f180 : gr_ok op a b k S → wY_effect_180 post (nI s) (nI i) (nI k) (nI op) (gr_ex a) (nI (s * 40)) (gr_en ua) (gr_en vb) (gr_en (gr_w op b S)) (gr_b (gr_fo op b S)) f_vars f_cells f_lengthLimit f_entryLimit f_n f_pc f_lostCells f_machine f_analysis f_count f_gone f_fixed a_prog a_at a_pend a_size a_place a_succ a_many a_num a_newSucc a_newMany := by
    intro ok
    have new : (op = 2 ∨ op = 3) → gr_isnew op b k S → wY_effect_196 post (nI s) (nI i) (nI k) (nI op) (gr_ex a) (nI (s * 40)) (gr_en ua) (gr_en vb) (gr_en (gr_w op b S)) (gr_b (gr_fo op b S)) f_vars f_cells f_lengthLimit f_entryLimit f_n f_pc f_lostCells f_machine f_analysis f_count f_gone f_fixed a_prog a_at a_pend a_size a_place a_succ a_many a_num a_newSucc a_newMany := fun h23 c =>
      yf_196 hs hvs I' W T h23 ok.1 F (h40 ok c) (fun e => hvb (by omega)) (fun sz pl su ma T2 F2 => fin ok sz pl su ma (by rw [gr_ef_t c]; exact T2) F2)
    have old : op ≠ 2 → ¬ gr_isnew op b k S → wY_effect_280 post (nI s) (nI i) (nI k) (nI op) (gr_ex a) (nI (s * 40)) (gr_en ua) (gr_en vb) (gr_en (gr_w op b S)) (gr_b (gr_fo op b S)) f_vars f_cells f_lengthLimit f_entryLimit f_n f_pc f_lostCells f_machine f_analysis f_count f_gone f_fixed a_prog a_at a_pend a_size a_place a_succ a_many a_num a_newSucc a_newMany := fun n2 c =>
      yf_280 hs hvs I' W T n2 ok.1 hua hvb (fun sz pl su ma T2 F2 => fin ok sz pl su ma (by rw [gr_ef_f c]; exact T2) F2)
    refine pk_eq op 2 (fun e => new (Or.inl e) (Or.inl e)) (fun e => ?_)
    cases hf : gr_fo op b S
    · rw [hf] at old
      exact br_t rfl (old e (fun c => c.elim e (fun q => by rw [hf] at q; exact absurd q.1 (by decide))))
    · have h3 : op = 3 := Classical.byContradiction fun z => by rw [gr_fo_n z] at hf; exact absurd hf (by decide)
      rw [hf] at old new
      exact br_f (by decide) (pk_eq k 1 (fun e1 => new (Or.inr h3) (Or.inr ⟨hf, e1⟩)) (fun e1 => old e (fun c => c.elim e (fun q => e1 q.2))))
  have f159 : ¬ gr_bad op a b S → wY_effect_159 post (nI s) (nI i) (nI k) (nI op) (gr_ex a) (nI (s * 40)) (gr_en ua) (gr_en vb) (gr_en (gr_w op b S)) (gr_b (gr_fo op b S)) f_vars f_cells f_lengthLimit f_entryLimit f_n f_pc f_lostCells f_machine f_analysis f_count f_gone f_fixed a_prog a_at a_pend a_size a_place a_succ a_many a_num a_newSucc a_newMany := by
    intro nb
    refine pk_eq k 1 (fun e1 => pk_eq op 8 (fun e8 => f180 ⟨nb, fun _ => Or.inl e8⟩) (fun e8 => ?_)) (fun e1 => f180 ⟨nb, fun z => absurd z e1⟩)
    cases hf : gr_fo op b S
    · refine br_t rfl (K0 (fun w => ?_))
      rcases w.2 e1 with w | w
      · exact e8 w
      · rw [hf] at w; exact absurd w (by decide)
    · have := f180 ⟨nb, fun _ => Or.inr hf⟩
      rw [hf] at this
      exact br_f (by decide) this
  have f114 : ¬ gr_bad op a b S → wY_effect_114 post (nI s) (nI i) (nI k) (nI op) (gr_ex a) (nI (s * 40)) (gr_en ua) (gr_en vb) f_vars f_cells f_lengthLimit f_entryLimit f_n f_pc f_lostCells f_machine f_analysis f_count f_gone f_fixed a_prog a_at a_pend a_size a_place a_succ a_many a_num a_newSucc a_newMany := by
    intro nb
    have g := f159 nb
    have f134 : (op = 3 → gr_w op b S = S.2.1 (S.2.2.1 b)) → wY_effect_134 post (nI s) (nI i) (nI k) (nI op) (gr_ex a) (nI (s * 40)) (gr_en ua) (gr_en vb) (gr_en (gr_w op b S)) f_vars f_cells f_lengthLimit f_entryLimit f_n f_pc f_lostCells f_machine f_analysis f_count f_gone f_fixed a_prog a_at a_pend a_size a_place a_succ a_many a_num a_newSucc a_newMany := by
      intro hw
      have hw41 : gr_w op b S ≤ 41 := by
        unfold gr_w; split
        · exact gr_le41 W.1 _
        · omega
      rcases Nat.lt_or_ge (gr_w op b S) 40 with z | z
      · have h3 : op = 3 := Classical.byContradiction fun y => by rw [gr_w_n y] at z; omega
        have hwn : gr_w op b S < S.1 := by
          have := hw h3
          rcases W.1.2.1 (S.2.2.1 b) with y | y | y <;> omega
        have fo : gr_fo op b S = S.2.2.2 (gr_w op b S) := by unfold gr_fo; rw [decide_eq_true z, Bool.true_and]
        refine br_f (fun y => by have := (gr_en_neg hw41).mp y; omega) ?_
        have hrd : a_many (nI (s * 40) + gr_en (gr_w op b S)).toNatClampNeg = gr_b (gr_fo op b S) := by
          rw [gr_en_n z, nI_add, nI_clamp (by omega), T.2.2.2 _ hwn, fo]
        have hin : vp_in (nI (s * 40) + gr_en (gr_w op b S)) 10360 := by
          rw [gr_en_n z, nI_add]; exact vp_in_nI (by omega) (by omega)
        refine ⟨hin, br_c (fun y => ?_) (fun y => ?_)⟩
        · rw [hrd] at y
          rw [gr_b_0.mp y] at g
          exact g
        · rw [hrd] at y
          cases hf : gr_fo op b S
          · exact absurd (gr_b_0.mpr hf) y
          · rw [hf] at g; exact g
      · have fo : gr_fo op b S = false := by unfold gr_fo; rw [decide_eq_false (by omega), Bool.false_and]
        rw [fo] at g
        exact br_t ((gr_en_neg hw41).mpr z) g
    refine pk_eq op 3 (fun e => ?_) (fun e => ?_)
    · subst e
      have hb := i4 (by omega)
      have hl : S.2.2.1 b < S.1 := by
        rcases W.2.1 b hb with z | z
        · exact z
        · exact absurd (Or.inl ⟨rfl, by omega⟩) nb
      have ev := hvb (by omega)
      have := f134 (fun _ => gr_w_3)
      rw [gr_w_3] at this
      have hrd : a_succ (nI (s * 40) + gr_en vb).toNatClampNeg = gr_en (S.2.1 (S.2.2.1 b)) := by
        rw [ev, gr_en_n (show S.2.2.1 b < 40 by omega), nI_add, nI_clamp (by omega), T.2.2.1 _ hl]
      have hin : vp_in (nI (s * 40) + gr_en vb) 10360 := by
        rw [ev, gr_en_n (show S.2.2.1 b < 40 by omega), nI_add]; exact vp_in_nI (by omega) (by omega)
      rw [hrd]
      exact ⟨hin, this⟩
    · have := f134 (fun z => absurd z e)
      rw [gr_w_n e] at this
      exact this
  have f95 : ¬ (op = 3 ∧ 40 ≤ S.2.2.1 b) → wY_effect_95 post (nI s) (nI i) (nI k) (nI op) (gr_ex a) (nI (s * 40)) (gr_en ua) (gr_en vb) f_vars f_cells f_lengthLimit f_entryLimit f_n f_pc f_lostCells f_machine f_analysis f_count f_gone f_fixed a_prog a_at a_pend a_size a_place a_succ a_many a_num a_newSucc a_newMany := by
    intro n3
    have f107 : (op = 4 ∨ op = 5) → wY_effect_107 post (nI s) (nI i) (nI k) (nI op) (gr_ex a) (nI (s * 40)) (gr_en ua) (gr_en vb) f_vars f_cells f_lengthLimit f_entryLimit f_n f_pc f_lostCells f_machine f_analysis f_count f_gone f_fixed a_prog a_at a_pend a_size a_place a_succ a_many a_num a_newSucc a_newMany := by
      intro h45
      have eu := hua (by omega)
      refine br_c (fun z => f114 (fun w => ?_)) (fun z => K0 (fun w => w.1 (Or.inr ⟨h45, ?_⟩)))
      · rcases w with w | w
        · exact n3 w
        · exact absurd ((gr_en_neg hua41.1).mpr (by rw [eu]; exact w.2)) (Int32.not_lt.mpr z)
      · rw [← eu]; exact (gr_en_neg hua41.1).mp (Int32.not_le.mp z)
    refine pk_eq op 4 (fun e => f107 (Or.inl e)) (fun e4 => pk_eq op 5 (fun e => f107 (Or.inr e)) (fun e5 => f114 (fun w => ?_)))
    rcases w with w | w
    · exact n3 w
    · exact w.1.elim e4 e5
  have f82 : wY_effect_82 post (nI s) (nI i) (nI k) (nI op) (gr_ex a) (nI (s * 40)) (gr_en ua) (gr_en vb) f_vars f_cells f_lengthLimit f_entryLimit f_n f_pc f_lostCells f_machine f_analysis f_count f_gone f_fixed a_prog a_at a_pend a_size a_place a_succ a_many a_num a_newSucc a_newMany := by
    refine pk_eq op 3 (fun e => ?_) (fun e => f95 (fun w => e w.1))
    have ev := hvb (by omega)
    refine br_c (fun z => K0 (fun w => w.1 (Or.inl ⟨e, ?_⟩))) (fun z => f95 (fun w => z ((gr_en_neg hvb41.1).mpr (by rw [ev]; exact w.2))))
    rw [← ev]; exact (gr_en_neg hvb41.1).mp z
  have f60 : wY_effect_60 post (nI s) (nI i) (nI k) (nI op) (gr_ex a) (gr_ex b) (nI (s * 40)) (gr_en ua) f_vars f_cells f_lengthLimit f_entryLimit f_n f_pc f_lostCells f_machine f_analysis f_count f_gone f_fixed a_prog a_at a_pend a_size a_place a_succ a_many a_num a_newSucc a_newMany := by
    unfold wY_effect_60
    rcases hvb41.2 with ⟨h1, h2, h3⟩ | ⟨h1, h3⟩
    · rw [gr_ex_n h1, ix_3, nI_clamp (by omega), T.2.1 b h2, ← h3]
      exact br_t (nI_pos' (by omega)) ⟨vp_in_nI (by omega) (by omega), f82⟩
    · rw [h3] at f82
      rw [h1]
      exact br_f (by decide) f82
  unfold wpY_effect
  dsimp only
  rw [show nI i * 4 + 1 = nI (i * 4 + 1) from ix_4 i 1, show nI i * 4 + 2 = nI (i * 4 + 2) from ix_4 i 2, ix_4b, ix_40b, nI_clamp (by omega), nI_clamp (by omega), nI_clamp (by omega), H.1, H.2.1, H.2.2.1]
  refine ⟨vp_in_nI (by omega) (by omega), nm_e ⟨vp_in_nI (by omega) (by omega), nm_e ⟨vp_in_nI (by omega) (by omega), nm_e (nm_e ?_)⟩⟩⟩
  rcases hua41.2 with ⟨h1, h2, h3⟩ | ⟨h1, h3⟩
  · rw [gr_ex_n h1] at f60 ⊢
    rw [ix_3, nI_clamp (by omega), T.2.1 a h2, ← h3]
    exact br_t (nI_pos' (by omega)) ⟨vp_in_nI (by omega) (by omega), f60⟩
  · rw [h3, h1] at f60
    rw [h1]
    exact br_f (by decide) f60
end
end
section
/-! Y: outcome, insert, one step of the analysis -/
def yE (vs : Nat) (A : gr_A) (sz pl su ma at' pe : Nat → Int32) : Prop := ∀ e, e < A.2.1 → yS vs e (A.2.2.1 e) sz pl su ma ∧ at' e = nI (A.2.2.2.1 e) ∧ pe e = gr_b (A.2.2.2.2 e)
/-- the machine's slot is as it was -/
def ys_F6 (sz pl su ma sz' pl' su' ma' : Nat → Int32) : Prop := sz' 256 = sz 256 ∧ (∀ x, x < 3 → pl' (256 * 3 + x) = pl (256 * 3 + x)) ∧ (∀ u, u < 40 → su' (256 * 40 + u) = su (256 * 40 + u)) ∧ ∀ u, u < 40 → ma' (256 * 40 + u) = ma (256 * 40 + u)
theorem ys_F60 {sz pl su ma : Nat → Int32} : ys_F6 sz pl su ma sz pl su ma := ⟨rfl, fun _ _ => rfl, fun _ _ => rfl, fun _ _ => rfl⟩
theorem ys_F6t {sz pl su ma sz' pl' su' ma' sz2 pl2 su2 ma2 : Nat → Int32} (F : ys_F6 sz pl su ma sz' pl' su' ma') (G : ys_F6 sz' pl' su' ma' sz2 pl2 su2 ma2) : ys_F6 sz pl su ma sz2 pl2 su2 ma2 :=
  ⟨G.1.trans F.1, fun x hx => (G.2.1 x hx).trans (F.2.1 x hx), fun u hu => (G.2.2.1 u hu).trans (F.2.2.1 u hu), fun u hu => (G.2.2.2 u hu).trans (F.2.2.2 u hu)⟩
theorem ys_F6s {s : Nat} {sz pl su ma sz' pl' su' ma' : Nat → Int32} (hs : s ≠ 256) (F : ys_F s sz pl su ma sz' pl' su' ma') : ys_F6 sz pl su ma sz' pl' su' ma' := F 256 (fun e => hs e.symm)
theorem ys_F6S {vs : Nat} {S : gr_S} {sz pl su ma sz' pl' su' ma' : Nat → Int32} (hvs : vs ≤ 3) (hn : S.1 ≤ 40) (F : ys_F6 sz pl su ma sz' pl' su' ma') (T : yS vs 256 S sz pl su ma) : yS vs 256 S sz' pl' su' ma' :=
  ⟨F.1.trans T.1, fun x hx => (F.2.1 x (by omega)).trans (T.2.1 x hx), fun u hu => (F.2.2.1 u (by omega)).trans (T.2.2.1 u hu), fun u hu => (F.2.2.2 u (by omega)).trans (T.2.2.2 u hu)⟩
theorem yE_F {vs el s : Nat} {A : gr_A} {sz pl su ma sz' pl' su' ma' at' pe : Nat → Int32} (hvs : vs ≤ 3) (g : gE vs el A) (hs : 256 ≤ s) (F : ys_F s sz pl su ma sz' pl' su' ma') (Y : yE vs A sz pl su ma at' pe) : yE vs A sz' pl' su' ma' at' pe := fun e he =>
  ⟨ys_SF hvs (by have := (g.2.2 e he).1.1; omega) F (by have := g.1; have := g.2.1; omega) (Y e he).1, (Y e he).2⟩
theorem gr_SK_symm {vs : Nat} {S T : gr_S} (h : gr_SK vs S T) : gr_SK vs T S := ⟨h.1.symm, fun x hx => (h.2.1 x hx).symm, fun u hu => (h.2.2 u (by rw [h.1]; exact hu)).symm⟩
section
variable {vs el nn e i op a b t k : Nat} {S : gr_S} {A A' : gr_A}
variable {f_vars f_cells f_lengthLimit f_entryLimit f_n f_pc f_lostCells f_machine f_analysis f_count f_gone f_fixed : Int32} {a_prog a_at a_pend a_size a_place a_succ a_many a_num a_newSucc a_newMany : Nat → Int32}
theorem yo_out {post : Int32 → SY → Prop} (he : e < 256) (hi : i < 32) (hvs : vs ≤ 3) (hk : k ≤ 1) (H : ys_I i op a b t a_prog) (I : gr_ins vs op a b t) (E : gr_ES vs S) (T : yS vs e S a_size a_place a_succ a_many)
    (K1 : gr_ok op a b k S → ∀ gn nu ns nm sz pl su ma, yS vs 258 (gr_NF vs (xo_Ts op a b S k)) sz pl su ma → ys_F 258 a_size a_place a_succ a_many sz pl su ma → gn ≤ 40 → (0 < gn ↔ xo_L vs op a b S k) → post (nI (xo_qs op a b t i S k)) (nI vs, f_cells, f_lengthLimit, f_entryLimit, f_n, f_pc, f_lostCells, f_machine, f_analysis, f_count, nI gn, f_fixed, a_prog, a_at, a_pend, sz, pl, su, ma, nu, ns, nm))
    (K0 : ¬ gr_ok op a b k S → ∀ sz pl su ma, ys_F 258 a_size a_place a_succ a_many sz pl su ma → post (-1) (nI vs, f_cells, f_lengthLimit, f_entryLimit, f_n, f_pc, f_lostCells, f_machine, f_analysis, f_count, 0, f_fixed, a_prog, a_at, a_pend, sz, pl, su, ma, a_num, a_newSucc, a_newMany)) : wpY_outcome post (nI vs, f_cells, f_lengthLimit, f_entryLimit, f_n, f_pc, f_lostCells, f_machine, f_analysis, f_count, f_gone, f_fixed, a_prog, a_at, a_pend, a_size, a_place, a_succ, a_many, a_num, a_newSucc, a_newMany) (nI i) (nI e) (nI k) := by
  have hn := E.1
  unfold wpY_outcome
  dsimp only
  refine yy_ok (p := e) (q := 258) (by omega) (by omega) (by omega) hvs (by omega) T (fun sz pl su ma T2 F2 => ?_)
  dsimp only
  have h40 := (gr_E40 E).1
  refine yf_ok (s := 258) (fr := S.1) (by omega) hi hvs hk H I (gr_E_W E) T2 (Or.inr ⟨rfl, fun u _ => by have := h40 u; omega⟩) (fun _ _ => by omega) (fun ok sz2 pl2 su2 ma2 T3 F3 => ?_) (fun nok => ?_)
  · dsimp only
    refine br_f (nI_pos (by have := gr_q_le (k := k) (S := S) I hi; omega)) ?_
    have EN := gr_ef_EN (k := k) I E ok.1
    refine y_norm (s := 258) (by omega) hvs (gr_ef_W I E ok.1) T3 (fun nu ns nm sz3 pl3 su3 ma3 T4 F4 => ?_)
    refine K1 ok _ nu ns nm sz3 pl3 su3 ma3 T4 (ys_Ft F2 (ys_Ft F3 F4)) (Nat.le_trans (gr_cn_le _ _) (by have := EN.1; omega)) ⟨fun w => ?_, fun ⟨u, hu, w⟩ => ?_⟩
    · refine Classical.byContradiction fun z => ?_
      have e0 := gr_cn_zero (P := fun u => (gr_ef op a b k S.1 S).2.1 u ≠ 41 ∧ ¬ gr_R (gr_ef op a b k S.1 S).2.1 (gr_ef op a b k S.1 S).2.2.1 vs u) (N := (gr_ef op a b k S.1 S).1) (fun u hu q => z ⟨u, hu, q.2⟩)
      omega
    · refine gr_cn_pos (a := u) ⟨?_, w⟩ hu
      have := EN.1
      rcases EN.2.1 u with y | y <;> omega
  · dsimp only
    exact br_t (by decide) (K0 nok sz pl su ma F2)
/-! insert -/
theorem yi_33 {post : SY → Prop} {f : Nat} {T : gr_S} {ma0 pe0 : Nat → Int32} (hf : f < 256) (hn : S.1 ≤ 12) (hz : a_size f = nI S.1) (hS : ∀ u, u < S.1 → ma0 (f * 40 + u) = gr_b (S.2.2.2 u)) (hT : ∀ u, u < S.1 → ma0 (258 * 40 + u) = gr_b (T.2.2.2 u))
    (K : ∀ ma pe, (∀ u, u < S.1 → ma (f * 40 + u) = gr_b (S.2.2.2 u || T.2.2.2 u)) → (∀ j, (j < f * 40 ∨ f * 40 + 40 ≤ j) → ma j = ma0 j) → ((gr_ch S T → pe f = 1) ∧ (¬ gr_ch S T → pe f = pe0 f)) → (∀ j, j ≠ f → pe j = pe0 j) → post (f_vars, f_cells, f_lengthLimit, f_entryLimit, f_n, f_pc, f_lostCells, f_machine, f_analysis, f_count, f_gone, f_fixed, a_prog, a_at, pe, a_size, a_place, a_succ, ma, a_num, a_newSucc, a_newMany)) :
    ∀ d i ma pe, i + d = S.1 → (∀ u, u < i → ma (f * 40 + u) = gr_b (S.2.2.2 u || T.2.2.2 u)) → (∀ u, i ≤ u → u < S.1 → ma (f * 40 + u) = gr_b (S.2.2.2 u)) → (∀ j, (j < f * 40 ∨ f * 40 + 40 ≤ j) → ma j = ma0 j) →
      (((∃ u, u < i ∧ T.2.2.2 u = true ∧ S.2.2.2 u = false) → pe f = 1) ∧ (¬ (∃ u, u < i ∧ T.2.2.2 u = true ∧ S.2.2.2 u = false) → pe f = pe0 f)) → (∀ j, j ≠ f → pe j = pe0 j) →
      wY_insert_33 post (nI f) f_vars f_cells f_lengthLimit f_entryLimit f_n f_pc f_lostCells f_machine f_analysis f_count f_gone f_fixed (d + 1) (nI i) a_prog a_at pe a_size a_place a_succ ma a_num a_newSucc a_newMany := by
  intro d
  induction d with
  | zero =>
    intro i ma pe hi h1 h2 h3 h4 h5
    have e : i = S.1 := by omega
    subst e
    refine And.intro (vp_in_nI (by omega) (by omega)) ?_
    rw [nI_clamp (by omega), hz]
    exact br_t (nI_le (by omega) (by omega)) (K ma pe h1 h3 h4 h5)
  | succ d ih =>
    intro i ma pe hi h1 h2 h3 h4 h5
    refine And.intro (vp_in_nI (by omega) (by omega)) ?_
    rw [nI_clamp (by omega), hz]
    refine br_f (nI_ge (by omega) (by omega)) ?_
    have e10 : (10320 : Int32) + nI i = nI (258 * 40 + i) := nI_add 10320 i
    rw [e10, nI_clamp (by omega), h3 _ (by omega), hT i (by omega), ix_40, nI_clamp (by omega), h2 i (Nat.le_refl _) (by omega)]
    refine ⟨vp_in_nI (by omega) (by omega), ?_⟩
    have same : ¬ (T.2.2.2 i = true ∧ S.2.2.2 i = false) → wY_insert_33 post (nI f) f_vars f_cells f_lengthLimit f_entryLimit f_n f_pc f_lostCells f_machine f_analysis f_count f_gone f_fixed (d + 1) (nI (i + 1)) a_prog a_at pe a_size a_place a_succ ma a_num a_newSucc a_newMany := by
      intro hno
      have ex : (∃ u, u < i + 1 ∧ T.2.2.2 u = true ∧ S.2.2.2 u = false) ↔ ∃ u, u < i ∧ T.2.2.2 u = true ∧ S.2.2.2 u = false := by
        refine ⟨fun ⟨u, p, q⟩ => ⟨u, ?_, q⟩, fun ⟨u, p, q⟩ => ⟨u, by omega, q⟩⟩
        rcases Nat.decEq u i with y | y
        · omega
        · rw [y] at q; exact absurd q hno
      refine ih (i + 1) ma pe (by omega) (fun u hu => ?_) (fun u hu => h2 u (by omega)) h3 (by rw [ex]; exact h4) h5
      rcases Nat.decEq u i with y | y
      · exact h1 u (by omega)
      · rw [y, h2 i (Nat.le_refl _) (by omega)]
        cases hs : S.2.2.2 i
        · cases ht : T.2.2.2 i
          · rfl
          · exact absurd ⟨ht, hs⟩ hno
        · rfl
    cases ht : T.2.2.2 i
    · exact br_t rfl (nm_r (nI_1 i) (same (fun w => by rw [ht] at w; exact absurd w.1 (by decide))))
    · cases hs : S.2.2.2 i
      · refine br_f (by decide) ⟨vp_in_nI (by omega) (by omega), br_t rfl ⟨vp_in_nI (by omega) (by omega), nm_e ⟨vp_in_nI (by omega) (by omega), nm_e (nm_r (nI_1 i) ?_)⟩⟩⟩
        refine ih (i + 1) _ _ (by omega) (fun u hu => ?_) (fun u hu hu' => ?_) (fun j hj => ?_) ⟨fun _ => ?_, fun w => absurd ⟨i, by omega, ht, hs⟩ w⟩ (fun j hj => ?_)
        · rcases Nat.decEq u i with y | y
          · rw [pk_un (by omega)]; exact h1 u (by omega)
          · rw [y, pk_us, ht, hs]; rfl
        · rw [pk_un (by omega)]; exact h2 u (by omega) hu'
        · rw [pk_un (by omega)]; exact h3 j hj
        · rw [pk_us]; rfl
        · rw [pk_un hj]; exact h5 j hj
      · exact br_f (by decide) ⟨vp_in_nI (by omega) (by omega), br_f (by decide) (nm_r (nI_1 i) (same (fun w => by rw [hs] at w; exact absurd w.2 (by decide))))⟩
theorem yi_2 {post : SY → Prop} {q : Nat} {T : gr_S} (hvs : vs ≤ 3) (hq : q ≤ 40) (g : gE vs el A) (hT : gr_ES vs T) (Y : yE vs A a_size a_place a_succ a_many a_at a_pend) (TS : yS vs 258 T a_size a_place a_succ a_many) (N : gr_INS vs el q T A A')
    (K : ∀ sz pl su ma at' pe, yE vs A' sz pl su ma at' pe → ys_F6 a_size a_place a_succ a_many sz pl su ma → post (nI vs, f_cells, f_lengthLimit, nI el, f_n, f_pc, f_lostCells, f_machine, A'.1, nI A'.2.1, f_gone, f_fixed, a_prog, at', pe, sz, pl, su, ma, a_num, a_newSucc, a_newMany)) :
    ∀ d f, f + d = A.2.1 → (∀ g, g < f → ¬ gr_hit vs q T A g) → wY_insert_2 post (nI q) (nI vs) f_cells f_lengthLimit (nI el) f_n f_pc f_lostCells f_machine A.1 (nI A.2.1) f_gone f_fixed a_prog a_at a_pend a_size a_place a_succ a_many a_num a_newSucc a_newMany (d + 1) (nI f) := by
  obtain ⟨g1, g2, g3⟩ := g
  intro d
  induction d with
  | zero =>
    intro f hf hno
    have e : f = A.2.1 := by omega
    have no : ∀ f, ¬ gr_hit vs q T A f := fun f' w => hno f' (by have := w.1; omega) w
    refine br_t (nI_le (by omega) (by omega)) ?_
    rcases N with ⟨f', w, _, _⟩ | ⟨_, w2, rfl⟩ | ⟨_, w2, rfl⟩
    · exact absurd w (no f')
    · exact br_t (by rw [w2]) (K a_size a_place a_succ a_many a_at a_pend Y ys_F60)
    · refine br_f (fun z => by rw [nI_eq (by omega) (by omega)] at z; omega) ?_
      have hT12 := hT.1
      refine yy_ok (p := 258) (q := A.2.1) (by omega) (by omega) (by omega) hvs (by omega) TS (fun sz pl su ma S2 F => ?_)
      dsimp only
      rw [nI_clamp (show A.2.1 < 2 ^ 31 by omega)]
      refine ⟨vp_in_nI (by omega) (by omega), nm_e ⟨vp_in_nI (by omega) (by omega), nm_e (nm_r (nI_1 A.2.1) (K sz pl su ma _ _ (fun e he => ?_) (ys_F6s (by omega) F)))⟩⟩
      have he' : e < A.2.1 + 1 := he
      show yS vs e (gr_up A.2.2.1 A.2.1 T e) sz pl su ma ∧ upd a_at A.2.1 (nI q) e = nI (gr_up A.2.2.2.1 A.2.1 q e) ∧ upd a_pend A.2.1 (vp_nar .boolean 1) e = gr_b (gr_up A.2.2.2.2 A.2.1 true e)
      rcases Nat.decEq e A.2.1 with z | z
      · rw [gr_up_n z, gr_up_n z, gr_up_n z, pk_un z, pk_un z]
        have x := Y e (by omega)
        exact ⟨ys_SF hvs (by have := (g3 e (by omega)).1.1; omega) F z x.1, x.2.1, x.2.2⟩
      · rw [z, gr_up_s, gr_up_s, gr_up_s, pk_us, pk_us]
        exact ⟨S2, rfl, rfl⟩
  | succ d ih =>
    intro f hf hno
    have x := Y f (by omega)
    have gf := g3 f (by omega)
    have next : ¬ gr_hit vs q T A f → wY_insert_2 post (nI q) (nI vs) f_cells f_lengthLimit (nI el) f_n f_pc f_lostCells f_machine A.1 (nI A.2.1) f_gone f_fixed a_prog a_at a_pend a_size a_place a_succ a_many a_num a_newSucc a_newMany (d + 1) (nI (f + 1)) := fun w => ih (f + 1) (by omega) (fun g hg => by
      rcases Nat.decEq g f with z | z
      · exact hno g (by omega)
      · rw [z]; exact w)
    refine br_f (nI_ge (by omega) (by omega)) ⟨vp_in_nI (by omega) (by omega), ?_⟩
    rw [nI_clamp (show f < 2 ^ 31 by omega), x.2.1]
    refine pk_eq (A.2.2.2.1 f) q (fun e => ?_) (fun e => nm_r (nI_1 f) (next (fun w => e w.2.1))) rfl rfl (by omega) (by omega)
    refine yt_ok (p := 258) (q := f) (by omega) (by omega) hvs hT gf.1 TS x.1 (fun r hr => ?_)
    rcases hr with ⟨rfl, w⟩ | ⟨rfl, w⟩
    · exact br_t rfl (nm_r (nI_1 f) (next (fun y => w (gr_SK_symm y.2.2))))
    · refine br_f (by decide) (Exists.intro ((A.2.2.1 f).1 + 1) ?_)
      have hit : gr_hit vs q T A f := ⟨by omega, e, gr_SK_symm w⟩
      have eA : A' = gr_Ah A f T := by
        rcases N with ⟨f', w1, w2, rfl⟩ | ⟨w1, _, _⟩ | ⟨w1, _, _⟩
        · have : f' = f := by
            rcases Nat.lt_or_ge f f' with z | z
            · exact absurd hit (w2 f z)
            · rcases Nat.lt_or_ge f' f with y | y
              · exact absurd w1 (hno f' y)
              · omega
          rw [this]
        · exact absurd hit (w1 f)
        · exact absurd hit (w1 f)
      subst eA
      refine yi_33 (S := A.2.2.1 f) (T := T) (ma0 := a_many) (pe0 := a_pend) (by omega) gf.1.1 x.1.1 x.1.2.2.2 (fun u hu => TS.2.2.2 u (by rw [w.1]; exact hu)) (fun ma pe m1 m2 m3 m4 => ?_) (A.2.2.1 f).1 0 a_many a_pend (by omega) (fun u hu => by omega) (fun u _ hu => x.1.2.2.2 u hu) (fun _ _ => rfl) ⟨fun ⟨u, hu, _⟩ => by omega, fun _ => rfl⟩ (fun _ _ => rfl)
      refine K a_size a_place a_succ ma a_at pe (fun e' he' => ?_) ⟨rfl, fun _ _ => rfl, fun _ _ => rfl, fun u hu => m2 _ (by omega)⟩
      have he2 : e' < A.2.1 := he'
      have x' := Y e' he2
      have n40 := (g3 e' he2).1.1
      show yS vs e' (gr_up A.2.2.1 f (gr_mg (A.2.2.1 f) T) e') a_size a_place a_succ ma ∧ a_at e' = nI (A.2.2.2.1 e') ∧ pe e' = gr_b (gr_up A.2.2.2.2 f (A.2.2.2.2 f || gr_chb (A.2.2.1 f) T) e')
      rcases Nat.decEq e' f with z | z
      · rw [gr_up_n z, gr_up_n z, m4 e' z]
        exact ⟨⟨x'.1.1, x'.1.2.1, x'.1.2.2.1, fun u hu => (m2 _ (by omega)).trans (x'.1.2.2.2 u hu)⟩, x'.2⟩
      · rw [z, gr_up_s, gr_up_s]
        refine ⟨⟨x.1.1, x.1.2.1, x.1.2.2.1, m1⟩, x.2.1, ?_⟩
        rcases Classical.em (gr_ch (A.2.2.1 f) T) with c | c
        · rw [m3.1 c, gr_chb_t c, Bool.or_true]; rfl
        · rw [m3.2 c, gr_chb_f c, Bool.or_false]; exact x.2.2
theorem yi_ins {post : SY → Prop} {q : Nat} {T : gr_S} (hvs : vs ≤ 3) (hq : q ≤ 40) (g : gE vs el A) (hT : gr_ES vs T) (Y : yE vs A a_size a_place a_succ a_many a_at a_pend) (TS : yS vs 258 T a_size a_place a_succ a_many) (N : gr_INS vs el q T A A')
    (K : ∀ sz pl su ma at' pe, yE vs A' sz pl su ma at' pe → ys_F6 a_size a_place a_succ a_many sz pl su ma → post (nI vs, f_cells, f_lengthLimit, nI el, f_n, f_pc, f_lostCells, f_machine, A'.1, nI A'.2.1, f_gone, f_fixed, a_prog, at', pe, sz, pl, su, ma, a_num, a_newSucc, a_newMany)) :
    wpY_insert post (nI vs, f_cells, f_lengthLimit, nI el, f_n, f_pc, f_lostCells, f_machine, A.1, nI A.2.1, f_gone, f_fixed, a_prog, a_at, a_pend, a_size, a_place, a_succ, a_many, a_num, a_newSucc, a_newMany) (nI q) :=
  Exists.intro (A.2.1 + 1) (yi_2 hvs hq g hT Y TS N K A.2.1 0 (by omega) (fun g hg => by omega))
theorem yi_fp2 {post : Int32 → Prop} {ec e : Nat} {pd : Nat → Bool} (hec : ec ≤ 256) (hp : ∀ e, e < ec → a_pend e = gr_b (pd e)) (F : gr_fp ec pd e) (K1 : e < ec → post (nI e)) (K0 : e = ec → post (-1)) :
    ∀ d i, i + d = ec → i ≤ e → wY_lowestPending_2 post f_vars f_cells f_lengthLimit f_entryLimit f_n f_pc f_lostCells f_machine f_analysis (nI ec) f_gone f_fixed a_prog a_at a_pend a_size a_place a_succ a_many a_num a_newSucc a_newMany (d + 1) (nI i) := by
  intro d
  induction d with
  | zero =>
    intro i hi hf
    refine br_t (nI_le (by omega) (by omega)) (K0 ?_)
    rcases F with z | z <;> omega
  | succ d ih =>
    intro i hi hf
    refine br_f (nI_ge (by omega) (by omega)) ⟨vp_in_nI (by omega) (by omega), ?_⟩
    rw [nI_clamp (by omega), hp i (by omega)]
    rcases Nat.decEq i e with z | z
    · have hne : pd i = false := by
        rcases F with y | y
        · exact y.2.2 i (by omega)
        · exact y.2 i (by omega)
      exact br_t (gr_b_0.mpr hne) (nm_r (nI_1 i) (ih (i + 1) (by omega) (by omega)))
    · have h41 : pd i = true := by
        rcases F with y | y
        · rw [z]; exact y.2.1
        · omega
      refine br_f (fun w => by rw [gr_b_0.mp w] at h41; exact absurd h41 (by decide)) ?_
      rw [z]
      exact K1 (by omega)
theorem yi_fp {post : Int32 → Prop} {ec e : Nat} {pd : Nat → Bool} (hec : ec ≤ 256) (hp : ∀ e, e < ec → a_pend e = gr_b (pd e)) (F : gr_fp ec pd e) (K1 : e < ec → post (nI e)) (K0 : e = ec → post (-1)) : wpY_lowestPending post (f_vars, f_cells, f_lengthLimit, f_entryLimit, f_n, f_pc, f_lostCells, f_machine, f_analysis, nI ec, f_gone, f_fixed, a_prog, a_at, a_pend, a_size, a_place, a_succ, a_many, a_num, a_newSucc, a_newMany) :=
  Exists.intro (ec + 1) (yi_fp2 hec hp F K1 K0 ec 0 (by omega) (by omega))
theorem yi_127 {post : Int32 → SY → Prop} {J24 : Int32 → Int32 → Int32 → Int32 → Int32 → Int32 → Int32 → Int32 → Int32 → Int32 → Int32 → Int32 → Int32 → Int32 → (Nat → Int32) → (Nat → Int32) → (Nat → Int32) → (Nat → Int32) → (Nat → Int32) → (Nat → Int32) → (Nat → Int32) → (Nat → Int32) → (Nat → Int32) → (Nat → Int32) → Prop} {x2 : Int32} {x3 x4 : Nat} (hec : A.2.1 ≤ 256) (Y : yE vs A a_size a_place a_succ a_many a_at a_pend) (F : gr_FIN A A') (K : yE vs A' a_size a_place a_succ a_many a_at a_pend → J24 (nI (x3 + 1)) (nI (x4 + 1)) f_vars f_cells f_lengthLimit f_entryLimit f_n f_pc f_lostCells f_machine A'.1 (nI A'.2.1) f_gone f_fixed a_prog a_at a_pend a_size a_place a_succ a_many a_num a_newSucc a_newMany) :
    wY_analyse_127 post J24 x2 (nI x3) (nI x4) f_vars f_cells f_lengthLimit f_entryLimit f_n f_pc f_lostCells f_machine A.1 (nI A.2.1) f_gone f_fixed a_prog a_at a_pend a_size a_place a_succ a_many a_num a_newSucc a_newMany := by
  obtain ⟨e, he⟩ := gr_fp_ex A.2.1 A.2.2.2.2
  refine br_c (fun z => ?_) (fun z => ?_)
  · refine yi_fp hec (fun e he => (Y e he).2.2) he (fun h1 => ?_) (fun h0 => ?_)
    · have eA : A' = A := by
        rcases F with ⟨w1, w2, _⟩ | ⟨_, w⟩
        · rcases he with y | y
          · have := w2 e h1
            rw [y.2.1] at this; exact absurd this (by decide)
          · omega
        · exact w
      subst eA
      exact br_t (nI_pos' (by omega)) (nm_r (nI_1 x3) (nm_r (nI_1 x4) (K Y)))
    · have al : ∀ f, f < A.2.1 → A.2.2.2.2 f = false := by
        rcases he with y | y
        · omega
        · exact y.2
      have eA : A' = (2, A.2) := by
        rcases F with ⟨_, _, w⟩ | ⟨w, _⟩
        · exact w
        · exact absurd ⟨z, al⟩ w
      subst eA
      exact br_f (by decide) (nm_r (nI_1 x3) (nm_r (nI_1 x4) (K Y)))
  · have eA : A' = A := by
      rcases F with ⟨w, _, _⟩ | ⟨_, w⟩
      · exact absurd w z
      · exact w
    subst eA
    exact nm_r (nI_1 x3) (nm_r (nI_1 x4) (K Y))
end
end
section
/-! Y: one step of the analysis -/
def ys_P (nn : Nat) (op pa pb pt : Nat → Nat) (a_prog : Nat → Int32) : Prop := ∀ i, i < nn → ys_I i (op i) (pa i) (pb i) (pt i) a_prog
section
variable {vs el nn e i op a b t k m : Nat} {A A' B D D' : gr_A}
variable {f_vars f_cells f_lengthLimit f_entryLimit f_n f_pc f_lostCells f_machine f_analysis f_count f_gone f_fixed : Int32} {a_prog a_at a_pend a_size a_place a_succ a_many a_num a_newSucc a_newMany : Nat → Int32}
theorem yz_it {post : Int32 → SY → Prop} {J24 : Int32 → Int32 → Int32 → Int32 → Int32 → Int32 → Int32 → Int32 → Int32 → Int32 → Int32 → Int32 → Int32 → Int32 → (Nat → Int32) → (Nat → Int32) → (Nat → Int32) → (Nat → Int32) → (Nat → Int32) → (Nat → Int32) → (Nat → Int32) → (Nat → Int32) → (Nat → Int32) → (Nat → Int32) → Prop} {x2 x3 x4 : Int32} (hk : k < 2) (hvs : vs ≤ 3) (hnn : nn ≤ 32) (h1 : D.1 = 1) (g : gE vs el D) (he : e < D.2.1) (hp : D.2.2.2.1 e = i) (hi : i < nn) (H : ys_I i op a b t a_prog) (I : gr_ins vs op a b t) (Y : yE vs D a_size a_place a_succ a_many a_at a_pend)
    (hD : gr_ok op a b k (D.2.2.1 e) → gr_INS vs el (xo_qs op a b t i (D.2.2.1 e) k) (gr_NF vs (xo_Ts op a b (D.2.2.1 e) k)) D D')
    (Kno : ¬ gr_ok op a b k (D.2.2.1 e) → ∀ sz pl su ma, yE vs D sz pl su ma a_at a_pend → ys_F6 a_size a_place a_succ a_many sz pl su ma → wY_analyse_60 post J24 x2 x3 x4 (nI e) m (nI (k + 1)) (nI vs) f_cells f_lengthLimit (nI el) (nI nn) f_pc f_lostCells f_machine D.1 (nI D.2.1) 0 f_fixed a_prog a_at a_pend sz pl su ma a_num a_newSucc a_newMany)
    (Kyes : gr_ok op a b k (D.2.2.1 e) → ∀ gn nu ns nm sz pl su ma at' pe, yE vs D' sz pl su ma at' pe → ys_F6 a_size a_place a_succ a_many sz pl su ma → wY_analyse_60 post J24 x2 x3 x4 (nI e) m (nI (k + 1)) (nI vs) f_cells f_lengthLimit (nI el) (nI nn) f_pc f_lostCells f_machine D'.1 (nI D'.2.1) gn f_fixed a_prog at' pe sz pl su ma nu ns nm) :
    wY_analyse_60 post J24 x2 x3 x4 (nI e) (m + 1) (nI k) (nI vs) f_cells f_lengthLimit (nI el) (nI nn) f_pc f_lostCells f_machine D.1 (nI D.2.1) f_gone f_fixed a_prog a_at a_pend a_size a_place a_succ a_many a_num a_newSucc a_newMany := by
  have y := Y e he
  have ge := g.2.2 e he
  have hec : D.2.1 ≤ 256 := by have := g.1; have := g.2.1; omega
  have ev : a_at (nI e).toNatClampNeg = nI i := by rw [nI_clamp (by omega), y.2.1, hp]
  refine br_f (nI_ge (b := 2) (by omega) (by omega)) (br_f (nI_pos (by omega)) (br_t h1 ⟨vp_in_nI (by omega) (by omega), ?_⟩))
  rw [ev]
  refine br_f (nI_ge (by omega) (by omega)) ⟨vp_in_nI (by omega) (by omega), ?_⟩
  refine yo_out (by omega) (by omega) hvs (by omega) H I ge.1 y.1 (fun ok gn nu ns nm sz pl su ma T F hgn hL => ?_) (fun nok sz pl su ma F => ?_)
  · have hq : xo_qs op a b t i (D.2.2.1 e) k ≤ 40 := gr_q_le I (by omega)
    refine br_f (nI_pos (by omega)) ?_
    have W := gr_ef_W (k := k) I ge.1 ok.1
    refine yi_ins (A := D) hvs hq g (gr_NF_ES W hvs) (yE_F hvs g (by omega) F Y) T (hD ok) (fun sz2 pl2 su2 ma2 at' pe Y2 F2 => nm_r (nI_1 k) ?_)
    exact Kyes ok (nI gn) nu ns nm sz2 pl2 su2 ma2 at' pe Y2 (ys_F6t (ys_F6s (by omega) F) F2)
  · exact br_t (by decide) (nm_r (nI_1 k) (Kno nok sz pl su ma (yE_F hvs g (by omega) F Y) (ys_F6s (by omega) F)))
/-- the loop is over: two outcomes were tried, or the analysis no longer works -/
theorem yz_end {post : Int32 → SY → Prop} {J24 : Int32 → Int32 → Int32 → Int32 → Int32 → Int32 → Int32 → Int32 → Int32 → Int32 → Int32 → Int32 → Int32 → Int32 → (Nat → Int32) → (Nat → Int32) → (Nat → Int32) → (Nat → Int32) → (Nat → Int32) → (Nat → Int32) → (Nat → Int32) → (Nat → Int32) → (Nat → Int32) → (Nat → Int32) → Prop} {x2 : Int32} {x3 x4 : Nat} (hk : k ≤ 2) (hec : D.2.1 ≤ 256) (he : e < D.2.1) (hx : k = 2 ∨ D.1 ≠ 1) (Y : yE vs D a_size a_place a_succ a_many a_at a_pend) (F : gr_FIN D A')
    (K : yE vs A' a_size a_place a_succ a_many a_at a_pend → J24 (nI (x3 + 1)) (nI (x4 + 1)) f_vars f_cells f_lengthLimit f_entryLimit f_n f_pc f_lostCells f_machine A'.1 (nI A'.2.1) f_gone f_fixed a_prog a_at a_pend a_size a_place a_succ a_many a_num a_newSucc a_newMany) : wY_analyse_60 post J24 x2 (nI x3) (nI x4) (nI e) (m + 1) (nI k) f_vars f_cells f_lengthLimit f_entryLimit f_n f_pc f_lostCells f_machine D.1 (nI D.2.1) f_gone f_fixed a_prog a_at a_pend a_size a_place a_succ a_many a_num a_newSucc a_newMany := by
  have fin := yi_127 (post := post) (x2 := x2) hec Y F K
  rcases hx with z | z
  · exact br_t (nI_le (a := 2) (by omega) (by omega)) fin
  · exact br_c (fun _ => fin) (fun _ => br_f (nI_pos (by omega)) (br_f z fin))
theorem yz_60 {post : Int32 → SY → Prop} {J24 : Int32 → Int32 → Int32 → Int32 → Int32 → Int32 → Int32 → Int32 → Int32 → Int32 → Int32 → Int32 → Int32 → Int32 → (Nat → Int32) → (Nat → Int32) → (Nat → Int32) → (Nat → Int32) → (Nat → Int32) → (Nat → Int32) → (Nat → Int32) → (Nat → Int32) → (Nat → Int32) → (Nat → Int32) → Prop} {x2 : Int32} {x3 x4 c : Nat} (hvs : vs ≤ 3) (hnn : nn ≤ 32) (h1 : D.1 = 1) (g : gE vs el D) (he : e < D.2.1) (hp : D.2.2.2.1 e = i) (HI : i < nn → ys_I i op a b t a_prog ∧ gr_ins vs op a b t) (Y : yE vs D a_size a_place a_succ a_many a_at a_pend)
    (C : xo_C nn i op a b (D.2.2.1 e) c) (P : gr_PUT vs el (xo_qs op a b t i (D.2.2.1 e)) (xo_Ts op a b (D.2.2.1 e)) c D B) (F : gr_FIN B A')
    (K : ∀ gn nu ns nm sz pl su ma at' pe, yE vs A' sz pl su ma at' pe → ys_F6 a_size a_place a_succ a_many sz pl su ma → J24 (nI (x3 + 1)) (nI (x4 + 1)) (nI vs) f_cells f_lengthLimit (nI el) (nI nn) f_pc f_lostCells f_machine A'.1 (nI A'.2.1) gn f_fixed a_prog at' pe sz pl su ma nu ns nm) :
    ∃ m, wY_analyse_60 post J24 x2 (nI x3) (nI x4) (nI e) m 0 (nI vs) f_cells f_lengthLimit (nI el) (nI nn) f_pc f_lostCells f_machine D.1 (nI D.2.1) f_gone f_fixed a_prog a_at a_pend a_size a_place a_succ a_many a_num a_newSucc a_newMany := by
  have hec : D.2.1 ≤ 256 := by have := g.1; have := g.2.1; omega
  have y := Y e he
  have ge := g.2.2 e he
  rcases Nat.lt_or_ge i nn with hi | hi
  · obtain ⟨H, I⟩ := HI hi
    have ck := xo_C_k (t := t) hvs hnn (fun _ => I) ge.1 C
    have gB := gr_PUT_gE g (fun k hk => (ck.2 k hk).1) (fun k hk => (ck.2 k hk).2) P
    refine Exists.intro 3 ?_
    rcases C with ⟨z, ec⟩ | ⟨_, nb, z3⟩
    · have hb : gr_bad op a b (D.2.2.1 e) := z.elim (fun z => by omega) id
      subst ec
      have eB : B = D := by
        rcases P with ⟨_, w⟩ | ⟨w, _⟩ | ⟨w, _⟩
        · exact w
        · omega
        · omega
      subst eB
      refine yz_it (k := 0) (D' := B) (by omega) hvs hnn h1 g he hp hi H I Y (fun ok => absurd hb ok.1) (fun _ sz pl su ma Y2 F2 => ?_) (fun ok => absurd hb ok.1)
      refine yz_it (k := 1) (D' := B) (by omega) hvs hnn h1 g he hp hi H I Y2 (fun ok => absurd hb ok.1) (fun _ sz3 pl3 su3 ma3 Y3 F3 => ?_) (fun ok => absurd hb ok.1)
      exact yz_end (k := 2) (by omega) hec he (Or.inl rfl) Y3 F (fun Y4 => K _ _ _ _ sz3 pl3 su3 ma3 _ _ Y4 (ys_F6t F2 F3))
    · have ok0 : gr_ok op a b 0 (D.2.2.1 e) := ⟨nb, fun z => by omega⟩
      -- the first insertion
      obtain ⟨Q, hQ, hrest⟩ : ∃ Q, gr_INS vs el (xo_qs op a b t i (D.2.2.1 e) 0) (gr_NF vs (xo_Ts op a b (D.2.2.1 e) 0)) D Q ∧ ((c = 1 ∧ B = Q) ∨ (c = 2 ∧ ((Q.1 = 1 ∧ gr_INS vs el (xo_qs op a b t i (D.2.2.1 e) 1) (gr_NF vs (xo_Ts op a b (D.2.2.1 e) 1)) Q B) ∨ (Q.1 ≠ 1 ∧ B = Q)))) := by
        rcases P with ⟨w, _⟩ | ⟨w, w2⟩ | ⟨w, Q, w2, w3⟩
        · rcases z3 with ⟨_, y⟩ | ⟨_, y⟩ <;> omega
        · exact ⟨B, w2, Or.inl ⟨w, rfl⟩⟩
        · exact ⟨Q, w2, Or.inr ⟨w, w3⟩⟩
      have c0 : 0 < c := by rcases z3 with ⟨_, y⟩ | ⟨_, y⟩ <;> omega
      have gQ := gr_INS_gE g (ck.2 0 c0).2 (ck.2 0 c0).1 hQ
      have hecQ : Q.2.1 ≤ 256 := by have := gQ.1; have := gQ.2.1; omega
      obtain ⟨kp1, kp2, kp3, _⟩ := gr_INS_keep hQ he
      refine yz_it (k := 0) (D' := Q) (by omega) hvs hnn h1 g he hp hi H I Y (fun _ => hQ) (fun nok => absurd ok0 nok) (fun _ gn nu ns nm sz pl su ma at' pe Y2 F2 => ?_)
      rcases Classical.em (Q.1 = 1) with q1 | q1
      · rcases hrest with ⟨ec, eB⟩ | ⟨ec, hr⟩
        · subst eB
          have n8 : op ≠ 8 ∧ gr_fo op b (D.2.2.1 e) = false := by
            rcases z3 with ⟨_, y⟩ | ⟨nok, _⟩
            · omega
            · refine ⟨fun z => nok ⟨nb, fun _ => Or.inl z⟩, ?_⟩
              cases hf : gr_fo op b (D.2.2.1 e)
              · rfl
              · exact absurd ⟨nb, fun _ => Or.inr hf⟩ nok
          have nok : ¬ gr_ok op a b 1 (B.2.2.1 e) := fun w => by
            rcases w.2 rfl with z | z
            · exact n8.1 z
            · rcases Nat.decEq op 3 with o | o
              · rw [gr_fo_n o] at z; exact absurd z (by decide)
              · have : B.2.2.1 e = D.2.2.1 e := kp3 (by
                  rw [hp]
                  have : xo_qs op a b t i (D.2.2.1 e) 0 = i + 1 := gr_q_f (fun w => by rcases w with w | w | w | w <;> omega)
                  omega)
                rw [this, n8.2] at z; exact absurd z (by decide)
          refine yz_it (k := 1) (D' := B) (by omega) hvs hnn q1 gQ kp1 (kp2.trans hp) hi H I Y2 (fun ok => absurd ok nok) (fun _ sz3 pl3 su3 ma3 Y3 F3 => ?_) (fun ok => absurd ok nok)
          exact yz_end (k := 2) (by omega) hecQ kp1 (Or.inl rfl) Y3 F (fun Y4 => K _ _ _ _ sz3 pl3 su3 ma3 _ _ Y4 (ys_F6t F2 F3))
        · rcases hr with ⟨_, hr⟩ | ⟨z, _⟩
          · have ok1 : gr_ok op a b 1 (D.2.2.1 e) := by
              rcases z3 with ⟨w, _⟩ | ⟨_, y⟩
              · exact w
              · omega
            have sS : Q.2.2.1 e = D.2.2.1 e := kp3 (by
              rw [hp]
              have : xo_qs op a b t i (D.2.2.1 e) 0 = i + 1 := gr_q_f (fun w => by
                rcases ok1.2 rfl with z | z
                · rcases w with w | w | w | w <;> omega
                · have o3 : op = 3 := Classical.byContradiction fun o => by rw [gr_fo_n o] at z; exact absurd z (by decide)
                  rcases w with w | w | w | w <;> omega)
              omega)
            have gB2 : B.2.1 ≤ 256 := by have := gB.1; have := gB.2.1; omega
            have kpB := gr_INS_keep hr kp1
            refine yz_it (k := 1) (D' := B) (by omega) hvs hnn q1 gQ kp1 (kp2.trans hp) hi H I Y2 (fun _ => by rw [sS]; exact hr) (fun nok => absurd (by rw [sS]; exact ok1) nok) (fun _ gn3 nu3 ns3 nm3 sz3 pl3 su3 ma3 at3 pe3 Y3 F3 => ?_)
            exact yz_end (k := 2) (by omega) gB2 kpB.1 (Or.inl rfl) Y3 F (fun Y4 => K _ _ _ _ sz3 pl3 su3 ma3 _ _ Y4 (ys_F6t F2 F3))
          · exact absurd q1 z
      · have eB : B = Q := by
          rcases hrest with ⟨_, w⟩ | ⟨_, ⟨w, _⟩ | ⟨_, w⟩⟩
          · exact w
          · exact absurd w q1
          · exact w
        subst eB
        exact yz_end (k := 1) (by omega) hecQ kp1 (Or.inr q1) Y2 F (fun Y4 => K _ _ _ _ sz pl su ma _ _ Y4 F2)
  · have ec : c = 0 := by
      rcases C with ⟨_, w⟩ | ⟨w, _⟩
      · exact w
      · omega
    subst ec
    have eB : B = D := by
      rcases P with ⟨_, w⟩ | ⟨w, _⟩ | ⟨w, _⟩
      · exact w
      · omega
      · omega
    subst eB
    have fin := yi_127 (post := post) (x2 := x2) (x3 := x3) (x4 := x4) hec Y F (fun Y4 => K f_gone a_num a_newSucc a_newMany a_size a_place a_succ a_many a_at a_pend Y4 ys_F60)
    have ev : a_at (nI e).toNatClampNeg = nI i := by rw [nI_clamp (by omega), y.2.1, hp]
    have hi40 : i ≤ 40 := by rw [← hp]; exact ge.2
    refine Exists.intro 1 (br_f (nI_ge (a := 0) (b := 2) (by omega) (by omega)) (br_f (nI_pos (by omega)) (br_t h1 ⟨vp_in_nI (by omega) (by omega), ?_⟩)))
    rw [ev]
    exact br_t (nI_le hi (by omega)) fin
theorem yz_step {post : Int32 → SY → Prop} {J24 : Int32 → Int32 → Int32 → Int32 → Int32 → Int32 → Int32 → Int32 → Int32 → Int32 → Int32 → Int32 → Int32 → Int32 → (Nat → Int32) → (Nat → Int32) → (Nat → Int32) → (Nat → Int32) → (Nat → Int32) → (Nat → Int32) → (Nat → Int32) → (Nat → Int32) → (Nat → Int32) → (Nat → Int32) → Prop} {x2 : Int32} {x3 x4 : Nat} {op pa pb pt : Nat → Nat} (hvs : vs ≤ 3) (hnn : nn ≤ 32) (h1 : A.1 = 1) (g : gE vs el A) (P : gr_pg vs nn op pa pb pt) (H : ys_P nn op pa pb pt a_prog) (Y : yE vs A a_size a_place a_succ a_many a_at a_pend) (ST : gr_STEP vs el nn op pa pb pt A A')
    (K : ∀ gn nu ns nm sz pl su ma at' pe, yE vs A' sz pl su ma at' pe → ys_F6 a_size a_place a_succ a_many sz pl su ma → J24 (nI (x3 + 1)) (nI (x4 + 1)) (nI vs) f_cells f_lengthLimit (nI el) (nI nn) f_pc f_lostCells f_machine A'.1 (nI A'.2.1) gn f_fixed a_prog at' pe sz pl su ma nu ns nm) :
    wpY_lowestPending (fun r_27 => ((r_27 < 0 → (∃ n60 : Nat, wY_analyse_60 post J24 x2 (nI x3) (nI x4) r_27 n60 0 (nI vs) f_cells f_lengthLimit (nI el) (nI nn) f_pc f_lostCells f_machine A.1 (nI A.2.1) f_gone f_fixed a_prog a_at a_pend a_size a_place a_succ a_many a_num a_newSucc a_newMany)) ∧ (¬ r_27 < 0 → (vp_in r_27 259 ∧ ∀ a_pend_138 : Nat → Int32, a_pend_138 = upd a_pend r_27.toNatClampNeg (vp_nar .boolean 0) → (∃ n60 : Nat, wY_analyse_60 post J24 x2 (nI x3) (nI x4) r_27 n60 0 (nI vs) f_cells f_lengthLimit (nI el) (nI nn) f_pc f_lostCells f_machine A.1 (nI A.2.1) f_gone f_fixed a_prog a_at a_pend_138 a_size a_place a_succ a_many a_num a_newSucc a_newMany))))) (nI vs, f_cells, f_lengthLimit, nI el, nI nn, f_pc, f_lostCells, f_machine, A.1, nI A.2.1, f_gone, f_fixed, a_prog, a_at, a_pend, a_size, a_place, a_succ, a_many, a_num, a_newSucc, a_newMany) := by
  obtain ⟨e, B, he, hs, hf⟩ := ST
  have hec : A.2.1 ≤ 256 := by have := g.1; have := g.2.1; omega
  refine yi_fp hec (fun e he => (Y e he).2.2) he (fun hlt => ?_) (fun h0 => ?_)
  · rcases hs with ⟨z, _⟩ | ⟨_, c, hc, hB⟩
    · omega
    · refine br_f (nI_pos (by omega)) ⟨vp_in_nI (by omega) (by omega), nm_e ?_⟩
      rw [nI_clamp (by omega)]
      refine yz_60 (D := gr_A0 A e) (i := A.2.2.2.1 e) hvs hnn h1 ⟨g.1, g.2.1, g.2.2⟩ hlt rfl (fun w => ⟨H _ w, P _ w⟩) (fun f hf' => ?_) hc hB hf K
      have hf2 : f < A.2.1 := hf'
      have yf := Y f hf2
      refine ⟨yf.1, yf.2.1, ?_⟩
      show upd a_pend e (vp_nar .boolean 0) f = gr_b (gr_up A.2.2.2.2 e false f)
      rcases Nat.decEq f e with z | z
      · rw [pk_un z, gr_up_n z]; exact yf.2.2
      · rw [z, pk_us, gr_up_s]; rfl
  · rcases hs with ⟨_, rfl⟩ | ⟨z, _⟩
    · have fin := yi_127 (post := post) (x2 := x2) (x3 := x3) (x4 := x4) hec Y hf (fun Y4 => K f_gone a_num a_newSucc a_newMany a_size a_place a_succ a_many a_at a_pend Y4 ys_F60)
      exact br_t (by decide) (Exists.intro 1 (br_f (nI_ge (a := 0) (b := 2) (by omega) (by omega)) (br_t (by decide) fin)))
    · omega
end
end
section
/-! Y: one step of the machine -/
section
variable {vs cl nn i op a b t k fr : Nat} {mv mh : Nat → Nat}
theorem gr_mek (hk : k = 1 → op = 8) (h2 : op = 2 → fr < cl) :
    (gr_ef op a b k fr (gr_ms cl mh mv)).1 = cl ∧ (gr_ef op a b k fr (gr_ms cl mh mv)).2.1 = gr_mh op a b fr cl mh mv ∧ (gr_ef op a b k fr (gr_ms cl mh mv)).2.2.1 = gr_mv op a b fr cl mh mv ∧ ∀ u, (gr_ef op a b k fr (gr_ms cl mh mv)).2.2.2 u = false := by
  rcases Nat.decEq op 2 with z | z
  · have nn' : ∀ k, ¬ gr_isnew op b k (gr_ms cl mh mv) := fun k c => c.elim z (fun q => by rw [gr_ms_fo] at q; exact absurd q.1 (by decide))
    have e0 := gr_mh_o (op := op) (a := a) (b := b) (fr := fr) (cl := cl) (mh := mh) (mv := mv) z
    rw [gr_ef_f (nn' k), e0.1, e0.2]
    refine ⟨?_, rfl, rfl, fun u => ?_⟩
    · unfold gr_old
      split <;> try rfl
      split <;> try rfl
      split <;> try rfl
      split <;> try rfl
      split <;> rfl
    · unfold gr_old
      split
      · rw [gr_ms_fo]; rfl
      · split <;> try rfl
        split <;> try rfl
        split <;> try rfl
        split <;> rfl
  · subst z
    have hf := h2 rfl
    rw [gr_ef_t (Or.inl rfl), gr_mh_2.1, gr_mh_2.2, gr_ms_fo, gr_w_n (by omega)]
    refine ⟨if_neg ?_, rfl, rfl, fun u => ?_⟩
    · show ¬ fr = cl
      omega
    · show gr_up (fun _ => false) fr false u = false
      unfold gr_up
      split <;> rfl
theorem gr_ms_ok (hk : k = 1 → op = 8) : gr_ok op a b k (gr_ms cl mh mv) ↔ ¬ gr_bad op a b (gr_ms cl mh mv) := ⟨fun w => w.1, fun w => ⟨w, fun z => Or.inl (hk z)⟩⟩
variable {f_vars f_cells f_lengthLimit f_entryLimit f_n f_pc f_lostCells f_machine f_analysis f_count f_gone f_fixed : Int32} {a_prog a_at a_pend a_size a_place a_succ a_many a_num a_newSucc a_newMany : Nat → Int32}
theorem ym_130 {post : Int32 → SY → Prop} {J28 : Int32 → Int32 → Int32 → Int32 → Int32 → Int32 → Int32 → Int32 → Int32 → Int32 → Int32 → Int32 → Int32 → Int32 → Int32 → (Nat → Int32) → (Nat → Int32) → (Nat → Int32) → (Nat → Int32) → (Nat → Int32) → (Nat → Int32) → (Nat → Int32) → (Nat → Int32) → (Nat → Int32) → (Nat → Int32) → Prop} {x2 x3 x5 x11 : Int32} {x4 x6 q : Nat} (hvs : vs ≤ 3) (hcl : cl ≤ 32) (hq : q ≤ 40) (hnn : nn ≤ 32) (W : gr_MW cl vs mh mv) (T : yS vs 256 (gr_ms cl mh mv) a_size a_place a_succ a_many)
    (K : ∀ su mc, yS vs 256 (gr_ms cl (gr_mc cl vs mh mv) mv) a_size a_place su a_many → ys_F 256 a_size a_place a_succ a_many a_size a_place su a_many → ((q = nn ∧ mc = 2) ∨ (q ≠ nn ∧ mc = f_machine)) →
      J28 (nI (x4 + 1)) x5 (nI (x6 + 1)) (nI vs) f_cells f_lengthLimit f_entryLimit (nI nn) (nI q) (f_lostCells + nI (gr_cn (fun u => mh u ≠ 41 ∧ ¬ gr_R mh mv vs u) cl)) mc f_analysis f_count f_gone f_fixed a_prog a_at a_pend a_size a_place su a_many a_num a_newSucc a_newMany) :
    wY_run_130 post J28 x2 x3 (nI x4) x5 (nI x6) (nI q) x11 (nI vs) f_cells f_lengthLimit f_entryLimit (nI nn) f_pc f_lostCells f_machine f_analysis f_count f_gone f_fixed a_prog a_at a_pend a_size a_place a_succ a_many a_num a_newSucc a_newMany := by
  refine br_t (nI_pos' (by omega)) ?_
  refine yc_ok (s := 256) (n := cl) (h := mh) (va := mv) (by omega) hvs W.1 T.1 T.2.1 W.2.1 T.2.2.1 (fun su h1 h2 => nm_e ?_)
  have T2 : yS vs 256 (gr_ms cl (gr_mc cl vs mh mv) mv) a_size a_place su a_many := ⟨T.1, T.2.1, fun u hu => by
    have hu' : u < cl := hu
    show su (256 * 40 + u) = gr_en (gr_mc cl vs mh mv u)
    rw [h1 u hu']
    unfold gr_mc
    rw [if_pos hu'], T.2.2.2⟩
  have F2 : ys_F 256 a_size a_place a_succ a_many a_size a_place su a_many := fun s' ne => ⟨rfl, fun _ _ => rfl, fun u hu => h2 _ (by omega), fun _ _ => rfl⟩
  exact pk_eq q nn (fun e => nm_r (nI_1 x4) (nm_r (nI_1 x6) (K su 2 T2 F2 (Or.inl ⟨e, rfl⟩)))) (fun e => nm_r (nI_1 x4) (nm_r (nI_1 x6) (K su f_machine T2 F2 (Or.inr ⟨e, rfl⟩))))
theorem ym_neg {post : Int32 → SY → Prop} {J28 : Int32 → Int32 → Int32 → Int32 → Int32 → Int32 → Int32 → Int32 → Int32 → Int32 → Int32 → Int32 → Int32 → Int32 → Int32 → (Nat → Int32) → (Nat → Int32) → (Nat → Int32) → (Nat → Int32) → (Nat → Int32) → (Nat → Int32) → (Nat → Int32) → (Nat → Int32) → (Nat → Int32) → (Nat → Int32) → Prop} {x2 x3 x4 x5 : Int32} {x6 : Nat} (K : J28 x4 x5 (nI (x6 + 1)) f_vars f_cells f_lengthLimit f_entryLimit f_n f_pc f_lostCells 3 f_analysis f_count f_gone f_fixed a_prog a_at a_pend a_size a_place a_succ a_many a_num a_newSucc a_newMany) : wY_run_130 post J28 x2 x3 x4 x5 (nI x6) (-1) 0 f_vars f_cells f_lengthLimit f_entryLimit f_n f_pc f_lostCells f_machine f_analysis f_count f_gone f_fixed a_prog a_at a_pend a_size a_place a_succ a_many a_num a_newSucc a_newMany :=
  br_f (by decide) (br_t rfl (nm_r (nI_1 x6) K))
theorem ym_full {post : Int32 → SY → Prop} {J28 : Int32 → Int32 → Int32 → Int32 → Int32 → Int32 → Int32 → Int32 → Int32 → Int32 → Int32 → Int32 → Int32 → Int32 → Int32 → (Nat → Int32) → (Nat → Int32) → (Nat → Int32) → (Nat → Int32) → (Nat → Int32) → (Nat → Int32) → (Nat → Int32) → (Nat → Int32) → (Nat → Int32) → (Nat → Int32) → Prop} {x2 x3 x4 x5 : Int32} {x6 : Nat} (K : J28 x4 x5 (nI (x6 + 1)) f_vars f_cells f_lengthLimit f_entryLimit f_n f_pc f_lostCells 4 f_analysis f_count f_gone f_fixed a_prog a_at a_pend a_size a_place a_succ a_many a_num a_newSucc a_newMany) : wY_run_130 post J28 x2 x3 x4 x5 (nI x6) (-1) 1 f_vars f_cells f_lengthLimit f_entryLimit f_n f_pc f_lostCells f_machine f_analysis f_count f_gone f_fixed a_prog a_at a_pend a_size a_place a_succ a_many a_num a_newSucc a_newMany :=
  br_f (by decide) (br_f (by decide) (nm_r (nI_1 x6) K))
theorem ym_88 {post : Int32 → SY → Prop} {J28 : Int32 → Int32 → Int32 → Int32 → Int32 → Int32 → Int32 → Int32 → Int32 → Int32 → Int32 → Int32 → Int32 → Int32 → Int32 → (Nat → Int32) → (Nat → Int32) → (Nat → Int32) → (Nat → Int32) → (Nat → Int32) → (Nat → Int32) → (Nat → Int32) → (Nat → Int32) → (Nat → Int32) → (Nat → Int32) → Prop} {x2 x3 x5 : Int32} {x4 x6 : Nat} (hi : i < 32) (hvs : vs ≤ 3) (hcl : cl ≤ 32) (hnn : nn ≤ 32) (hk : k ≤ 1) (hk8 : k = 1 → op = 8) (H : ys_I i op a b t a_prog) (I : gr_ins vs op a b t) (W : gr_MW cl vs mh mv) (T : yS vs 256 (gr_ms cl mh mv) a_size a_place a_succ a_many) (F : gr_fr cl mh fr)
    (K3 : gr_bad op a b (gr_ms cl mh mv) → J28 (nI x4) x5 (nI (x6 + 1)) (nI vs) (nI cl) f_lengthLimit f_entryLimit (nI nn) (nI i) f_lostCells 3 f_analysis f_count f_gone f_fixed a_prog a_at a_pend a_size a_place a_succ a_many a_num a_newSucc a_newMany)
    (K4 : ¬ gr_bad op a b (gr_ms cl mh mv) → op = 2 → fr = cl → J28 (nI x4) x5 (nI (x6 + 1)) (nI vs) (nI cl) f_lengthLimit f_entryLimit (nI nn) (nI i) f_lostCells 4 f_analysis f_count f_gone f_fixed a_prog a_at a_pend a_size a_place a_succ a_many a_num a_newSucc a_newMany)
    (K : ¬ gr_bad op a b (gr_ms cl mh mv) → (op = 2 → fr < cl) → ∀ sz pl su ma mc, yS vs 256 (gr_ms cl (gr_mc cl vs (gr_mh op a b fr cl mh mv) (gr_mv op a b fr cl mh mv)) (gr_mv op a b fr cl mh mv)) sz pl su ma → ys_F 256 a_size a_place a_succ a_many sz pl su ma →
      ((gr_q op a b t k i (gr_ms cl mh mv) = nn ∧ mc = 2) ∨ (gr_q op a b t k i (gr_ms cl mh mv) ≠ nn ∧ mc = f_machine)) →
      J28 (nI (x4 + 1)) x5 (nI (x6 + 1)) (nI vs) (nI cl) f_lengthLimit f_entryLimit (nI nn) (nI (gr_q op a b t k i (gr_ms cl mh mv))) (f_lostCells + nI (gr_cn (fun u => gr_mh op a b fr cl mh mv u ≠ 41 ∧ ¬ gr_R (gr_mh op a b fr cl mh mv) (gr_mv op a b fr cl mh mv) vs u) cl)) mc f_analysis f_count f_gone f_fixed a_prog a_at a_pend sz pl su ma a_num a_newSucc a_newMany) :
    wY_run_88 post J28 x2 x3 (nI x4) x5 (nI x6) (nI op) (nI k) (nI fr) (-1) (nI vs) (nI cl) f_lengthLimit f_entryLimit (nI nn) (nI i) f_lostCells f_machine f_analysis f_count f_gone f_fixed a_prog a_at a_pend a_size a_place a_succ a_many a_num a_newSucc a_newMany := by
  have hop := I.1
  have hfr : fr ≤ cl := by rcases F with z | z <;> omega
  have go : (op = 2 → fr < cl) → wY_run_107 post J28 x2 x3 (nI x4) x5 (nI x6) (nI k) (-1) (nI vs) (nI cl) f_lengthLimit f_entryLimit (nI nn) (nI i) f_lostCells f_machine f_analysis f_count f_gone f_fixed a_prog a_at a_pend a_size a_place a_succ a_many a_num a_newSucc a_newMany := by
    intro h2
    refine br_t rfl ?_
    refine yf_ok (s := 256) (fr := fr) (by omega) hi hvs hk H I (gr_MW_W W) T F (fun _ _ => by show fr < 40; omega) (fun ok sz pl su ma T2 F2 => ?_) (fun nok => ?_)
    · have nb := (gr_ms_ok hk8).mp ok
      obtain ⟨m1, m2, m3, m4⟩ := gr_mek (a := a) (b := b) (cl := cl) (mh := mh) (mv := mv) hk8 h2
      have W2 := gr_mef I W hcl nb F h2
      have T3 : yS vs 256 (gr_ms cl (gr_mh op a b fr cl mh mv) (gr_mv op a b fr cl mh mv)) sz pl su ma := by
        obtain ⟨t1, t2, t3, t4⟩ := T2
        rw [m1] at t1 t3 t4
        rw [m2] at t3
        rw [m3] at t2
        exact ⟨t1, t2, t3, fun u hu => by rw [t4 u hu, m4 u]; rfl⟩
      refine ym_130 hvs hcl (gr_q_le I hi) hnn W2 T3 (fun su2 mc T4 F4 hmc => ?_)
      exact K nb h2 sz pl su2 ma mc T4 (ys_Ft F2 F4) hmc
    · exact ym_neg (K3 (Classical.byContradiction fun z => nok ((gr_ms_ok hk8).mpr z)))
  refine pk_eq op 2 (fun e => pk_eq fr cl (fun e2 => ?_) (fun e2 => go (fun _ => by omega))) (fun e => go (fun z => absurd z e))
  refine br_f (by decide) (ym_full (K4 (fun w => ?_) e e2))
  rcases w with w | w <;> omega
end
end
section
/-! THE RELATION -/
def re_C (vs cl ll el nn pc : Nat) (f_fixed f_machine : Int32) (op pa pb pt mv mh : Nat → Nat) (A : gr_A) (a_opOf a_aOf a_bOf a_tOf a_machineVar a_cellUsed a_cellLink a_tabNodes a_tabSum a_tabVar a_tabSucc a_entPoint a_entPending b_prog b_at b_pend b_size b_place b_succ b_many : Nat → Int32) : Prop :=
  (1 ≤ vs ∧ vs ≤ 3) ∧ (1 ≤ cl ∧ cl ≤ 32) ∧ (4 ≤ ll ∧ ll ≤ 32) ∧ (4 ≤ el ∧ el ≤ 256) ∧ nn ≤ ll ∧ (pc ≤ nn ∧ (f_machine = 1 → ¬ f_fixed = 0 ∧ pc < nn)) ∧ (¬ f_fixed = 0 → 0 < nn ∧ ∀ i, i < nn → 6 ≤ op i → pt i ≤ nn) ∧
  gr_pg vs nn op pa pb pt ∧ xs_P vs nn op pa pb pt a_opOf a_aOf a_bOf a_tOf ∧ ys_P nn op pa pb pt b_prog ∧ gr_MW cl vs mh mv ∧ xs_M vs cl mv mh a_machineVar a_cellUsed a_cellLink ∧ yS vs 256 (gr_ms cl mh mv) b_size b_place b_succ b_many ∧
  gE vs el A ∧ xE vs A a_tabNodes a_tabSum a_tabVar a_tabSucc a_entPoint a_entPending ∧ yE vs A b_size b_place b_succ b_many b_at b_pend
abbrev re_T (f_vars : Int32) (f_cells : Int32) (f_lengthLimit : Int32) (f_entryLimit : Int32) (f_count : Int32) (f_fixed : Int32) (f_machine : Int32) (f_machinePc : Int32) (f_lostCount : Int32) (f_coinBits : Int32) (f_analysis : Int32) (f_entryCount : Int32) (f_outCount : Int32) (f_outLost : Int32) (f_wCount : Int32) (f_workLost : Int32) (f_numbered : Int32) (f_sumMask : Int32) (f_walkCount : Int32) (f_walkSummary : Int32) (f_walkRing : Int32) (a_opOf : Nat → Int32) (a_aOf : Nat → Int32) (a_bOf : Nat → Int32) (a_tOf : Nat → Int32) (a_machineVar : Nat → Int32) (a_cellUsed : Nat → Int32) (a_cellLink : Nat → Int32) (a_tabNodes : Nat → Int32) (a_tabSum : Nat → Int32) (a_tabVar : Nat → Int32) (a_tabSucc : Nat → Int32) (a_entPoint : Nat → Int32) (a_entPending : Nat → Int32) (a_outPoint : Nat → Int32) (a_wVar : Nat → Int32) (a_wSucc : Nat → Int32) (a_wSum : Nat → Int32) (a_mark : Nat → Int32) (a_head : Nat → Int32) (a_preds : Nat → Int32) (a_number : Nat → Int32) (a_rawNext : Nat → Int32) (g_vars : Int32) (g_cells : Int32) (g_lengthLimit : Int32) (g_entryLimit : Int32) (g_n : Int32) (g_pc : Int32) (g_lostCells : Int32) (g_machine : Int32) (g_analysis : Int32) (g_count : Int32) (g_gone : Int32) (g_fixed : Int32) (b_prog : Nat → Int32) (b_at : Nat → Int32) (b_pend : Nat → Int32) (b_size : Nat → Int32) (b_place : Nat → Int32) (b_succ : Nat → Int32) (b_many : Nat → Int32) (b_num : Nat → Int32) (b_newSucc : Nat → Int32) (b_newMany : Nat → Int32) : Prop :=
  ∃ (vs cl ll el nn pc : Nat) (op pa pb pt mv mh : Nat → Nat) (A : gr_A), f_vars = nI vs ∧ g_vars = nI vs ∧ f_cells = nI cl ∧ g_cells = nI cl ∧ f_lengthLimit = nI ll ∧ g_lengthLimit = nI ll ∧ f_entryLimit = nI el ∧ g_entryLimit = nI el ∧ f_count = nI nn ∧ g_n = nI nn ∧ f_machinePc = nI pc ∧ g_pc = nI pc ∧ f_analysis = A.1 ∧ g_analysis = A.1 ∧ f_entryCount = nI A.2.1 ∧ g_count = nI A.2.1 ∧ f_fixed = g_fixed ∧ f_machine = g_machine ∧ f_lostCount = g_lostCells ∧ re_C vs cl ll el nn pc f_fixed f_machine op pa pb pt mv mh A a_opOf a_aOf a_bOf a_tOf a_machineVar a_cellUsed a_cellLink a_tabNodes a_tabSum a_tabVar a_tabSucc a_entPoint a_entPending b_prog b_at b_pend b_size b_place b_succ b_many
def i_Rel (k : Nat) (u : SX) (v : SY) : Prop := match u, v with
  | (f_vars, f_cells, f_lengthLimit, f_entryLimit, f_count, f_fixed, f_machine, f_machinePc, f_lostCount, f_coinBits, f_analysis, f_entryCount, f_outCount, f_outLost, f_wCount, f_workLost, f_numbered, f_sumMask, f_walkCount, f_walkSummary, f_walkRing, a_opOf, a_aOf, a_bOf, a_tOf, a_machineVar, a_cellUsed, a_cellLink, a_tabNodes, a_tabSum, a_tabVar, a_tabSucc, a_entPoint, a_entPending, a_outPoint, a_wVar, a_wSucc, a_wSum, a_mark, a_head, a_preds, a_number, a_rawNext), (g_vars, g_cells, g_lengthLimit, g_entryLimit, g_n, g_pc, g_lostCells, g_machine, g_analysis, g_count, g_gone, g_fixed, b_prog, b_at, b_pend, b_size, b_place, b_succ, b_many, b_num, b_newSucc, b_newMany) => re_T f_vars f_cells f_lengthLimit f_entryLimit f_count f_fixed f_machine f_machinePc f_lostCount f_coinBits f_analysis f_entryCount f_outCount f_outLost f_wCount f_workLost f_numbered f_sumMask f_walkCount f_walkSummary f_walkRing a_opOf a_aOf a_bOf a_tOf a_machineVar a_cellUsed a_cellLink a_tabNodes a_tabSum a_tabVar a_tabSucc a_entPoint a_entPending a_outPoint a_wVar a_wSucc a_wSum a_mark a_head a_preds a_number a_rawNext g_vars g_cells g_lengthLimit g_entryLimit g_n g_pc g_lostCells g_machine g_analysis g_count g_gone g_fixed b_prog b_at b_pend b_size b_place b_succ b_many b_num b_newSucc b_newMany
theorem re_in {k : Nat} {vs cl ll el nn pc : Nat} {op pa pb pt mv mh : Nat → Nat} {A : gr_A} {f_fixed f_machine f_lostCount f_coinBits f_outCount f_outLost f_wCount f_workLost f_numbered f_sumMask f_walkCount f_walkSummary f_walkRing g_gone : Int32} {a_opOf a_aOf a_bOf a_tOf a_machineVar a_cellUsed a_cellLink a_tabNodes a_tabSum a_tabVar a_tabSucc a_entPoint a_entPending a_outPoint a_wVar a_wSucc a_wSum a_mark a_head a_preds a_number a_rawNext b_prog b_at b_pend b_size b_place b_succ b_many b_num b_newSucc b_newMany : Nat → Int32} (C : re_C vs cl ll el nn pc f_fixed f_machine op pa pb pt mv mh A a_opOf a_aOf a_bOf a_tOf a_machineVar a_cellUsed a_cellLink a_tabNodes a_tabSum a_tabVar a_tabSucc a_entPoint a_entPending b_prog b_at b_pend b_size b_place b_succ b_many) : i_Rel k (nI vs, nI cl, nI ll, nI el, nI nn, f_fixed, f_machine, nI pc, f_lostCount, f_coinBits, A.1, nI A.2.1, f_outCount, f_outLost, f_wCount, f_workLost, f_numbered, f_sumMask, f_walkCount, f_walkSummary, f_walkRing, a_opOf, a_aOf, a_bOf, a_tOf, a_machineVar, a_cellUsed, a_cellLink, a_tabNodes, a_tabSum, a_tabVar, a_tabSucc, a_entPoint, a_entPending, a_outPoint, a_wVar, a_wSucc, a_wSum, a_mark, a_head, a_preds, a_number, a_rawNext) (nI vs, nI cl, nI ll, nI el, nI nn, nI pc, f_lostCount, f_machine, A.1, nI A.2.1, g_gone, f_fixed, b_prog, b_at, b_pend, b_size, b_place, b_succ, b_many, b_num, b_newSucc, b_newMany) :=
  show re_T (nI vs) (nI cl) (nI ll) (nI el) (nI nn) f_fixed f_machine (nI pc) f_lostCount f_coinBits A.1 (nI A.2.1) f_outCount f_outLost f_wCount f_workLost f_numbered f_sumMask f_walkCount f_walkSummary f_walkRing a_opOf a_aOf a_bOf a_tOf a_machineVar a_cellUsed a_cellLink a_tabNodes a_tabSum a_tabVar a_tabSucc a_entPoint a_entPending a_outPoint a_wVar a_wSucc a_wSum a_mark a_head a_preds a_number a_rawNext (nI vs) (nI cl) (nI ll) (nI el) (nI nn) (nI pc) f_lostCount f_machine A.1 (nI A.2.1) g_gone f_fixed b_prog b_at b_pend b_size b_place b_succ b_many b_num b_newSucc b_newMany from ⟨vs, cl, ll, el, nn, pc, op, pa, pb, pt, mv, mh, A, rfl, rfl, rfl, rfl, rfl, rfl, rfl, rfl, rfl, rfl, rfl, rfl, rfl, rfl, rfl, rfl, rfl, rfl, rfl, C⟩
theorem re_el {k : Nat} {P : SX → SY → Prop} {u : SX} {v : SY} (I : i_Rel k u v) (h : ∀ (vs cl ll el nn pc : Nat) (op pa pb pt mv mh : Nat → Nat) (A : gr_A) (f_fixed f_machine f_lostCount f_coinBits f_outCount f_outLost f_wCount f_workLost f_numbered f_sumMask f_walkCount f_walkSummary f_walkRing g_gone : Int32) (a_opOf a_aOf a_bOf a_tOf a_machineVar a_cellUsed a_cellLink a_tabNodes a_tabSum a_tabVar a_tabSucc a_entPoint a_entPending a_outPoint a_wVar a_wSucc a_wSum a_mark a_head a_preds a_number a_rawNext b_prog b_at b_pend b_size b_place b_succ b_many b_num b_newSucc b_newMany : Nat → Int32), re_C vs cl ll el nn pc f_fixed f_machine op pa pb pt mv mh A a_opOf a_aOf a_bOf a_tOf a_machineVar a_cellUsed a_cellLink a_tabNodes a_tabSum a_tabVar a_tabSucc a_entPoint a_entPending b_prog b_at b_pend b_size b_place b_succ b_many → P (nI vs, nI cl, nI ll, nI el, nI nn, f_fixed, f_machine, nI pc, f_lostCount, f_coinBits, A.1, nI A.2.1, f_outCount, f_outLost, f_wCount, f_workLost, f_numbered, f_sumMask, f_walkCount, f_walkSummary, f_walkRing, a_opOf, a_aOf, a_bOf, a_tOf, a_machineVar, a_cellUsed, a_cellLink, a_tabNodes, a_tabSum, a_tabVar, a_tabSucc, a_entPoint, a_entPending, a_outPoint, a_wVar, a_wSucc, a_wSum, a_mark, a_head, a_preds, a_number, a_rawNext) (nI vs, nI cl, nI ll, nI el, nI nn, nI pc, f_lostCount, f_machine, A.1, nI A.2.1, g_gone, f_fixed, b_prog, b_at, b_pend, b_size, b_place, b_succ, b_many, b_num, b_newSucc, b_newMany)) : P u v := by
  obtain ⟨f_vars, f_cells, f_lengthLimit, f_entryLimit, f_count, f_fixed, f_machine, f_machinePc, f_lostCount, f_coinBits, f_analysis, f_entryCount, f_outCount, f_outLost, f_wCount, f_workLost, f_numbered, f_sumMask, f_walkCount, f_walkSummary, f_walkRing, a_opOf, a_aOf, a_bOf, a_tOf, a_machineVar, a_cellUsed, a_cellLink, a_tabNodes, a_tabSum, a_tabVar, a_tabSucc, a_entPoint, a_entPending, a_outPoint, a_wVar, a_wSucc, a_wSum, a_mark, a_head, a_preds, a_number, a_rawNext⟩ := u
  obtain ⟨g_vars, g_cells, g_lengthLimit, g_entryLimit, g_n, g_pc, g_lostCells, g_machine, g_analysis, g_count, g_gone, g_fixed, b_prog, b_at, b_pend, b_size, b_place, b_succ, b_many, b_num, b_newSucc, b_newMany⟩ := v
  have I2 : re_T f_vars f_cells f_lengthLimit f_entryLimit f_count f_fixed f_machine f_machinePc f_lostCount f_coinBits f_analysis f_entryCount f_outCount f_outLost f_wCount f_workLost f_numbered f_sumMask f_walkCount f_walkSummary f_walkRing a_opOf a_aOf a_bOf a_tOf a_machineVar a_cellUsed a_cellLink a_tabNodes a_tabSum a_tabVar a_tabSucc a_entPoint a_entPending a_outPoint a_wVar a_wSucc a_wSum a_mark a_head a_preds a_number a_rawNext g_vars g_cells g_lengthLimit g_entryLimit g_n g_pc g_lostCells g_machine g_analysis g_count g_gone g_fixed b_prog b_at b_pend b_size b_place b_succ b_many b_num b_newSucc b_newMany := I
  obtain ⟨vs, cl, ll, el, nn, pc, op, pa, pb, pt, mv, mh, A, e1, e2, e3, e4, e5, e6, e7, e8, e9, e10, e11, e12, e13, e14, e15, e16, e17, e18, e19, C⟩ := I2
  subst e1 e2 e3 e4 e5 e6 e7 e8 e9 e10 e11 e12 e13 e14 e15 e16 e17 e18 e19
  exact h vs cl ll el nn pc op pa pb pt mv mh A f_fixed f_machine f_lostCount f_coinBits f_outCount f_outLost f_wCount f_workLost f_numbered f_sumMask f_walkCount f_walkSummary f_walkRing g_gone a_opOf a_aOf a_bOf a_tOf a_machineVar a_cellUsed a_cellLink a_tabNodes a_tabSum a_tabVar a_tabSucc a_entPoint a_entPending a_outPoint a_wVar a_wSucc a_wSum a_mark a_head a_preds a_number a_rawNext b_prog b_at b_pend b_size b_place b_succ b_many b_num b_newSucc b_newMany C
theorem i_up {k : Nat} {u : SX} {v : SY} (h : i_Rel k u v) : i_Rel (k + 5) u v := h
end
section
/-! the methods that only read fields and arrays -/
theorem ix_neg {x : Int32} (h : x < 0) (n : ¬ x = -1) : x < -1 := by
  rw [Int32.lt_iff_toInt_lt] at h ⊢
  rw [show (0 : Int32).toInt = 0 from by decide] at h
  rw [show (-1 : Int32).toInt = -1 from by decide]
  have : x.toInt ≠ -1 := fun e => n (Int32.toInt_inj.mp (e.trans (by decide)))
  omega
theorem ix_nneg {x : Int32} (h : ¬ x < -1) (n : ¬ x = -1) : ¬ x < 0 := fun z => h (ix_neg z n)
theorem ix_nI_m1 {j : Nat} (h : j < 2 ^ 31) : ¬ nI j < -1 := by
  rw [Int32.lt_iff_toInt_lt, nI_toInt h, show (-1 : Int32).toInt = -1 from by decide]; omega
theorem ix_m1_lt {j : Nat} (h : j < 2 ^ 31) : -1 < nI j := by
  rw [Int32.lt_iff_toInt_lt, nI_toInt h, show (-1 : Int32).toInt = -1 from by decide]; omega
theorem ix_ge_n {x : Int32} {n : Nat} (hn : n < 2 ^ 31) (h : nI n ≤ x) : ¬ x < 0 ∧ ¬ x < nI n := by
  refine ⟨fun z => ?_, Int32.not_lt.mpr h⟩
  rw [Int32.lt_iff_toInt_lt, show (0 : Int32).toInt = 0 from by decide] at z
  rw [Int32.le_iff_toInt_le, nI_toInt hn] at h
  omega
theorem i_vc_length {k : Nat} {u : SX} {v : SY} (I : i_Rel k u v) (hk : k + 5 ≤ 2564) : wpX_length (fun r => wpY_length (fun r' => r' = r ∧ i_Rel (k + 5) u v) v) u := by
  refine re_el (P := fun u v => wpX_length (fun r => wpY_length (fun r' => r' = r ∧ i_Rel (k + 5) u v) v) u) I ?_
  intro vs cl ll el nn pc op pa pb pt mv mh A f_fixed f_machine f_lostCount f_coinBits f_outCount f_outLost f_wCount f_workLost f_numbered f_sumMask f_walkCount f_walkSummary f_walkRing g_gone a_opOf a_aOf a_bOf a_tOf a_machineVar a_cellUsed a_cellLink a_tabNodes a_tabSum a_tabVar a_tabSucc a_entPoint a_entPending a_outPoint a_wVar a_wSucc a_wSum a_mark a_head a_preds a_number a_rawNext b_prog b_at b_pend b_size b_place b_succ b_many b_num b_newSucc b_newMany C
  exact ⟨rfl, re_in C⟩
theorem i_vc_machineState {k : Nat} {u : SX} {v : SY} (I : i_Rel k u v) (hk : k + 5 ≤ 2564) : wpX_machineState (fun r => wpY_machineState (fun r' => r' = r ∧ i_Rel (k + 5) u v) v) u := by
  refine re_el (P := fun u v => wpX_machineState (fun r => wpY_machineState (fun r' => r' = r ∧ i_Rel (k + 5) u v) v) u) I ?_
  intro vs cl ll el nn pc op pa pb pt mv mh A f_fixed f_machine f_lostCount f_coinBits f_outCount f_outLost f_wCount f_workLost f_numbered f_sumMask f_walkCount f_walkSummary f_walkRing g_gone a_opOf a_aOf a_bOf a_tOf a_machineVar a_cellUsed a_cellLink a_tabNodes a_tabSum a_tabVar a_tabSucc a_entPoint a_entPending a_outPoint a_wVar a_wSucc a_wSum a_mark a_head a_preds a_number a_rawNext b_prog b_at b_pend b_size b_place b_succ b_many b_num b_newSucc b_newMany C
  exact ⟨rfl, re_in C⟩
theorem i_vc_pc {k : Nat} {u : SX} {v : SY} (I : i_Rel k u v) (hk : k + 5 ≤ 2564) : wpX_pc (fun r => wpY_pc (fun r' => r' = r ∧ i_Rel (k + 5) u v) v) u := by
  refine re_el (P := fun u v => wpX_pc (fun r => wpY_pc (fun r' => r' = r ∧ i_Rel (k + 5) u v) v) u) I ?_
  intro vs cl ll el nn pc op pa pb pt mv mh A f_fixed f_machine f_lostCount f_coinBits f_outCount f_outLost f_wCount f_workLost f_numbered f_sumMask f_walkCount f_walkSummary f_walkRing g_gone a_opOf a_aOf a_bOf a_tOf a_machineVar a_cellUsed a_cellLink a_tabNodes a_tabSum a_tabVar a_tabSucc a_entPoint a_entPending a_outPoint a_wVar a_wSucc a_wSum a_mark a_head a_preds a_number a_rawNext b_prog b_at b_pend b_size b_place b_succ b_many b_num b_newSucc b_newMany C
  exact ⟨rfl, re_in C⟩
theorem i_vc_lost {k : Nat} {u : SX} {v : SY} (I : i_Rel k u v) (hk : k + 5 ≤ 2564) : wpX_lost (fun r => wpY_lost (fun r' => r' = r ∧ i_Rel (k + 5) u v) v) u := by
  refine re_el (P := fun u v => wpX_lost (fun r => wpY_lost (fun r' => r' = r ∧ i_Rel (k + 5) u v) v) u) I ?_
  intro vs cl ll el nn pc op pa pb pt mv mh A f_fixed f_machine f_lostCount f_coinBits f_outCount f_outLost f_wCount f_workLost f_numbered f_sumMask f_walkCount f_walkSummary f_walkRing g_gone a_opOf a_aOf a_bOf a_tOf a_machineVar a_cellUsed a_cellLink a_tabNodes a_tabSum a_tabVar a_tabSucc a_entPoint a_entPending a_outPoint a_wVar a_wSucc a_wSum a_mark a_head a_preds a_number a_rawNext b_prog b_at b_pend b_size b_place b_succ b_many b_num b_newSucc b_newMany C
  exact ⟨rfl, re_in C⟩
theorem i_vc_analysisState {k : Nat} {u : SX} {v : SY} (I : i_Rel k u v) (hk : k + 5 ≤ 2564) : wpX_analysisState (fun r => wpY_analysisState (fun r' => r' = r ∧ i_Rel (k + 5) u v) v) u := by
  refine re_el (P := fun u v => wpX_analysisState (fun r => wpY_analysisState (fun r' => r' = r ∧ i_Rel (k + 5) u v) v) u) I ?_
  intro vs cl ll el nn pc op pa pb pt mv mh A f_fixed f_machine f_lostCount f_coinBits f_outCount f_outLost f_wCount f_workLost f_numbered f_sumMask f_walkCount f_walkSummary f_walkRing g_gone a_opOf a_aOf a_bOf a_tOf a_machineVar a_cellUsed a_cellLink a_tabNodes a_tabSum a_tabVar a_tabSucc a_entPoint a_entPending a_outPoint a_wVar a_wSucc a_wSum a_mark a_head a_preds a_number a_rawNext b_prog b_at b_pend b_size b_place b_succ b_many b_num b_newSucc b_newMany C
  exact ⟨rfl, re_in C⟩
theorem i_vc_entries {k : Nat} {u : SX} {v : SY} (I : i_Rel k u v) (hk : k + 5 ≤ 2564) : wpX_entries (fun r => wpY_entries (fun r' => r' = r ∧ i_Rel (k + 5) u v) v) u := by
  refine re_el (P := fun u v => wpX_entries (fun r => wpY_entries (fun r' => r' = r ∧ i_Rel (k + 5) u v) v) u) I ?_
  intro vs cl ll el nn pc op pa pb pt mv mh A f_fixed f_machine f_lostCount f_coinBits f_outCount f_outLost f_wCount f_workLost f_numbered f_sumMask f_walkCount f_walkSummary f_walkRing g_gone a_opOf a_aOf a_bOf a_tOf a_machineVar a_cellUsed a_cellLink a_tabNodes a_tabSum a_tabVar a_tabSucc a_entPoint a_entPending a_outPoint a_wVar a_wSucc a_wSum a_mark a_head a_preds a_number a_rawNext b_prog b_at b_pend b_size b_place b_succ b_many b_num b_newSucc b_newMany C
  exact ⟨rfl, re_in C⟩
theorem i_vc_field {k : Nat} {u : SX} {v : SY} (I : i_Rel k u v) (hk : k + 5 ≤ 2564) (v1 : Int32) (v2 : Int32) : wpX_field (fun r => wpY_field (fun r' => r' = r ∧ i_Rel (k + 5) u v) v v1 v2) u v1 v2 := by
  refine re_el (P := fun u v => wpX_field (fun r => wpY_field (fun r' => r' = r ∧ i_Rel (k + 5) u v) v v1 v2) u v1 v2) I ?_
  intro vs cl ll el nn pc op pa pb pt mv mh A f_fixed f_machine f_lostCount f_coinBits f_outCount f_outLost f_wCount f_workLost f_numbered f_sumMask f_walkCount f_walkSummary f_walkRing g_gone a_opOf a_aOf a_bOf a_tOf a_machineVar a_cellUsed a_cellLink a_tabNodes a_tabSum a_tabVar a_tabSucc a_entPoint a_entPending a_outPoint a_wVar a_wSucc a_wSum a_mark a_head a_preds a_number a_rawNext b_prog b_at b_pend b_size b_place b_succ b_many b_num b_newSucc b_newMany C
  have R := re_in (k := k + 5) (f_lostCount := f_lostCount) (f_coinBits := f_coinBits) (f_outCount := f_outCount) (f_outLost := f_outLost) (f_wCount := f_wCount) (f_workLost := f_workLost) (f_numbered := f_numbered) (f_sumMask := f_sumMask) (f_walkCount := f_walkCount) (f_walkSummary := f_walkSummary) (f_walkRing := f_walkRing) (g_gone := g_gone) (a_outPoint := a_outPoint) (a_wVar := a_wVar) (a_wSucc := a_wSucc) (a_wSum := a_wSum) (a_mark := a_mark) (a_head := a_head) (a_preds := a_preds) (a_number := a_number) (a_rawNext := a_rawNext) (b_num := b_num) (b_newSucc := b_newSucc) (b_newMany := b_newMany) C
  obtain ⟨hvs, hcl, hll, hel, hnn, hpc, hfx, P, HX, HY, MW, MX, MY, G, XE, YE⟩ := C
  rcases pk_ix v1 (n := nn) (by omega) with h | h | ⟨j, hj, rfl⟩
  · exact br_t h (br_t h ⟨rfl, R⟩)
  · obtain ⟨h1, h2⟩ := ix_ge_n (by omega) h
    exact br_f h1 (br_f h2 (br_f h1 (br_t h ⟨rfl, R⟩)))
  · have p := nI_pos (n := j) (by omega)
    have lt := nI_lt hj (show nn < 2 ^ 31 by omega)
    have ge := nI_ge hj (show nn < 2 ^ 31 by omega)
    have xi := HX j hj
    have yi := HY j hj
    have cl' : (nI j).toNatClampNeg = j := nI_clamp (by omega)
    refine br_f p (br_t lt ?_)
    by_cases h0 : v2 < 0
    · exact br_t h0 (br_f p (br_f ge (br_t h0 ⟨rfl, R⟩)))
    · by_cases h3 : 3 < v2
      · exact br_f h0 (br_t h3 (br_f p (br_f ge (br_f h0 (br_f (Int32.not_le.mpr h3) ⟨rfl, R⟩)))))
      · obtain ⟨w, hw, rfl⟩ := nI_of2 (M := 3) (n := 3) (by decide) h0 (Int32.not_lt.mp h3)
        have le3 : nI w ≤ 3 := Int32.not_lt.mp h3
        have idx : (nI j * 4 + nI w).toNatClampNeg = j * 4 + w := by rw [ix_4, nI_clamp (by omega)]
        have inr : vp_in (nI j * 4 + nI w) 128 := by rw [ix_4]; exact vp_in_nI (by omega) (by omega)
        have fin : ∀ z, b_prog (j * 4 + w) = z → wpY_field (fun r' => r' = z ∧ i_Rel (k + 5) (nI vs, nI cl, nI ll, nI el, nI nn, f_fixed, f_machine, nI pc, f_lostCount, f_coinBits, A.1, nI A.2.1, f_outCount, f_outLost, f_wCount, f_workLost, f_numbered, f_sumMask, f_walkCount, f_walkSummary, f_walkRing, a_opOf, a_aOf, a_bOf, a_tOf, a_machineVar, a_cellUsed, a_cellLink, a_tabNodes, a_tabSum, a_tabVar, a_tabSucc, a_entPoint, a_entPending, a_outPoint, a_wVar, a_wSucc, a_wSum, a_mark, a_head, a_preds, a_number, a_rawNext) (nI vs, nI cl, nI ll, nI el, nI nn, nI pc, f_lostCount, f_machine, A.1, nI A.2.1, g_gone, f_fixed, b_prog, b_at, b_pend, b_size, b_place, b_succ, b_many, b_num, b_newSucc, b_newMany)) (nI vs, nI cl, nI ll, nI el, nI nn, nI pc, f_lostCount, f_machine, A.1, nI A.2.1, g_gone, f_fixed, b_prog, b_at, b_pend, b_size, b_place, b_succ, b_many, b_num, b_newSucc, b_newMany) (nI j) (nI w) := by
          intro z hz
          refine br_f p (br_f ge (br_f h0 (br_t le3 ⟨inr, ?_, R⟩)))
          rw [idx]; exact hz
        refine br_f h0 (br_f h3 (pk_eq w 0 (fun e => ⟨vp_in_nI (by omega) (by omega), ?_⟩) (fun n0 => pk_eq w 1 (fun e => ⟨vp_in_nI (by omega) (by omega), ?_⟩) (fun n1 => pk_eq w 2 (fun e => ⟨vp_in_nI (by omega) (by omega), ?_⟩) (fun n2 => pk_eq w 3 (fun e => ⟨vp_in_nI (by omega) (by omega), ?_⟩) (fun n3 => by omega))))))
        · rw [cl']; subst e; exact fin _ (yi.1.trans xi.1.symm)
        · rw [cl']; subst e; exact fin _ (yi.2.1.trans xi.2.1.symm)
        · rw [cl']; subst e; exact fin _ (yi.2.2.1.trans xi.2.2.1.symm)
        · rw [cl']; subst e; exact fin _ (yi.2.2.2.trans xi.2.2.2.symm)
theorem i_vc_varCell {k : Nat} {u : SX} {v : SY} (I : i_Rel k u v) (hk : k + 5 ≤ 2564) (v1 : Int32) : wpX_varCell (fun r => wpY_varCell (fun r' => r' = r ∧ i_Rel (k + 5) u v) v v1) u v1 := by
  refine re_el (P := fun u v => wpX_varCell (fun r => wpY_varCell (fun r' => r' = r ∧ i_Rel (k + 5) u v) v v1) u v1) I ?_
  intro vs cl ll el nn pc op pa pb pt mv mh A f_fixed f_machine f_lostCount f_coinBits f_outCount f_outLost f_wCount f_workLost f_numbered f_sumMask f_walkCount f_walkSummary f_walkRing g_gone a_opOf a_aOf a_bOf a_tOf a_machineVar a_cellUsed a_cellLink a_tabNodes a_tabSum a_tabVar a_tabSucc a_entPoint a_entPending a_outPoint a_wVar a_wSucc a_wSum a_mark a_head a_preds a_number a_rawNext b_prog b_at b_pend b_size b_place b_succ b_many b_num b_newSucc b_newMany C
  have C' := C
  obtain ⟨hvs, hcl, hll, hel, hnn, hpc, hfx, P, HX, HY, MW, MX, MY, G, XE, YE⟩ := C
  rcases pk_ix v1 (n := vs) (by omega) with h | h | ⟨j, hj, rfl⟩
  · exact br_t h (br_t h ⟨rfl, re_in C'⟩)
  · obtain ⟨h1, h2⟩ := ix_ge_n (by omega) h
    exact br_f h1 (br_f h2 (br_f h1 (br_f h2 ⟨rfl, re_in C'⟩)))
  · have p := nI_pos (n := j) (by omega)
    have lt := nI_lt hj (show vs < 2 ^ 31 by omega)
    have e768 : (768 : Int32) + nI j = nI (768 + j) := nI_add 768 j
    refine br_f p (br_t lt ⟨vp_in_nI (by omega) (by omega), br_f p (br_t lt ⟨?_, ?_, re_in C'⟩)⟩)
    · rw [e768]; exact vp_in_nI (by omega) (by omega)
    · rw [e768, nI_clamp (by omega), nI_clamp (by omega), MX.1 j hj]
      have := MY.2.1 j hj
      have := MW.2.1 j hj
      rw [gr_ex_en (by omega)]
      exact MY.2.1 j hj
theorem i_vc_cellNext {k : Nat} {u : SX} {v : SY} (I : i_Rel k u v) (hk : k + 5 ≤ 2564) (v1 : Int32) : wpX_cellNext (fun r => wpY_cellNext (fun r' => r' = r ∧ i_Rel (k + 5) u v) v v1) u v1 := by
  refine re_el (P := fun u v => wpX_cellNext (fun r => wpY_cellNext (fun r' => r' = r ∧ i_Rel (k + 5) u v) v v1) u v1) I ?_
  intro vs cl ll el nn pc op pa pb pt mv mh A f_fixed f_machine f_lostCount f_coinBits f_outCount f_outLost f_wCount f_workLost f_numbered f_sumMask f_walkCount f_walkSummary f_walkRing g_gone a_opOf a_aOf a_bOf a_tOf a_machineVar a_cellUsed a_cellLink a_tabNodes a_tabSum a_tabVar a_tabSucc a_entPoint a_entPending a_outPoint a_wVar a_wSucc a_wSum a_mark a_head a_preds a_number a_rawNext b_prog b_at b_pend b_size b_place b_succ b_many b_num b_newSucc b_newMany C
  have C' := C
  obtain ⟨hvs, hcl, hll, hel, hnn, hpc, hfx, P, HX, HY, MW, MX, MY, G, XE, YE⟩ := C
  rcases pk_ix v1 (n := cl) (by omega) with h | h | ⟨j, hj, rfl⟩
  · exact br_t h (br_t h ⟨rfl, re_in C'⟩)
  · obtain ⟨h1, h2⟩ := ix_ge_n (by omega) h
    exact br_f h1 (br_f h2 (br_f h1 (br_f h2 ⟨rfl, re_in C'⟩)))
  · have p := nI_pos (n := j) (by omega)
    have lt := nI_lt hj (show cl < 2 ^ 31 by omega)
    have e768 : (10240 : Int32) + nI j = nI (10240 + j) := nI_add 10240 j
    have my : b_succ (10240 + j) = gr_en (mh j) := MY.2.2.1 j hj
    have mx := MX.2 j hj
    have fin : ∀ z, gr_en (mh j) = z → wpY_cellNext (fun r' => r' = z ∧ i_Rel (k + 5) (nI vs, nI cl, nI ll, nI el, nI nn, f_fixed, f_machine, nI pc, f_lostCount, f_coinBits, A.1, nI A.2.1, f_outCount, f_outLost, f_wCount, f_workLost, f_numbered, f_sumMask, f_walkCount, f_walkSummary, f_walkRing, a_opOf, a_aOf, a_bOf, a_tOf, a_machineVar, a_cellUsed, a_cellLink, a_tabNodes, a_tabSum, a_tabVar, a_tabSucc, a_entPoint, a_entPending, a_outPoint, a_wVar, a_wSucc, a_wSum, a_mark, a_head, a_preds, a_number, a_rawNext) (nI vs, nI cl, nI ll, nI el, nI nn, nI pc, f_lostCount, f_machine, A.1, nI A.2.1, g_gone, f_fixed, b_prog, b_at, b_pend, b_size, b_place, b_succ, b_many, b_num, b_newSucc, b_newMany)) (nI vs, nI cl, nI ll, nI el, nI nn, nI pc, f_lostCount, f_machine, A.1, nI A.2.1, g_gone, f_fixed, b_prog, b_at, b_pend, b_size, b_place, b_succ, b_many, b_num, b_newSucc, b_newMany) (nI j) := by
      intro z hz
      refine br_f p (br_t lt ⟨?_, ?_, re_in C'⟩)
      · rw [e768]; exact vp_in_nI (by omega) (by omega)
      · rw [e768, nI_clamp (by omega), my]; exact hz
    refine br_f p (br_t lt ⟨vp_in_nI (by omega) (by omega), br_c (fun z => fin _ ?_) (fun z => ⟨vp_in_nI (by omega) (by omega), fin _ ?_⟩)⟩)
    · rw [nI_clamp (by omega)] at z
      rw [mx.1.mp z]; rfl
    · rw [nI_clamp (by omega)] at z ⊢
      rw [mx.2]
      have h41 := gr_le41 MW.1 j
      have : mh j ≠ 41 := fun e => z (mx.1.mpr e)
      exact (gr_ex_en (by omega)).symm
theorem i_vc_entryPoint {k : Nat} {u : SX} {v : SY} (I : i_Rel k u v) (hk : k + 5 ≤ 2564) (v1 : Int32) : wpX_entryPoint (fun r => wpY_entryPoint (fun r' => r' = r ∧ i_Rel (k + 5) u v) v v1) u v1 := by
  refine re_el (P := fun u v => wpX_entryPoint (fun r => wpY_entryPoint (fun r' => r' = r ∧ i_Rel (k + 5) u v) v v1) u v1) I ?_
  intro vs cl ll el nn pc op pa pb pt mv mh A f_fixed f_machine f_lostCount f_coinBits f_outCount f_outLost f_wCount f_workLost f_numbered f_sumMask f_walkCount f_walkSummary f_walkRing g_gone a_opOf a_aOf a_bOf a_tOf a_machineVar a_cellUsed a_cellLink a_tabNodes a_tabSum a_tabVar a_tabSucc a_entPoint a_entPending a_outPoint a_wVar a_wSucc a_wSum a_mark a_head a_preds a_number a_rawNext b_prog b_at b_pend b_size b_place b_succ b_many b_num b_newSucc b_newMany C
  have C' := C
  obtain ⟨hvs, hcl, hll, hel, hnn, hpc, hfx, P, HX, HY, MW, MX, MY, G, XE, YE⟩ := C
  have hec : A.2.1 ≤ 256 := by have := G.1; have := G.2.1; omega
  by_cases hm : v1 = -1
  · subst hm
    exact br_t rfl (br_f (by decide) (br_t (ix_m1_lt (by omega)) (br_t rfl ⟨rfl, re_in C'⟩)))
  · rcases pk_ix v1 (n := A.2.1) (by omega) with h | h | ⟨j, hj, rfl⟩
    · exact br_f hm (br_t h (br_t (ix_neg h hm) ⟨rfl, re_in C'⟩))
    · obtain ⟨h1, h2⟩ := ix_ge_n (by omega) h
      exact br_f hm (br_f h1 (br_f h2 (br_c (fun _ => ⟨rfl, re_in C'⟩) (fun _ => br_f h2 ⟨rfl, re_in C'⟩))))
    · have p := nI_pos (n := j) (by omega)
      have lt := nI_lt hj (show A.2.1 < 2 ^ 31 by omega)
      refine br_f hm (br_f p (br_t lt ⟨vp_in_nI (by omega) (by omega), br_f (ix_nI_m1 (by omega)) (br_t lt (br_f hm ⟨vp_in_nI (by omega) (by omega), ?_, re_in C'⟩))⟩))
      rw [nI_clamp (by omega), (XE j hj).2.1, (YE j hj).2.1]
theorem i_vc_pending {k : Nat} {u : SX} {v : SY} (I : i_Rel k u v) (hk : k + 5 ≤ 2564) (v1 : Int32) : wpX_pending (fun r => wpY_pending (fun r' => r' = r ∧ i_Rel (k + 5) u v) v v1) u v1 := by
  refine re_el (P := fun u v => wpX_pending (fun r => wpY_pending (fun r' => r' = r ∧ i_Rel (k + 5) u v) v v1) u v1) I ?_
  intro vs cl ll el nn pc op pa pb pt mv mh A f_fixed f_machine f_lostCount f_coinBits f_outCount f_outLost f_wCount f_workLost f_numbered f_sumMask f_walkCount f_walkSummary f_walkRing g_gone a_opOf a_aOf a_bOf a_tOf a_machineVar a_cellUsed a_cellLink a_tabNodes a_tabSum a_tabVar a_tabSucc a_entPoint a_entPending a_outPoint a_wVar a_wSucc a_wSum a_mark a_head a_preds a_number a_rawNext b_prog b_at b_pend b_size b_place b_succ b_many b_num b_newSucc b_newMany C
  have C' := C
  obtain ⟨hvs, hcl, hll, hel, hnn, hpc, hfx, P, HX, HY, MW, MX, MY, G, XE, YE⟩ := C
  have hec : A.2.1 ≤ 256 := by have := G.1; have := G.2.1; omega
  rcases pk_ix v1 (n := A.2.1) (by omega) with h | h | ⟨j, hj, rfl⟩
  · exact br_t h (br_t h ⟨rfl, re_in C'⟩)
  · obtain ⟨h1, h2⟩ := ix_ge_n (by omega) h
    exact br_f h1 (br_f h2 (br_f h1 (br_f h2 ⟨rfl, re_in C'⟩)))
  · have p := nI_pos (n := j) (by omega)
    have lt := nI_lt hj (show A.2.1 < 2 ^ 31 by omega)
    have ex : a_entPending (nI j).toNatClampNeg = gr_b (A.2.2.2.2 j) := by rw [nI_clamp (by omega)]; exact (XE j hj).2.2
    have ey : b_pend (nI j).toNatClampNeg = gr_b (A.2.2.2.2 j) := by rw [nI_clamp (by omega)]; exact (YE j hj).2.2
    refine br_f p (br_t lt ⟨vp_in_nI (by omega) (by omega), ?_⟩)
    rw [ex]
    refine xi_truth (gr_b_tv (A.2.2.2.2 j)) ?_
    refine br_f p (br_t lt ⟨vp_in_nI (by omega) (by omega), ?_⟩)
    rw [ey]
    cases hb : A.2.2.2.2 j
    · exact br_t rfl ⟨rfl, re_in C'⟩
    · exact br_f (by decide) ⟨rfl, re_in C'⟩
end
section
/-! clamp, startMachine, reset, clear, the constructors, restart -/
theorem cp_ex (p : Int32) (lo hi : Nat) (h : lo ≤ hi) (hh : hi < 2 ^ 31) : ∃ c, lo ≤ c ∧ c ≤ hi ∧ (∀ (post : Int32 → Prop) (u : SX), post (nI c) → wpX_clamp post u p (nI lo) (nI hi)) ∧ (∀ (post : Int32 → Prop) (v : SY), post (nI c) → wpY_clamp post v p (nI lo) (nI hi)) := by
  have key : ∃ c, lo ≤ c ∧ c ≤ hi ∧ ∀ post : Int32 → Prop, post (nI c) → ((nI lo ≤ p → ((p ≤ nI hi → post p) ∧ (¬ p ≤ nI hi → post (nI hi)))) ∧ (¬ nI lo ≤ p → post (nI lo))) := by
    by_cases h1 : nI lo ≤ p
    · by_cases h2 : p ≤ nI hi
      · obtain ⟨c, hc, rfl⟩ := nI_of2 (M := nI hi) (n := hi) (nI_toInt hh) (ix_ge_n (by omega) h1).1 h2
        rw [nI_leI (by omega) (by omega)] at h1
        exact ⟨c, h1, hc, fun post K => br_t (nI_le h1 (by omega)) (br_t h2 K)⟩
      · exact ⟨hi, h, Nat.le_refl _, fun post K => br_t h1 (br_f h2 K)⟩
    · exact ⟨lo, Nat.le_refl _, h, fun post K => br_f h1 K⟩
  obtain ⟨c, c1, c2, c3⟩ := key
  refine ⟨c, c1, c2, fun post u K => ?_, fun post v K => ?_⟩
  · obtain ⟨f_vars, f_cells, f_lengthLimit, rest⟩ := u
    exact c3 post K
  · obtain ⟨f1, f2, f3, rest⟩ := v
    exact c3 post K
section
variable {f_vars f_cells f_lengthLimit f_entryLimit f_count f_fixed f_machine f_machinePc f_lostCount f_coinBits f_analysis f_entryCount f_outCount f_outLost f_wCount f_workLost f_numbered f_sumMask f_walkCount f_walkSummary f_walkRing : Int32} {a_opOf a_aOf a_bOf a_tOf a_machineVar a_cellUsed a_cellLink a_tabNodes a_tabSum a_tabVar a_tabSucc a_entPoint a_entPending a_outPoint a_wVar a_wSucc a_wSum a_mark a_head a_preds a_number a_rawNext : Nat → Int32}
theorem xst_37 {post : SX → Prop} (K : ∀ cu ck, (∀ c, c < 32 → cu c = 0 ∧ ck c = -1) → post (f_vars, f_cells, f_lengthLimit, f_entryLimit, f_count, f_fixed, f_machine, f_machinePc, f_lostCount, f_coinBits, f_analysis, f_entryCount, f_outCount, f_outLost, f_wCount, f_workLost, f_numbered, f_sumMask, f_walkCount, f_walkSummary, f_walkRing, a_opOf, a_aOf, a_bOf, a_tOf, a_machineVar, cu, ck, a_tabNodes, a_tabSum, a_tabVar, a_tabSucc, a_entPoint, a_entPending, a_outPoint, a_wVar, a_wSucc, a_wSum, a_mark, a_head, a_preds, a_number, a_rawNext)) :
    ∀ d i cu ck, i + d = 32 → (∀ c, c < i → cu c = 0 ∧ ck c = -1) → wX_startMachine_37 post f_vars f_cells f_lengthLimit f_entryLimit f_count f_fixed f_machine f_machinePc f_lostCount f_coinBits f_analysis f_entryCount f_outCount f_outLost f_wCount f_workLost f_numbered f_sumMask f_walkCount f_walkSummary f_walkRing (d + 1) (nI i) a_opOf a_aOf a_bOf a_tOf a_machineVar cu ck a_tabNodes a_tabSum a_tabVar a_tabSucc a_entPoint a_entPending a_outPoint a_wVar a_wSucc a_wSum a_mark a_head a_preds a_number a_rawNext := by
  intro d
  induction d with
  | zero =>
    intro i cu ck hi h1
    exact br_t (nI_le (a := 32) (by omega) (by omega)) (K cu ck (fun u hu => h1 u (by omega)))
  | succ d ih =>
    intro i cu ck hi h1
    refine br_f (nI_ge (b := 32) (by omega) (by omega)) ⟨vp_in_nI (by omega) (by omega), ?_⟩
    rw [nI_clamp (by omega)]
    refine nm_e ⟨vp_in_nI (by omega) (by omega), nm_e (nm_r (nI_1 i) (ih (i + 1) _ _ (by omega) (fun c hc => ?_)))⟩
    rcases Nat.decEq c i with y | y
    · rw [pk_un y, pk_un y]; exact h1 c (by omega)
    · rw [y, pk_us, pk_us]; exact ⟨rfl, rfl⟩
theorem xst_17 {post : SX → Prop} (K : ∀ ma, (∀ x, x < 3 → ma x = -1) → ∃ n37 : Nat, wX_startMachine_37 post f_vars f_cells f_lengthLimit f_entryLimit f_count f_fixed f_machine f_machinePc f_lostCount f_coinBits f_analysis f_entryCount f_outCount f_outLost f_wCount f_workLost f_numbered f_sumMask f_walkCount f_walkSummary f_walkRing n37 0 a_opOf a_aOf a_bOf a_tOf ma a_cellUsed a_cellLink a_tabNodes a_tabSum a_tabVar a_tabSucc a_entPoint a_entPending a_outPoint a_wVar a_wSucc a_wSum a_mark a_head a_preds a_number a_rawNext) :
    ∀ d i ma, i + d = 3 → (∀ x, x < i → ma x = -1) → wX_startMachine_17 post f_vars f_cells f_lengthLimit f_entryLimit f_count f_fixed f_machine f_machinePc f_lostCount f_coinBits f_analysis f_entryCount f_outCount f_outLost f_wCount f_workLost f_numbered f_sumMask f_walkCount f_walkSummary f_walkRing (d + 1) (nI i) a_opOf a_aOf a_bOf a_tOf ma a_cellUsed a_cellLink a_tabNodes a_tabSum a_tabVar a_tabSucc a_entPoint a_entPending a_outPoint a_wVar a_wSucc a_wSum a_mark a_head a_preds a_number a_rawNext := by
  intro d
  induction d with
  | zero =>
    intro i ma hi h1
    exact br_t (nI_le (a := 3) (by omega) (by omega)) (K ma (fun u hu => h1 u (by omega)))
  | succ d ih =>
    intro i ma hi h1
    refine br_f (nI_ge (b := 3) (by omega) (by omega)) ⟨vp_in_nI (by omega) (by omega), ?_⟩
    rw [nI_clamp (by omega)]
    refine nm_e (nm_r (nI_1 i) (ih (i + 1) _ (by omega) (fun c hc => ?_)))
    rcases Nat.decEq c i with y | y
    · rw [pk_un y]; exact h1 c (by omega)
    · rw [y, pk_us]
def gr_h0 (cl : Nat) : Nat → Nat := fun u => if u < cl then 41 else 40
def gr_v0 : Nat → Nat := fun _ => 40
theorem gr_MW0 {cl vs : Nat} (hcl : cl ≤ 32) : gr_MW cl vs (gr_h0 cl) gr_v0 := by
  have hv : ∀ u, gr_h0 cl u = 40 ∨ gr_h0 cl u = 41 := fun u => by unfold gr_h0; split <;> omega
  refine ⟨⟨by omega, fun u => Or.inr (hv u), fun u hu => if_neg (by omega)⟩, fun x _ => Or.inr rfl, fun x _ z => absurd z (by show ¬ 40 < 40; omega), fun u z => ?_⟩
  rcases hv u with y | y <;> omega
theorem xst_ok {post : SX → Prop} (K : ∀ ma cu ck, (∀ vs cl, vs ≤ 3 → cl ≤ 32 → xs_M vs cl gr_v0 (gr_h0 cl) ma cu ck) → post (f_vars, f_cells, f_lengthLimit, f_entryLimit, f_count, f_fixed, 1, 0, 0, f_coinBits, f_analysis, f_entryCount, f_outCount, f_outLost, f_wCount, f_workLost, f_numbered, f_sumMask, f_walkCount, f_walkSummary, f_walkRing, a_opOf, a_aOf, a_bOf, a_tOf, ma, cu, ck, a_tabNodes, a_tabSum, a_tabVar, a_tabSucc, a_entPoint, a_entPending, a_outPoint, a_wVar, a_wSucc, a_wSum, a_mark, a_head, a_preds, a_number, a_rawNext)) : wpX_startMachine post (f_vars, f_cells, f_lengthLimit, f_entryLimit, f_count, f_fixed, f_machine, f_machinePc, f_lostCount, f_coinBits, f_analysis, f_entryCount, f_outCount, f_outLost, f_wCount, f_workLost, f_numbered, f_sumMask, f_walkCount, f_walkSummary, f_walkRing, a_opOf, a_aOf, a_bOf, a_tOf, a_machineVar, a_cellUsed, a_cellLink, a_tabNodes, a_tabSum, a_tabVar, a_tabSucc, a_entPoint, a_entPending, a_outPoint, a_wVar, a_wSucc, a_wSum, a_mark, a_head, a_preds, a_number, a_rawNext) := by
  refine Exists.intro 4 (xst_17 (fun ma h1 => Exists.intro 33 (xst_37 (fun cu ck h2 => K ma cu ck (fun vs cl hvs hcl => ⟨fun x hx => h1 x (by omega), fun c hc => ?_⟩)) 32 0 a_cellUsed a_cellLink (by omega) (fun c hc => by omega))) 3 0 a_machineVar (by omega) (fun x hx => by omega))
  have := h2 c (by omega)
  have e : gr_h0 cl c = 41 := if_pos hc
  rw [e]
  exact ⟨⟨fun _ => rfl, fun _ => this.1⟩, this.2⟩
end
section
variable {vs cl : Nat}
variable {f_vars f_cells f_lengthLimit f_entryLimit f_n f_pc f_lostCells f_machine f_analysis f_count f_gone f_fixed : Int32} {a_prog a_at a_pend a_size a_place a_succ a_many a_num a_newSucc a_newMany : Nat → Int32}
theorem yst_ok {post : SY → Prop} {st : Int32} (hvs : vs ≤ 3) (hcl : cl ≤ 32) (K : ∀ sz pl su ma, yS vs 256 (gr_ms cl (gr_h0 cl) gr_v0) sz pl su ma → ys_F 256 a_size a_place a_succ a_many sz pl su ma → post (f_vars, nI cl, f_lengthLimit, f_entryLimit, f_n, 0, 0, st, f_analysis, f_count, f_gone, f_fixed, a_prog, a_at, a_pend, sz, pl, su, ma, a_num, a_newSucc, a_newMany)) : wpY_startMachine post (f_vars, nI cl, f_lengthLimit, f_entryLimit, f_n, f_pc, f_lostCells, f_machine, f_analysis, f_count, f_gone, f_fixed, a_prog, a_at, a_pend, a_size, a_place, a_succ, a_many, a_num, a_newSucc, a_newMany) st := by
  unfold wpY_startMachine
  dsimp only
  exact yk_ok (s := 256) (n := cl) (vs := vs) (by omega) hvs (by omega) (fun sz pl su ma T F => K sz pl su ma T F)
end
/-- what a reset leaves -/
theorem re_reset {vs cl ll el : Nat} {op pa pb pt : Nat → Nat} {E : Nat → gr_S} {pp : Nat → Nat} {pd : Nat → Bool} {a_opOf a_aOf a_bOf a_tOf a_machineVar a_cellUsed a_cellLink a_tabNodes a_tabSum a_tabVar a_tabSucc a_entPoint a_entPending b_prog b_at b_pend b_size b_place b_succ b_many : Nat → Int32}
    (hvs : 1 ≤ vs ∧ vs ≤ 3) (hcl : 1 ≤ cl ∧ cl ≤ 32) (hll : 4 ≤ ll ∧ ll ≤ 32) (hel : 4 ≤ el ∧ el ≤ 256) (MX : xs_M vs cl gr_v0 (gr_h0 cl) a_machineVar a_cellUsed a_cellLink) (MY : yS vs 256 (gr_ms cl (gr_h0 cl) gr_v0) b_size b_place b_succ b_many) :
    re_C vs cl ll el 0 0 0 0 op pa pb pt gr_v0 (gr_h0 cl) ((0 : Int32), (0 : Nat), E, pp, pd) a_opOf a_aOf a_bOf a_tOf a_machineVar a_cellUsed a_cellLink a_tabNodes a_tabSum a_tabVar a_tabSucc a_entPoint a_entPending b_prog b_at b_pend b_size b_place b_succ b_many :=
  ⟨hvs, hcl, hll, hel, Nat.zero_le _, ⟨Nat.le_refl _, fun z => absurd z (by decide)⟩, fun z => absurd rfl z, fun i z => absurd z (Nat.not_lt_zero _), fun i z => absurd z (Nat.not_lt_zero _), fun i z => absurd z (Nat.not_lt_zero _), gr_MW0 hcl.2, MX, MY, ⟨hel.2, Nat.zero_le _, fun e z => absurd z (Nat.not_lt_zero _)⟩, fun e z => absurd z (Nat.not_lt_zero _), fun e z => absurd z (Nat.not_lt_zero _)⟩
theorem i_vc_clear {k : Nat} {u : SX} {v : SY} (I : i_Rel k u v) (hk : k + 5 ≤ 2564) : wpX_clear (fun u' => wpY_clear (fun v' => i_Rel (k + 5) u' v') v) u := by
  refine re_el (P := fun u v => wpX_clear (fun u' => wpY_clear (fun v' => i_Rel (k + 5) u' v') v) u) I ?_
  intro vs cl ll el nn pc op pa pb pt mv mh A f_fixed f_machine f_lostCount f_coinBits f_outCount f_outLost f_wCount f_workLost f_numbered f_sumMask f_walkCount f_walkSummary f_walkRing g_gone a_opOf a_aOf a_bOf a_tOf a_machineVar a_cellUsed a_cellLink a_tabNodes a_tabSum a_tabVar a_tabSucc a_entPoint a_entPending a_outPoint a_wVar a_wSucc a_wSum a_mark a_head a_preds a_number a_rawNext b_prog b_at b_pend b_size b_place b_succ b_many b_num b_newSucc b_newMany C
  obtain ⟨hvs, hcl, hll, hel, hnn, hpc, hfx, P, HX, HY, MW, MX, MY, G, XE, YE⟩ := C
  unfold wpX_clear wpX_reset
  dsimp only
  refine xst_ok (fun ma cu ck hM => ?_)
  dsimp only
  unfold wpY_clear
  dsimp only
  refine yst_ok hvs.2 hcl.2 (fun sz pl su ma' T F => ?_)
  exact re_in (nn := 0) (pc := 0) (op := op) (pa := pa) (pb := pb) (pt := pt) (A := ((0 : Int32), (0 : Nat), A.2.2)) (re_reset hvs hcl hll hel (hM vs cl hvs.2 hcl.2) T)
theorem i_vc0 (k0 : Int32) (k1 : Int32) (k2 : Int32) (k3 : Int32) : wpX_init (fun u => wpY_init (fun v => i_Rel 4 u v) k0 k1 k2 k3) k0 k1 k2 k3 := by
  obtain ⟨vs, v1, v2, v3, v4⟩ := cp_ex k0 1 3 (by omega) (by omega)
  obtain ⟨cl, c1, c2, c3, c4⟩ := cp_ex k1 1 32 (by omega) (by omega)
  obtain ⟨ll, l1, l2, l3, l4⟩ := cp_ex k2 4 32 (by omega) (by omega)
  obtain ⟨el, e1, e2, e3, e4⟩ := cp_ex k3 4 256 (by omega) (by omega)
  refine v3 _ _ (c3 _ _ (l3 _ _ (e3 _ _ ?_)))
  unfold wpX_reset
  dsimp only
  refine xst_ok (fun ma cu ck hM => ?_)
  dsimp only
  refine v4 _ _ (c4 _ _ (l4 _ _ (e4 _ _ ?_)))
  unfold wpY_clear
  dsimp only
  refine yst_ok (vs := vs) (by omega) (by omega) (fun sz pl su ma' T F => ?_)
  exact re_in (nn := 0) (pc := 0) (op := fun _ => 0) (pa := fun _ => 0) (pb := fun _ => 0) (pt := fun _ => 0) (A := ((0 : Int32), (0 : Nat), (fun _ => (0, (fun _ => 0), (fun _ => 0), fun _ => false)), (fun _ => 0), fun _ => false)) (re_reset ⟨v1, v2⟩ ⟨c1, c2⟩ ⟨l1, l2⟩ ⟨e1, e2⟩ (hM vs cl (by omega) (by omega)) T)
theorem i_vc_restart {k : Nat} {u : SX} {v : SY} (I : i_Rel k u v) (hk : k + 5 ≤ 2564) : wpX_restart (fun r u' => wpY_restart (fun r' v' => r' = r ∧ i_Rel (k + 5) u' v') v) u := by
  refine re_el (P := fun u v => wpX_restart (fun r u' => wpY_restart (fun r' v' => r' = r ∧ i_Rel (k + 5) u' v') v) u) I ?_
  intro vs cl ll el nn pc op pa pb pt mv mh A f_fixed f_machine f_lostCount f_coinBits f_outCount f_outLost f_wCount f_workLost f_numbered f_sumMask f_walkCount f_walkSummary f_walkRing g_gone a_opOf a_aOf a_bOf a_tOf a_machineVar a_cellUsed a_cellLink a_tabNodes a_tabSum a_tabVar a_tabSucc a_entPoint a_entPending a_outPoint a_wVar a_wSucc a_wSum a_mark a_head a_preds a_number a_rawNext b_prog b_at b_pend b_size b_place b_succ b_many b_num b_newSucc b_newMany C
  have C' := C
  obtain ⟨hvs, hcl, hll, hel, hnn, hpc, hfx, P, HX, HY, MW, MX, MY, G, XE, YE⟩ := C
  refine br_c (fun z => br_t z ⟨rfl, re_in C'⟩) (fun z => ?_)
  refine xst_ok (fun ma cu ck hM => ?_)
  dsimp only
  refine br_f z (yst_ok hvs.2 hcl.2 (fun sz pl su ma' T F => ⟨rfl, ?_⟩))
  refine re_in (pc := 0) (op := op) (pa := pa) (pb := pb) (pt := pt) (A := A) ⟨hvs, hcl, hll, hel, hnn, ⟨Nat.zero_le _, fun _ => ⟨z, ?_⟩⟩, hfx, P, HX, HY, gr_MW0 hcl.2, hM vs cl hvs.2 hcl.2, T, G, XE, fun e he => ⟨ys_SF hvs.2 ?_ F ?_ (YE e he).1, (YE e he).2⟩⟩
  · exact (hfx z).1
  · have := (G.2.2 e he).1.1; omega
  · have := G.1; have := G.2.1; omega
end
section
/-! emit -/
def em_a (use : Prop) (n : Nat) (v : Int32) (a : Nat) : Prop := (use → a < n ∧ v = nI a) ∧ (¬ use → a = 40)
theorem em_chk {x v : Int32} {use A N : Prop} {n : Nat} (hn : n < 2 ^ 31) (ht : gr_tv x use) (hy : (∃ a, em_a use n v a) → A) (hno : (¬ ∃ a, em_a use n v a) → N) :
    (x = 0 → A) ∧ (¬ x = 0 → ((v < 0 → N) ∧ (¬ v < 0 → ((v < nI n → A) ∧ (¬ v < nI n → N))))) := by
  rcases ht with ⟨rfl, q⟩ | ⟨rfl, q⟩
  · exact br_t rfl (hy ⟨40, fun z => absurd z q, fun _ => rfl⟩)
  · refine br_f (by decide) ?_
    rcases pk_ix v hn with h | h | ⟨j, hj, rfl⟩
    · exact br_t h (hno (fun ⟨a, e, _⟩ => nI_pos (n := a) (by have := (e q).1; omega) (by rw [← (e q).2]; exact h)))
    · obtain ⟨h1, h2⟩ := ix_ge_n hn h
      exact br_f h1 (br_f h2 (hno (fun ⟨a, e, _⟩ => h2 (by rw [(e q).2]; exact nI_lt (e q).1 hn))))
    · exact br_f (nI_pos (by omega)) (br_t (nI_lt hj hn) (hy ⟨j, fun _ => ⟨hj, rfl⟩, fun z => absurd q z⟩))
theorem em_chkT {x v : Int32} {use A N : Prop} {n : Nat} (hn : n + 1 < 2 ^ 31) (ht : gr_tv x use) (hy : (∃ a, em_a use (n + 1) v a) → A) (hno : (¬ ∃ a, em_a use (n + 1) v a) → N) :
    (x = 0 → A) ∧ (¬ x = 0 → ((v < 0 → N) ∧ (¬ v < 0 → ((v ≤ nI n → A) ∧ (¬ v ≤ nI n → N))))) := by
  rcases ht with ⟨rfl, q⟩ | ⟨rfl, q⟩
  · exact br_t rfl (hy ⟨40, fun z => absurd z q, fun _ => rfl⟩)
  · refine br_f (by decide) ?_
    rcases pk_ix v hn with h | h | ⟨j, hj, rfl⟩
    · exact br_t h (hno (fun ⟨a, e, _⟩ => nI_pos (n := a) (by have := (e q).1; omega) (by rw [← (e q).2]; exact h)))
    · obtain ⟨h1, h2⟩ := ix_ge_n hn h
      refine br_f h1 (br_f (fun w => ?_) (hno (fun ⟨a, e, _⟩ => h2 (by rw [(e q).2]; exact nI_lt (e q).1 hn))))
      have := Int32.le_trans h w
      rw [nI_leI (by omega) (by omega)] at this
      omega
    · exact br_f (nI_pos (by omega)) (br_t (nI_le (by omega) (by omega)) (hy ⟨j, fun _ => ⟨hj, rfl⟩, fun z => absurd q z⟩))
theorem em_st {x v : Int32} {use : Prop} {n a : Nat} {B : Int32 → Prop} (hn : n ≤ 40) (ht : gr_tv x use) (e : em_a use n v a) (h : ∀ z, z = gr_ex a → B z) : (x = 0 → B (-1)) ∧ (¬ x = 0 → B v) := by
  rcases ht with ⟨rfl, q⟩ | ⟨rfl, q⟩
  · exact br_t rfl (h _ (by rw [e.2 q]; rfl))
  · obtain ⟨h1, h2⟩ := e.1 q
    exact br_f (by decide) (h _ (by rw [h2, gr_ex_n (by omega)]))
def em_B (o : Nat) : Prop := o = 1 ∨ o = 3 ∨ o = 4 ∨ o = 7
section
variable {vs ll nn o : Nat} {v2 v3 v4 x5 x6 x7 : Int32}
variable {f_vars f_cells f_lengthLimit f_entryLimit f_count f_fixed f_machine f_machinePc f_lostCount f_coinBits f_analysis f_entryCount f_outCount f_outLost f_wCount f_workLost f_numbered f_sumMask f_walkCount f_walkSummary f_walkRing : Int32} {a_opOf a_aOf a_bOf a_tOf a_machineVar a_cellUsed a_cellLink a_tabNodes a_tabSum a_tabVar a_tabSucc a_entPoint a_entPending a_outPoint a_wVar a_wSucc a_wSum a_mark a_head a_preds a_number a_rawNext : Nat → Int32}
theorem em_x120 {post : Int32 → SX → Prop} {a b t : Nat} (hvs : vs ≤ 3) (hll : ll ≤ 32) (hnn : nn < 32) (t5 : gr_tv x5 (o ≤ 7)) (t6 : gr_tv x6 (em_B o)) (t7 : gr_tv x7 (6 ≤ o)) (ea : em_a (o ≤ 7) vs v2 a) (eb : em_a (em_B o) vs v3 b) (et : em_a (6 ≤ o) (ll + 1) v4 t)
    (K : post (nI nn) (f_vars, f_cells, f_lengthLimit, f_entryLimit, nI (nn + 1), f_fixed, f_machine, f_machinePc, f_lostCount, f_coinBits, f_analysis, f_entryCount, f_outCount, f_outLost, f_wCount, f_workLost, f_numbered, f_sumMask, f_walkCount, f_walkSummary, f_walkRing, upd a_opOf nn (nI o), upd a_aOf nn (gr_ex a), upd a_bOf nn (gr_ex b), upd a_tOf nn (gr_ex t), a_machineVar, a_cellUsed, a_cellLink, a_tabNodes, a_tabSum, a_tabVar, a_tabSucc, a_entPoint, a_entPending, a_outPoint, a_wVar, a_wSucc, a_wSum, a_mark, a_head, a_preds, a_number, a_rawNext)) : wX_emit_120 post (nI o) v2 v3 v4 x5 x6 x7 f_vars f_cells f_lengthLimit f_entryLimit (nI nn) f_fixed f_machine f_machinePc f_lostCount f_coinBits f_analysis f_entryCount f_outCount f_outLost f_wCount f_workLost f_numbered f_sumMask f_walkCount f_walkSummary f_walkRing a_opOf a_aOf a_bOf a_tOf a_machineVar a_cellUsed a_cellLink a_tabNodes a_tabSum a_tabVar a_tabSucc a_entPoint a_entPending a_outPoint a_wVar a_wSucc a_wSum a_mark a_head a_preds a_number a_rawNext := by
  have c : (nI nn).toNatClampNeg = nn := nI_clamp (by omega)
  have i32 : vp_in (nI nn) 32 := vp_in_nI hnn (by omega)
  unfold wX_emit_120
  rw [c]
  refine ⟨i32, nm_e (em_st (B := fun z => wX_emit_150 post v3 v4 x6 x7 (nI nn) z (nI nn) f_vars f_cells f_lengthLimit f_entryLimit (nI nn) f_fixed f_machine f_machinePc f_lostCount f_coinBits f_analysis f_entryCount f_outCount f_outLost f_wCount f_workLost f_numbered f_sumMask f_walkCount f_walkSummary f_walkRing (upd a_opOf nn (nI o)) a_aOf a_bOf a_tOf a_machineVar a_cellUsed a_cellLink a_tabNodes a_tabSum a_tabVar a_tabSucc a_entPoint a_entPending a_outPoint a_wVar a_wSucc a_wSum a_mark a_head a_preds a_number a_rawNext) (by omega) t5 ea (fun z hz => ?_))⟩
  unfold wX_emit_150
  rw [c]
  refine ⟨i32, nm_e (em_st (B := fun z2 => wX_emit_167 post v4 x7 (nI nn) z2 (nI nn) f_vars f_cells f_lengthLimit f_entryLimit (nI nn) f_fixed f_machine f_machinePc f_lostCount f_coinBits f_analysis f_entryCount f_outCount f_outLost f_wCount f_workLost f_numbered f_sumMask f_walkCount f_walkSummary f_walkRing (upd a_opOf nn (nI o)) (upd a_aOf nn z) a_bOf a_tOf a_machineVar a_cellUsed a_cellLink a_tabNodes a_tabSum a_tabVar a_tabSucc a_entPoint a_entPending a_outPoint a_wVar a_wSucc a_wSum a_mark a_head a_preds a_number a_rawNext) (by omega) t6 eb (fun z2 hz2 => ?_))⟩
  unfold wX_emit_167
  rw [c]
  refine ⟨i32, nm_e (em_st (B := fun z3 => wX_emit_185 post (nI nn) z3 (nI nn) f_vars f_cells f_lengthLimit f_entryLimit (nI nn) f_fixed f_machine f_machinePc f_lostCount f_coinBits f_analysis f_entryCount f_outCount f_outLost f_wCount f_workLost f_numbered f_sumMask f_walkCount f_walkSummary f_walkRing (upd a_opOf nn (nI o)) (upd a_aOf nn z) (upd a_bOf nn z2) a_tOf a_machineVar a_cellUsed a_cellLink a_tabNodes a_tabSum a_tabVar a_tabSucc a_entPoint a_entPending a_outPoint a_wVar a_wSucc a_wSum a_mark a_head a_preds a_number a_rawNext) (by omega) t7 et (fun z3 hz3 => ?_))⟩
  unfold wX_emit_185
  rw [c, hz, hz2, hz3]
  exact ⟨i32, nm_e (nm_r (nI_1 nn) K)⟩
theorem em_x {post : Int32 → SX → Prop} (hvs : vs ≤ 3) (hll : ll ≤ 32) (hnn : nn < ll) (ho : o ≤ 9) (hf : f_fixed = 0)
    (K1 : ∀ a b t, em_a (o ≤ 7) vs v2 a → em_a (em_B o) vs v3 b → em_a (6 ≤ o) (ll + 1) v4 t → post (nI nn) (nI vs, f_cells, nI ll, f_entryLimit, nI (nn + 1), f_fixed, f_machine, f_machinePc, f_lostCount, f_coinBits, f_analysis, f_entryCount, f_outCount, f_outLost, f_wCount, f_workLost, f_numbered, f_sumMask, f_walkCount, f_walkSummary, f_walkRing, upd a_opOf nn (nI o), upd a_aOf nn (gr_ex a), upd a_bOf nn (gr_ex b), upd a_tOf nn (gr_ex t), a_machineVar, a_cellUsed, a_cellLink, a_tabNodes, a_tabSum, a_tabVar, a_tabSucc, a_entPoint, a_entPending, a_outPoint, a_wVar, a_wSucc, a_wSum, a_mark, a_head, a_preds, a_number, a_rawNext))
    (K0 : (¬ ∃ a b t, em_a (o ≤ 7) vs v2 a ∧ em_a (em_B o) vs v3 b ∧ em_a (6 ≤ o) (ll + 1) v4 t) → post (-3) (nI vs, f_cells, nI ll, f_entryLimit, nI nn, f_fixed, f_machine, f_machinePc, f_lostCount, f_coinBits, f_analysis, f_entryCount, f_outCount, f_outLost, f_wCount, f_workLost, f_numbered, f_sumMask, f_walkCount, f_walkSummary, f_walkRing, a_opOf, a_aOf, a_bOf, a_tOf, a_machineVar, a_cellUsed, a_cellLink, a_tabNodes, a_tabSum, a_tabVar, a_tabSucc, a_entPoint, a_entPending, a_outPoint, a_wVar, a_wSucc, a_wSum, a_mark, a_head, a_preds, a_number, a_rawNext)) : wpX_emit post (nI vs, f_cells, nI ll, f_entryLimit, nI nn, f_fixed, f_machine, f_machinePc, f_lostCount, f_coinBits, f_analysis, f_entryCount, f_outCount, f_outLost, f_wCount, f_workLost, f_numbered, f_sumMask, f_walkCount, f_walkSummary, f_walkRing, a_opOf, a_aOf, a_bOf, a_tOf, a_machineVar, a_cellUsed, a_cellLink, a_tabNodes, a_tabSum, a_tabVar, a_tabSucc, a_entPoint, a_entPending, a_outPoint, a_wVar, a_wSucc, a_wSum, a_mark, a_head, a_preds, a_number, a_rawNext) (nI o) v2 v3 v4 := by
  have h98 : ∀ x5 x6 x7, gr_tv x5 (o ≤ 7) → gr_tv x6 (em_B o) → gr_tv x7 (6 ≤ o) → ((x5 = 0 → wX_emit_78 post (nI o) v2 v3 v4 x5 x6 x7 (nI vs) f_cells (nI ll) f_entryLimit (nI nn) f_fixed f_machine f_machinePc f_lostCount f_coinBits f_analysis f_entryCount f_outCount f_outLost f_wCount f_workLost f_numbered f_sumMask f_walkCount f_walkSummary f_walkRing a_opOf a_aOf a_bOf a_tOf a_machineVar a_cellUsed a_cellLink a_tabNodes a_tabSum a_tabVar a_tabSucc a_entPoint a_entPending a_outPoint a_wVar a_wSucc a_wSum a_mark a_head a_preds a_number a_rawNext) ∧ (¬ x5 = 0 → ((v2 < 0 → post (-3) (nI vs, f_cells, nI ll, f_entryLimit, nI nn, f_fixed, f_machine, f_machinePc, f_lostCount, f_coinBits, f_analysis, f_entryCount, f_outCount, f_outLost, f_wCount, f_workLost, f_numbered, f_sumMask, f_walkCount, f_walkSummary, f_walkRing, a_opOf, a_aOf, a_bOf, a_tOf, a_machineVar, a_cellUsed, a_cellLink, a_tabNodes, a_tabSum, a_tabVar, a_tabSucc, a_entPoint, a_entPending, a_outPoint, a_wVar, a_wSucc, a_wSum, a_mark, a_head, a_preds, a_number, a_rawNext)) ∧ (¬ v2 < 0 → ((v2 < nI vs → wX_emit_78 post (nI o) v2 v3 v4 x5 x6 x7 (nI vs) f_cells (nI ll) f_entryLimit (nI nn) f_fixed f_machine f_machinePc f_lostCount f_coinBits f_analysis f_entryCount f_outCount f_outLost f_wCount f_workLost f_numbered f_sumMask f_walkCount f_walkSummary f_walkRing a_opOf a_aOf a_bOf a_tOf a_machineVar a_cellUsed a_cellLink a_tabNodes a_tabSum a_tabVar a_tabSucc a_entPoint a_entPending a_outPoint a_wVar a_wSucc a_wSum a_mark a_head a_preds a_number a_rawNext) ∧ (¬ v2 < nI vs → post (-3) (nI vs, f_cells, nI ll, f_entryLimit, nI nn, f_fixed, f_machine, f_machinePc, f_lostCount, f_coinBits, f_analysis, f_entryCount, f_outCount, f_outLost, f_wCount, f_workLost, f_numbered, f_sumMask, f_walkCount, f_walkSummary, f_walkRing, a_opOf, a_aOf, a_bOf, a_tOf, a_machineVar, a_cellUsed, a_cellLink, a_tabNodes, a_tabSum, a_tabVar, a_tabSucc, a_entPoint, a_entPending, a_outPoint, a_wVar, a_wSucc, a_wSum, a_mark, a_head, a_preds, a_number, a_rawNext))))))) := by
    intro x5 x6 x7 t5 t6 t7
    refine em_chk (by omega) t5 (fun ⟨a, ea⟩ => ?_) (fun w => K0 (fun ⟨a, b, t, h1, h2, h3⟩ => w ⟨a, h1⟩))
    refine em_chk (by omega) t6 (fun ⟨b, eb⟩ => ?_) (fun w => K0 (fun ⟨a, b, t, h1, h2, h3⟩ => w ⟨b, h2⟩))
    refine em_chkT (by omega) t7 (fun ⟨t, et⟩ => ?_) (fun w => K0 (fun ⟨a, b, t, h1, h2, h3⟩ => w ⟨t, h3⟩))
    exact em_x120 hvs hll (by omega) t5 t6 t7 ea eb et (K1 a b t ea eb et)
  unfold wpX_emit
  dsimp only
  refine br_t hf (br_t (nI_lt hnn (by omega)) (br_f (nI_pos (by omega)) (br_t (nI_le (b := 9) ho (by omega)) ?_)))
  have tA : ∀ P : Int32 → Prop, (∀ r, gr_tv r (o ≤ 7) → P r) → wpX_usesA P (nI vs, f_cells, nI ll, f_entryLimit, nI nn, f_fixed, f_machine, f_machinePc, f_lostCount, f_coinBits, f_analysis, f_entryCount, f_outCount, f_outLost, f_wCount, f_workLost, f_numbered, f_sumMask, f_walkCount, f_walkSummary, f_walkRing, a_opOf, a_aOf, a_bOf, a_tOf, a_machineVar, a_cellUsed, a_cellLink, a_tabNodes, a_tabSum, a_tabVar, a_tabSucc, a_entPoint, a_entPending, a_outPoint, a_wVar, a_wSucc, a_wSum, a_mark, a_head, a_preds, a_number, a_rawNext) (nI o) := fun P h => br_f (nI_pos (by omega)) (pk_lt 7 o (fun z => h 0 (gr_tv_f (by omega))) (fun z => h 1 (gr_tv_t z)))
  have tB : ∀ P : Int32 → Prop, (∀ r, gr_tv r (em_B o) → P r) → wpX_usesB P (nI vs, f_cells, nI ll, f_entryLimit, nI nn, f_fixed, f_machine, f_machinePc, f_lostCount, f_coinBits, f_analysis, f_entryCount, f_outCount, f_outLost, f_wCount, f_workLost, f_numbered, f_sumMask, f_walkCount, f_walkSummary, f_walkRing, a_opOf, a_aOf, a_bOf, a_tOf, a_machineVar, a_cellUsed, a_cellLink, a_tabNodes, a_tabSum, a_tabVar, a_tabSucc, a_entPoint, a_entPending, a_outPoint, a_wVar, a_wSucc, a_wSum, a_mark, a_head, a_preds, a_number, a_rawNext) (nI o) := fun P h =>
    pk_eq o 1 (fun e => h 1 (gr_tv_t (Or.inl e))) (fun n1 => pk_eq o 3 (fun e => h 1 (gr_tv_t (Or.inr (Or.inl e)))) (fun n3 => pk_eq o 4 (fun e => h 1 (gr_tv_t (Or.inr (Or.inr (Or.inl e))))) (fun n4 => pk_eq o 7 (fun e => h 1 (gr_tv_t (Or.inr (Or.inr (Or.inr e))))) (fun n7 => h 0 (gr_tv_f (fun w => by rcases w with w | w | w | w <;> omega))))))
  have tT : ∀ P : Int32 → Prop, (∀ r, gr_tv r (6 ≤ o) → P r) → wpX_usesT P (nI vs, f_cells, nI ll, f_entryLimit, nI nn, f_fixed, f_machine, f_machinePc, f_lostCount, f_coinBits, f_analysis, f_entryCount, f_outCount, f_outLost, f_wCount, f_workLost, f_numbered, f_sumMask, f_walkCount, f_walkSummary, f_walkRing, a_opOf, a_aOf, a_bOf, a_tOf, a_machineVar, a_cellUsed, a_cellLink, a_tabNodes, a_tabSum, a_tabVar, a_tabSucc, a_entPoint, a_entPending, a_outPoint, a_wVar, a_wSucc, a_wSum, a_mark, a_head, a_preds, a_number, a_rawNext) (nI o) := fun P h => pk_lt o 6 (fun z => h 0 (gr_tv_f (by omega))) (fun z => pk_lt 9 o (fun y => by omega) (fun y => h 1 (gr_tv_t z)))
  exact tA _ (fun x5 t5 => tB _ (fun x6 t6 => tT _ (fun x7 t7 => h98 x5 x6 x7 t5 t6 t7)))
end
section
variable {vs ll nn o : Nat} {v2 v3 v4 x5 x6 x7 : Int32}
variable {f_vars f_cells f_lengthLimit f_entryLimit f_n f_pc f_lostCells f_machine f_analysis f_count f_gone f_fixed : Int32} {a_prog a_at a_pend a_size a_place a_succ a_many a_num a_newSucc a_newMany : Nat → Int32}
theorem em_y153 {post : Int32 → SY → Prop} {a b t : Nat} (hvs : vs ≤ 3) (hll : ll ≤ 32) (hnn : nn < 32) (t5 : gr_tv x5 (o ≤ 7)) (t6 : gr_tv x6 (em_B o)) (t7 : gr_tv x7 (6 ≤ o)) (ea : em_a (o ≤ 7) vs v2 a) (eb : em_a (em_B o) vs v3 b) (et : em_a (6 ≤ o) (ll + 1) v4 t)
    (K : post (nI nn) (f_vars, f_cells, f_lengthLimit, f_entryLimit, nI (nn + 1), f_pc, f_lostCells, f_machine, f_analysis, f_count, f_gone, f_fixed, upd (upd (upd (upd a_prog (nn * 4) (nI o)) (nn * 4 + 1) (gr_ex a)) (nn * 4 + 2) (gr_ex b)) (nn * 4 + 3) (gr_ex t), a_at, a_pend, a_size, a_place, a_succ, a_many, a_num, a_newSucc, a_newMany)) : wY_emit_153 post (nI o) v2 v3 v4 x5 x6 x7 f_vars f_cells f_lengthLimit f_entryLimit (nI nn) f_pc f_lostCells f_machine f_analysis f_count f_gone f_fixed a_prog a_at a_pend a_size a_place a_succ a_many a_num a_newSucc a_newMany := by
  have e1 : nI nn * 4 + 1 = nI (nn * 4 + 1) := ix_4 nn 1
  have e2 : nI nn * 4 + 2 = nI (nn * 4 + 2) := ix_4 nn 2
  have e3 : nI nn * 4 + 3 = nI (nn * 4 + 3) := ix_4 nn 3
  unfold wY_emit_153
  rw [e1, ix_4b, nI_clamp (by omega)]
  refine ⟨vp_in_nI (by omega) (by omega), nm_e (em_st (B := fun z => wY_emit_187 post v3 v4 x6 x7 z (nI (nn * 4 + 1)) f_vars f_cells f_lengthLimit f_entryLimit (nI nn) f_pc f_lostCells f_machine f_analysis f_count f_gone f_fixed (upd a_prog (nn * 4) (nI o)) a_at a_pend a_size a_place a_succ a_many a_num a_newSucc a_newMany) (by omega) t5 ea (fun z hz => ?_))⟩
  unfold wY_emit_187
  rw [e2, nI_clamp (by omega)]
  refine ⟨vp_in_nI (by omega) (by omega), nm_e (em_st (B := fun z2 => wY_emit_210 post v4 x7 z2 (nI (nn * 4 + 2)) f_vars f_cells f_lengthLimit f_entryLimit (nI nn) f_pc f_lostCells f_machine f_analysis f_count f_gone f_fixed (upd (upd a_prog (nn * 4) (nI o)) (nn * 4 + 1) z) a_at a_pend a_size a_place a_succ a_many a_num a_newSucc a_newMany) (by omega) t6 eb (fun z2 hz2 => ?_))⟩
  unfold wY_emit_210
  rw [e3, nI_clamp (by omega)]
  refine ⟨vp_in_nI (by omega) (by omega), nm_e (em_st (B := fun z3 => wY_emit_234 post z3 (nI (nn * 4 + 3)) f_vars f_cells f_lengthLimit f_entryLimit (nI nn) f_pc f_lostCells f_machine f_analysis f_count f_gone f_fixed (upd (upd (upd a_prog (nn * 4) (nI o)) (nn * 4 + 1) z) (nn * 4 + 2) z2) a_at a_pend a_size a_place a_succ a_many a_num a_newSucc a_newMany) (by omega) t7 et (fun z3 hz3 => ?_))⟩
  unfold wY_emit_234
  rw [nI_clamp (by omega), hz, hz2, hz3, nI_1]
  refine ⟨vp_in_nI (by omega) (by omega), nm_e (nm_e ?_)⟩
  rw [nI_pred]; exact K
theorem em_y {post : Int32 → SY → Prop} (hvs : vs ≤ 3) (hll : ll ≤ 32) (hnn : nn < ll) (ho : o ≤ 9) (hf : f_fixed = 0)
    (K1 : ∀ a b t, em_a (o ≤ 7) vs v2 a → em_a (em_B o) vs v3 b → em_a (6 ≤ o) (ll + 1) v4 t → post (nI nn) (nI vs, f_cells, nI ll, f_entryLimit, nI (nn + 1), f_pc, f_lostCells, f_machine, f_analysis, f_count, f_gone, f_fixed, upd (upd (upd (upd a_prog (nn * 4) (nI o)) (nn * 4 + 1) (gr_ex a)) (nn * 4 + 2) (gr_ex b)) (nn * 4 + 3) (gr_ex t), a_at, a_pend, a_size, a_place, a_succ, a_many, a_num, a_newSucc, a_newMany))
    (K0 : (¬ ∃ a b t, em_a (o ≤ 7) vs v2 a ∧ em_a (em_B o) vs v3 b ∧ em_a (6 ≤ o) (ll + 1) v4 t) → post (-3) (nI vs, f_cells, nI ll, f_entryLimit, nI nn, f_pc, f_lostCells, f_machine, f_analysis, f_count, f_gone, f_fixed, a_prog, a_at, a_pend, a_size, a_place, a_succ, a_many, a_num, a_newSucc, a_newMany)) : wpY_emit post (nI vs, f_cells, nI ll, f_entryLimit, nI nn, f_pc, f_lostCells, f_machine, f_analysis, f_count, f_gone, f_fixed, a_prog, a_at, a_pend, a_size, a_place, a_succ, a_many, a_num, a_newSucc, a_newMany) (nI o) v2 v3 v4 := by
  have h89 : ∀ x5 x6 x7, gr_tv x5 (o ≤ 7) → gr_tv x6 (em_B o) → gr_tv x7 (6 ≤ o) → wY_emit_89 post (nI o) v2 v3 v4 x5 x6 x7 (nI vs) f_cells (nI ll) f_entryLimit (nI nn) f_pc f_lostCells f_machine f_analysis f_count f_gone f_fixed a_prog a_at a_pend a_size a_place a_succ a_many a_num a_newSucc a_newMany := by
    intro x5 x6 x7 t5 t6 t7
    refine em_chk (by omega) t5 (fun ⟨a, ea⟩ => ?_) (fun w => K0 (fun ⟨a, b, t, h1, h2, h3⟩ => w ⟨a, h1⟩))
    refine em_chk (by omega) t6 (fun ⟨b, eb⟩ => ?_) (fun w => K0 (fun ⟨a, b, t, h1, h2, h3⟩ => w ⟨b, h2⟩))
    refine em_chkT (by omega) t7 (fun ⟨t, et⟩ => ?_) (fun w => K0 (fun ⟨a, b, t, h1, h2, h3⟩ => w ⟨t, h3⟩))
    exact em_y153 hvs hll (by omega) t5 t6 t7 ea eb et (K1 a b t ea eb et)
  have h76 : ∀ x5 x6, gr_tv x5 (o ≤ 7) → gr_tv x6 (em_B o) → wY_emit_76 post (nI o) v2 v3 v4 x5 x6 (nI vs) f_cells (nI ll) f_entryLimit (nI nn) f_pc f_lostCells f_machine f_analysis f_count f_gone f_fixed a_prog a_at a_pend a_size a_place a_succ a_many a_num a_newSucc a_newMany := fun x5 x6 t5 t6 =>
    pk_lt o 6 (fun z => h89 x5 x6 0 t5 t6 (gr_tv_f (by omega))) (fun z => h89 x5 x6 1 t5 t6 (gr_tv_t z))
  have h48 : ∀ x5, gr_tv x5 (o ≤ 7) → wY_emit_48 post (nI o) v2 v3 v4 x5 (nI vs) f_cells (nI ll) f_entryLimit (nI nn) f_pc f_lostCells f_machine f_analysis f_count f_gone f_fixed a_prog a_at a_pend a_size a_place a_succ a_many a_num a_newSucc a_newMany := fun x5 t5 =>
    pk_eq o 1 (fun e => h76 x5 1 t5 (gr_tv_t (Or.inl e))) (fun n1 => pk_eq o 3 (fun e => h76 x5 1 t5 (gr_tv_t (Or.inr (Or.inl e)))) (fun n3 => pk_eq o 4 (fun e => h76 x5 1 t5 (gr_tv_t (Or.inr (Or.inr (Or.inl e))))) (fun n4 => pk_eq o 7 (fun e => h76 x5 1 t5 (gr_tv_t (Or.inr (Or.inr (Or.inr e))))) (fun n7 => h76 x5 0 t5 (gr_tv_f (fun w => by rcases w with w | w | w | w <;> omega))))))
  unfold wpY_emit
  dsimp only
  refine br_t hf (br_f (fun z => by rw [nI_eq (by omega) (by omega)] at z; omega) (br_f (nI_pos (by omega)) (br_t (nI_le (b := 9) ho (by omega)) ?_)))
  exact pk_lt 7 o (fun z => h48 0 (gr_tv_f (by omega))) (fun z => h48 1 (gr_tv_t z))
end
theorem em_u {use : Prop} {n a a' : Nat} {v : Int32} (hn : n ≤ 40) (h : em_a use n v a) (h' : em_a use n v a') : a = a' := by
  rcases Classical.em use with q | q
  · have e := (h.1 q).2.symm.trans (h'.1 q).2
    rw [nI_eq (by have := (h.1 q).1; omega) (by have := (h'.1 q).1; omega)] at e
    exact e
  · rw [h.2 q, h'.2 q]
theorem i_vc_emit {k : Nat} {u : SX} {v : SY} (I : i_Rel k u v) (hk : k + 5 ≤ 2564) (v1 : Int32) (v2 : Int32) (v3 : Int32) (v4 : Int32) : wpX_emit (fun r u' => wpY_emit (fun r' v' => r' = r ∧ i_Rel (k + 5) u' v') v v1 v2 v3 v4) u v1 v2 v3 v4 := by
  refine re_el (P := fun u v => wpX_emit (fun r u' => wpY_emit (fun r' v' => r' = r ∧ i_Rel (k + 5) u' v') v v1 v2 v3 v4) u v1 v2 v3 v4) I ?_
  intro vs cl ll el nn pc op pa pb pt mv mh A f_fixed f_machine f_lostCount f_coinBits f_outCount f_outLost f_wCount f_workLost f_numbered f_sumMask f_walkCount f_walkSummary f_walkRing g_gone a_opOf a_aOf a_bOf a_tOf a_machineVar a_cellUsed a_cellLink a_tabNodes a_tabSum a_tabVar a_tabSucc a_entPoint a_entPending a_outPoint a_wVar a_wSucc a_wSum a_mark a_head a_preds a_number a_rawNext b_prog b_at b_pend b_size b_place b_succ b_many b_num b_newSucc b_newMany C
  have C' := C
  obtain ⟨hvs, hcl, hll, hel, hnn, hpc, hfx, P, HX, HY, MW, MX, MY, G, XE, YE⟩ := C
  by_cases hf : f_fixed = 0
  · rcases Nat.lt_or_ge nn ll with hl | hl
    · have xlt : nI nn < nI ll := nI_lt hl (by omega)
      have yne : ¬ nI nn = nI ll := fun z => by rw [nI_eq (by omega) (by omega)] at z; omega
      by_cases h0 : v1 < 0
      · exact br_t hf (br_t xlt (br_t h0 (br_t hf (br_f yne (br_t h0 ⟨rfl, re_in C'⟩)))))
      · by_cases h9 : v1 ≤ 9
        · obtain ⟨o, ho, rfl⟩ := nI_of2 (M := 9) (n := 9) (by decide) h0 h9
          refine em_x hvs.2 hll.2 hl ho hf (fun a b t ea eb et => ?_) (fun w => ?_)
          · refine em_y hvs.2 hll.2 hl ho hf (fun a' b' t' ea' eb' et' => ⟨rfl, ?_⟩) (fun w => absurd ⟨a, b, t, ea, eb, et⟩ w)
            rw [em_u (by omega) ea' ea, em_u (by omega) eb' eb, em_u (by omega) et' et]
            have ins : gr_ins vs o a b t := by
              refine ⟨ho, fun z => (ea.1 z).1, fun z => ea.2 (by omega), fun z => (eb.1 z).1, fun z => eb.2 z, fun z => ?_, fun z => et.2 (by omega)⟩
              have := (et.1 z).1; omega
            refine re_in (nn := nn + 1) (pc := pc) (op := gr_up op nn o) (pa := gr_up pa nn a) (pb := gr_up pb nn b) (pt := gr_up pt nn t) (mv := mv) (mh := mh) (A := A) ⟨hvs, hcl, hll, hel, by omega, ⟨by omega, fun z => ⟨(hpc.2 z).1, by have := (hpc.2 z).2; omega⟩⟩, fun z => absurd hf z, fun i hi => ?_, fun i hi => ?_, fun i hi => ?_, MW, MX, MY, G, XE, YE⟩
            · rcases Nat.decEq i nn with z | z
              · rw [gr_up_n z, gr_up_n z, gr_up_n z, gr_up_n z]; exact P i (by omega)
              · rw [z, gr_up_s, gr_up_s, gr_up_s, gr_up_s]; exact ins
            · rcases Nat.decEq i nn with z | z
              · have x := HX i (by omega)
                rw [gr_up_n z, gr_up_n z, gr_up_n z, gr_up_n z]
                exact ⟨(pk_un z).trans x.1, (pk_un z).trans x.2.1, (pk_un z).trans x.2.2.1, (pk_un z).trans x.2.2.2⟩
              · rw [z, gr_up_s, gr_up_s, gr_up_s, gr_up_s]
                exact ⟨pk_us, pk_us, pk_us, pk_us⟩
            · rcases Nat.decEq i nn with z | z
              · have y := HY i (by omega)
                rw [gr_up_n z, gr_up_n z, gr_up_n z, gr_up_n z]
                refine ⟨?_, ?_, ?_, ?_⟩
                · rw [pk_un (by omega), pk_un (by omega), pk_un (by omega), pk_un (by omega)]; exact y.1
                · rw [pk_un (by omega), pk_un (by omega), pk_un (by omega), pk_un (by omega)]; exact y.2.1
                · rw [pk_un (by omega), pk_un (by omega), pk_un (by omega), pk_un (by omega)]; exact y.2.2.1
                · rw [pk_un (by omega), pk_un (by omega), pk_un (by omega), pk_un (by omega)]; exact y.2.2.2
              · rw [z, gr_up_s, gr_up_s, gr_up_s, gr_up_s]
                refine ⟨?_, ?_, ?_, pk_us⟩
                · rw [pk_un (by omega), pk_un (by omega), pk_un (by omega), pk_us]
                · rw [pk_un (by omega), pk_un (by omega), pk_us]
                · rw [pk_un (by omega), pk_us]
          · exact em_y hvs.2 hll.2 hl ho hf (fun a b t ea eb et => absurd ⟨a, b, t, ea, eb, et⟩ w) (fun _ => ⟨rfl, re_in C'⟩)
        · exact br_t hf (br_t xlt (br_f h0 (br_f h9 (br_t hf (br_f yne (br_f h0 (br_f h9 ⟨rfl, re_in C'⟩)))))))
    · have e : nn = ll := by omega
      exact br_t hf (br_f (nI_nlt (by omega) (by omega)) (br_t hf (br_t (by rw [e]) ⟨rfl, re_in C'⟩)))
  · exact br_f hf (br_f hf ⟨rfl, re_in C'⟩)
end
section
/-! seal -/
def gr_S0 : gr_S := (0, (fun _ => 40), (fun _ => 40), fun _ => false)
theorem gr_S0_W {vs : Nat} : gr_W gr_S0.1 vs gr_S0.2.1 gr_S0.2.2.1 :=
  ⟨⟨by show 0 ≤ 40; omega, fun u => Or.inr (Or.inl rfl), fun u _ => rfl⟩, fun x _ => Or.inr rfl, fun u _ z => absurd z (by show ¬ 40 = 41; omega)⟩
theorem gr_S0_E {vs : Nat} : gr_ES vs gr_S0 := ⟨by show 0 ≤ 12; omega, fun u => Or.inr rfl, fun u _ => rfl, fun x _ => Or.inr rfl⟩
theorem gr_nw0 (g : Nat → Nat) : ∀ x, gr_nw g (fun _ => 40) x = (0, (fun _ => 40), fun _ => 40)
  | 0 => rfl
  | x + 1 => by
    show gr_nw1 g 40 40 (gr_nw g (fun _ => 40) x) = _
    rw [gr_nw1_f (fun c => by omega)]
    exact gr_nw0 g x
theorem gr_S0_n {vs : Nat} : (gr_NF vs gr_S0).1 = 0 := by
  show (gr_nw (gr_g 0 vs (fun _ => 40) (fun _ => 40) fun _ => false) (fun _ => 40) vs).1 = 0
  rw [gr_nw0]
theorem xS0 {vs : Nat} {tn ts tv tu : Nat → Int32} (T : xS vs 0 (gr_NF vs gr_S0) tn ts tv tu) : xS vs 0 gr_S0 tn ts tv tu := by
  obtain ⟨t1, t2, t3, t4⟩ := T
  refine ⟨?_, fun x hx => (t2 x hx).trans ?_, fun u hu => absurd hu (Nat.not_lt_zero _), fun i hi => ?_⟩
  · rw [t1, gr_S0_n]; rfl
  · show gr_ex (gr_nfc 0 vs (fun _ => 40) (fun _ => 40) (fun _ => false) 40) = gr_ex 40
    unfold gr_nfc
    rw [if_neg (by omega)]
  · rw [t4 i hi, gr_S0_n]; rfl
theorem se_le {p n : Nat} (hn : n ≤ 32) : gr_ex p ≤ nI n ↔ (40 ≤ p ∨ p ≤ n) := by
  rcases Nat.lt_or_ge p 40 with z | z
  · rw [gr_ex_n z, nI_leI (by omega) (by omega)]; omega
  · rw [gr_ex_g z]
    refine ⟨fun _ => Or.inl z, fun _ => ?_⟩
    rw [Int32.le_iff_toInt_le, nI_toInt (by omega), show (-1 : Int32).toInt = -1 from by decide]; omega
section
variable {vs nn : Nat} {op pa pb pt : Nat → Nat}
variable {f_vars f_cells f_lengthLimit f_entryLimit f_count f_fixed f_machine f_machinePc f_lostCount f_coinBits f_analysis f_entryCount f_outCount f_outLost f_wCount f_workLost f_numbered f_sumMask f_walkCount f_walkSummary f_walkRing : Int32} {a_opOf a_aOf a_bOf a_tOf a_machineVar a_cellUsed a_cellLink a_tabNodes a_tabSum a_tabVar a_tabSucc a_entPoint a_entPending a_outPoint a_wVar a_wSucc a_wSum a_mark a_head a_preds a_number a_rawNext : Nat → Int32}
theorem xsa_7 {post : SX → Prop} (hvs : vs ≤ 3) (K : ∀ wl nb sk mk hd pr nu rn tn ts tv tu wv, xS vs 0 gr_S0 tn ts tv tu → post (nI vs, f_cells, f_lengthLimit, f_entryLimit, f_count, f_fixed, f_machine, f_machinePc, f_lostCount, f_coinBits, 1, 1, f_outCount, f_outLost, nI 0, wl, nb, sk, f_walkCount, f_walkSummary, f_walkRing, a_opOf, a_aOf, a_bOf, a_tOf, a_machineVar, a_cellUsed, a_cellLink, tn, ts, tv, tu, upd a_entPoint 0 0, upd a_entPending 0 (vp_nar .boolean 1), a_outPoint, wv, a_wSucc, a_wSum, mk, hd, pr, nu, rn)) :
    ∀ d i wv, i + d = 3 → (∀ x, x < i → wv x = -1) → wX_startAnalysis_7 post (nI vs) f_cells f_lengthLimit f_entryLimit f_count f_fixed f_machine f_machinePc f_lostCount f_coinBits f_analysis f_entryCount f_outCount f_outLost (nI 0) f_workLost f_numbered f_sumMask f_walkCount f_walkSummary f_walkRing (d + 1) (nI i) a_opOf a_aOf a_bOf a_tOf a_machineVar a_cellUsed a_cellLink a_tabNodes a_tabSum a_tabVar a_tabSucc a_entPoint a_entPending a_outPoint wv a_wSucc a_wSum a_mark a_head a_preds a_number a_rawNext := by
  intro d
  induction d with
  | zero =>
    intro i wv hi h1
    refine br_t (nI_le (a := 3) (by omega) (by omega)) ?_
    refine x_norm (s := 0) (n := 0) (h := gr_S0.2.1) (va := gr_S0.2.2.1) (sm := gr_S0.2.2.2) (by omega) (gr_S0_W (vs := vs)) hvs (fun x hx => h1 x (by omega)) (fun u hu => absurd hu (Nat.not_lt_zero _)) (fun u hu => absurd hu (Nat.not_lt_zero _)) (fun wl nb sk mk hd pr nu rn tn ts tv tu _ hS _ => nm_e (nm_e ?_))
    exact K wl nb sk mk hd pr nu rn tn ts tv tu wv (xS0 hS)
  | succ d ih =>
    intro i wv hi h1
    refine br_f (nI_ge (b := 3) (by omega) (by omega)) ⟨vp_in_nI (by omega) (by omega), ?_⟩
    rw [nI_clamp (by omega)]
    refine nm_e (nm_r (nI_1 i) (ih (i + 1) _ (by omega) (fun c hc => ?_)))
    rcases Nat.decEq c i with y | y
    · rw [pk_un y]; exact h1 c (by omega)
    · rw [y, pk_us]
theorem xsa_ok {post : SX → Prop} (hvs : vs ≤ 3) (K : ∀ wl nb sk mk hd pr nu rn tn ts tv tu wv, xS vs 0 gr_S0 tn ts tv tu → post (nI vs, f_cells, f_lengthLimit, f_entryLimit, f_count, f_fixed, f_machine, f_machinePc, f_lostCount, f_coinBits, 1, 1, f_outCount, f_outLost, nI 0, wl, nb, sk, f_walkCount, f_walkSummary, f_walkRing, a_opOf, a_aOf, a_bOf, a_tOf, a_machineVar, a_cellUsed, a_cellLink, tn, ts, tv, tu, upd a_entPoint 0 0, upd a_entPending 0 (vp_nar .boolean 1), a_outPoint, wv, a_wSucc, a_wSum, mk, hd, pr, nu, rn)) : wpX_startAnalysis post (nI vs, f_cells, f_lengthLimit, f_entryLimit, f_count, f_fixed, f_machine, f_machinePc, f_lostCount, f_coinBits, f_analysis, f_entryCount, f_outCount, f_outLost, f_wCount, f_workLost, f_numbered, f_sumMask, f_walkCount, f_walkSummary, f_walkRing, a_opOf, a_aOf, a_bOf, a_tOf, a_machineVar, a_cellUsed, a_cellLink, a_tabNodes, a_tabSum, a_tabVar, a_tabSucc, a_entPoint, a_entPending, a_outPoint, a_wVar, a_wSucc, a_wSum, a_mark, a_head, a_preds, a_number, a_rawNext) :=
  Exists.intro 4 (xsa_7 hvs K 3 0 a_wVar (by omega) (fun x hx => by omega))
theorem xse_22 {post : Int32 → SX → Prop} (hnn : nn ≤ 32) (H : xs_P vs nn op pa pb pt a_opOf a_aOf a_bOf a_tOf) (K1 : (∀ i, i < nn → 40 ≤ pt i ∨ pt i ≤ nn) → wX_seal_22 post f_vars f_cells f_lengthLimit f_entryLimit (nI nn) f_fixed f_machine f_machinePc f_lostCount f_coinBits f_analysis f_entryCount f_outCount f_outLost f_wCount f_workLost f_numbered f_sumMask f_walkCount f_walkSummary f_walkRing a_opOf a_aOf a_bOf a_tOf a_machineVar a_cellUsed a_cellLink a_tabNodes a_tabSum a_tabVar a_tabSucc a_entPoint a_entPending a_outPoint a_wVar a_wSucc a_wSum a_mark a_head a_preds a_number a_rawNext 1 (nI nn)) (K0 : ¬ (∀ i, i < nn → 40 ≤ pt i ∨ pt i ≤ nn) → post (-3) (f_vars, f_cells, f_lengthLimit, f_entryLimit, nI nn, f_fixed, f_machine, f_machinePc, f_lostCount, f_coinBits, f_analysis, f_entryCount, f_outCount, f_outLost, f_wCount, f_workLost, f_numbered, f_sumMask, f_walkCount, f_walkSummary, f_walkRing, a_opOf, a_aOf, a_bOf, a_tOf, a_machineVar, a_cellUsed, a_cellLink, a_tabNodes, a_tabSum, a_tabVar, a_tabSucc, a_entPoint, a_entPending, a_outPoint, a_wVar, a_wSucc, a_wSum, a_mark, a_head, a_preds, a_number, a_rawNext)) :
    ∀ d i, i + d = nn → (∀ j, j < i → 40 ≤ pt j ∨ pt j ≤ nn) → wX_seal_22 post f_vars f_cells f_lengthLimit f_entryLimit (nI nn) f_fixed f_machine f_machinePc f_lostCount f_coinBits f_analysis f_entryCount f_outCount f_outLost f_wCount f_workLost f_numbered f_sumMask f_walkCount f_walkSummary f_walkRing a_opOf a_aOf a_bOf a_tOf a_machineVar a_cellUsed a_cellLink a_tabNodes a_tabSum a_tabVar a_tabSucc a_entPoint a_entPending a_outPoint a_wVar a_wSucc a_wSum a_mark a_head a_preds a_number a_rawNext (d + 1) (nI i) := by
  intro d
  induction d with
  | zero =>
    intro i hi h1
    have e : i = nn := by omega
    subst e
    exact K1 h1
  | succ d ih =>
    intro i hi h1
    refine br_f (nI_ge (by omega) (by omega)) ⟨vp_in_nI (by omega) (by omega), ?_⟩
    rw [nI_clamp (by omega), (H i (by omega)).2.2.2]
    refine br_c (fun z => nm_r (nI_1 i) (ih (i + 1) (by omega) (fun j hj => ?_))) (fun z => K0 (fun w => z ((se_le hnn).mpr (w i (by omega)))))
    rcases Nat.decEq j i with y | y
    · exact h1 j (by omega)
    · rw [y]; exact (se_le hnn).mp z
end
section
variable {vs nn : Nat} {op pa pb pt : Nat → Nat}
variable {f_vars f_cells f_lengthLimit f_entryLimit f_n f_pc f_lostCells f_machine f_analysis f_count f_gone f_fixed : Int32} {a_prog a_at a_pend a_size a_place a_succ a_many a_num a_newSucc a_newMany : Nat → Int32}
theorem yse_22 {post : Int32 → SY → Prop} (hnn : nn ≤ 32) (H : ys_P nn op pa pb pt a_prog) (K1 : (∀ i, i < nn → 40 ≤ pt i ∨ pt i ≤ nn) → wY_seal_22 post f_vars f_cells f_lengthLimit f_entryLimit (nI nn) f_pc f_lostCells f_machine f_analysis f_count f_gone f_fixed a_prog a_at a_pend a_size a_place a_succ a_many a_num a_newSucc a_newMany 1 (nI nn)) (K0 : ¬ (∀ i, i < nn → 40 ≤ pt i ∨ pt i ≤ nn) → post (-3) (f_vars, f_cells, f_lengthLimit, f_entryLimit, nI nn, f_pc, f_lostCells, f_machine, f_analysis, f_count, f_gone, f_fixed, a_prog, a_at, a_pend, a_size, a_place, a_succ, a_many, a_num, a_newSucc, a_newMany)) :
    ∀ d i, i + d = nn → (∀ j, j < i → 40 ≤ pt j ∨ pt j ≤ nn) → wY_seal_22 post f_vars f_cells f_lengthLimit f_entryLimit (nI nn) f_pc f_lostCells f_machine f_analysis f_count f_gone f_fixed a_prog a_at a_pend a_size a_place a_succ a_many a_num a_newSucc a_newMany (d + 1) (nI i) := by
  intro d
  induction d with
  | zero =>
    intro i hi h1
    have e : i = nn := by omega
    subst e
    exact K1 h1
  | succ d ih =>
    intro i hi h1
    refine br_f (nI_ge (by omega) (by omega)) ?_
    rw [show nI i * 4 + 3 = nI (i * 4 + 3) from ix_4 i 3, nI_clamp (by omega), (H i (by omega)).2.2.2]
    refine ⟨vp_in_nI (by omega) (by omega), br_c (fun z => nm_r (nI_1 i) (ih (i + 1) (by omega) (fun j hj => ?_))) (fun z => K0 (fun w => z ((se_le hnn).mpr (w i (by omega)))))⟩
    rcases Nat.decEq j i with y | y
    · exact h1 j (by omega)
    · rw [y]; exact (se_le hnn).mp z
end
theorem i_vc_seal {k : Nat} {u : SX} {v : SY} (I : i_Rel k u v) (hk : k + 5 ≤ 2564) : wpX_seal (fun r u' => wpY_seal (fun r' v' => r' = r ∧ i_Rel (k + 5) u' v') v) u := by
  refine re_el (P := fun u v => wpX_seal (fun r u' => wpY_seal (fun r' v' => r' = r ∧ i_Rel (k + 5) u' v') v) u) I ?_
  intro vs cl ll el nn pc op pa pb pt mv mh A f_fixed f_machine f_lostCount f_coinBits f_outCount f_outLost f_wCount f_workLost f_numbered f_sumMask f_walkCount f_walkSummary f_walkRing g_gone a_opOf a_aOf a_bOf a_tOf a_machineVar a_cellUsed a_cellLink a_tabNodes a_tabSum a_tabVar a_tabSucc a_entPoint a_entPending a_outPoint a_wVar a_wSucc a_wSum a_mark a_head a_preds a_number a_rawNext b_prog b_at b_pend b_size b_place b_succ b_many b_num b_newSucc b_newMany C
  have C' := C
  obtain ⟨hvs, hcl, hll, hel, hnn, hpc, hfx, P, HX, HY, MW, MX, MY, G, XE, YE⟩ := C
  by_cases hf : f_fixed = 0
  · rcases Nat.eq_zero_or_pos nn with z | z
    · subst z
      exact br_t hf (br_t rfl (br_t hf (br_t rfl ⟨rfl, re_in C'⟩)))
    · have nz : ¬ nI nn = 0 := nI_ne0 z (by omega)
      refine br_t hf (br_f nz (Exists.intro (nn + 1) ?_))
      refine xse_22 (by omega) HX (fun ok => ?_) (fun nok => ?_) nn 0 (by omega) (fun j hj => by omega)
      · refine br_t (nI_le (by omega) (by omega)) ?_
        refine xst_ok (fun ma cu ck hM => ?_)
        dsimp only
        refine xsa_ok hvs.2 (fun wl nb sk mk hd pr nu rn tn ts tv tu wv hS => ?_)
        dsimp only
        refine br_t hf (br_f nz (Exists.intro (nn + 1) ?_))
        refine yse_22 (by omega) HY (fun _ => ?_) (fun nok => absurd ok nok) nn 0 (by omega) (fun j hj => by omega)
        refine br_t (nI_le (by omega) (by omega)) ?_
        refine yst_ok hvs.2 hcl.2 (fun sz pl su ma' T F => ?_)
        dsimp only
        refine yk_ok (s := 0) (n := 0) (vs := vs) (by omega) hvs.2 (by omega) (fun sz2 pl2 su2 ma2 T2 F2 => ?_)
        dsimp only
        refine nm_e (nm_e ⟨rfl, ?_⟩)
        refine re_in (pc := 0) (op := op) (pa := pa) (pb := pb) (pt := pt) (mv := gr_v0) (mh := gr_h0 cl) (A := ((1 : Int32), (1 : Nat), (fun _ => gr_S0), (fun _ => 0), fun _ => true)) ⟨hvs, hcl, hll, hel, hnn, ⟨Nat.zero_le _, fun _ => ⟨by decide, z⟩⟩, fun _ => ⟨z, fun i hi h6 => ?_⟩, P, HX, HY, gr_MW0 hcl.2, hM vs cl hvs.2 hcl.2, ?_, ⟨hel.2, by show 1 ≤ el; omega, fun e he => ⟨gr_S0_E, by show 0 ≤ 40; omega⟩⟩, fun e he => ?_, fun e he => ?_⟩
        · rcases ok i hi with y | y
          · have := (P i hi).2.2.2.2.2.1 h6; omega
          · exact y
        · exact ys_SF hvs.2 (by show cl ≤ 40; omega) F2 (by omega) T
        · have e0 : e = 0 := by have : e < 1 := he; omega
          subst e0
          exact ⟨hS, pk_us, by rw [pk_us]; rfl⟩
        · have e0 : e = 0 := by have : e < 1 := he; omega
          subst e0
          exact ⟨⟨T2.1, T2.2.1, fun u hu => absurd hu (Nat.not_lt_zero _), fun u hu => absurd hu (Nat.not_lt_zero _)⟩, pk_us, by rw [pk_us]; rfl⟩
      · refine br_t hf (br_f nz (Exists.intro (nn + 1) ?_))
        exact yse_22 (by omega) HY (fun ok => absurd ok nok) (fun _ => ⟨rfl, re_in C'⟩) nn 0 (by omega) (fun j hj => by omega)
  · exact br_f hf (br_f hf ⟨rfl, re_in C'⟩)
end
section
/-! run -/
theorem ix_and1 (y : Int32) : y &&& 1 = 0 ↔ bt y 0 = false := by
  have h1 : ∀ j, j < 32 → bt 1 j = decide (j = 0) := by decide +kernel
  constructor
  · intro q
    have : bt (y &&& 1) 0 = bt 0 0 := by rw [q]
    rw [b_and, b_0, h1 0 (by omega), decide_eq_true rfl, Bool.and_true] at this
    exact this
  · intro q
    refine b_ext (fun j hj => ?_)
    rw [b_and, b_0, h1 j hj]
    rcases Nat.decEq j 0 with z | z
    · rw [decide_eq_false z, Bool.and_false]
    · rw [z, q]; rfl
theorem ix_coin (c : Int32) {j : Nat} (hj : j < 32) : (c >>> (nI j &&& 31)) &&& 1 = nI (if bt c j then 1 else 0) := by
  have h1 : ∀ j, j < 32 → bt 1 j = decide (j = 0) := by decide +kernel
  refine b_ext (fun i hi => ?_)
  rw [b_and, b_sshr j hj c hi, h1 i hi]
  rcases Nat.decEq i 0 with z | z
  · rw [decide_eq_false z, Bool.and_false]
    cases bt c j
    · exact (b_0 i).symm
    · show false = bt 1 i
      rw [h1 i hi, decide_eq_false z]
  · subst z
    rw [if_pos (by omega), Nat.add_zero, decide_eq_true rfl, Bool.and_true]
    cases bt c j
    · exact (b_0 0).symm
    · show true = bt 1 0
      rw [h1 0 (by omega), decide_eq_true rfl]
theorem ix_sh1 (c : Int32) (i : Nat) : bt ((c.toUInt32 >>> ((1 : Int32).toUInt32 &&& Int32.toUInt32 31)).toInt32) i = bt c (1 + i) := b_ushr 1 (by omega) c i
section
variable {vs cl nn L : Nat} {op pa pb pt : Nat → Nat} {coins : Int32}
variable {f_vars f_cells f_lengthLimit f_entryLimit f_count f_fixed f_machine f_machinePc f_lostCount f_coinBits f_analysis f_entryCount f_outCount f_outLost f_wCount f_workLost f_numbered f_sumMask f_walkCount f_walkSummary f_walkRing : Int32} {a_opOf a_aOf a_bOf a_tOf a_machineVar a_cellUsed a_cellLink a_tabNodes a_tabSum a_tabVar a_tabSucc a_entPoint a_entPending a_outPoint a_wVar a_wSucc a_wSum a_mark a_head a_preds a_number a_rawNext : Nat → Int32}
variable {g_cells g_lengthLimit g_entryLimit g_analysis g_count g_gone g_fixed : Int32} {b_prog b_at b_pend b_num b_newSucc b_newMany : Nat → Int32}
/-- the machine runs: where it ends, for both sides -/
theorem run_ex (hvs : vs ≤ 3) (hcl : cl ≤ 32) (hnn : nn ≤ 32) (hL : L ≤ 32) (P : gr_pg vs nn op pa pb pt) (HX : xs_P vs nn op pa pb pt a_opOf a_aOf a_bOf a_tOf) (HY : ys_P nn op pa pb pt b_prog) (hfx : ∀ i, i < nn → 6 ≤ op i → pt i ≤ nn) :
    ∀ d kk dn j mc pc lo mv mh, kk + d = L → j ≤ kk → dn ≤ kk → gr_MW cl vs mh mv → pc ≤ nn → (mc = 1 → pc < nn) →
      ∃ rF mcF pcF loF mvF mhF, gr_MW cl vs mhF mvF ∧ pcF ≤ nn ∧ (mcF = 1 → pcF < nn) ∧ (mcF = 1 → mc = 1) ∧
        (∀ cb wc wl wv wu wm mk ma cu ck, (∀ i, bt cb i = bt coins (j + i)) → xs_M vs cl mv mh ma cu ck → ∀ post : Int32 → SX → Prop,
          (∀ cb' wc' wl' wv' wu' wm' mk' ma' cu' ck', xs_M vs cl mvF mhF ma' cu' ck' → post rF (nI vs, nI cl, f_lengthLimit, f_entryLimit, nI nn, f_fixed, mcF, nI pcF, loF, cb', f_analysis, f_entryCount, f_outCount, f_outLost, wc', wl', f_numbered, f_sumMask, f_walkCount, f_walkSummary, f_walkRing, a_opOf, a_aOf, a_bOf, a_tOf, ma', cu', ck', a_tabNodes, a_tabSum, a_tabVar, a_tabSucc, a_entPoint, a_entPending, a_outPoint, wv', wu', wm', mk', a_head, a_preds, a_number, a_rawNext)) →
          wX_run_30 post (nI L) (d + 1) (nI dn) (nI kk) (nI vs) (nI cl) f_lengthLimit f_entryLimit (nI nn) f_fixed mc (nI pc) lo cb f_analysis f_entryCount f_outCount f_outLost wc wl f_numbered f_sumMask f_walkCount f_walkSummary f_walkRing a_opOf a_aOf a_bOf a_tOf ma cu ck a_tabNodes a_tabSum a_tabVar a_tabSucc a_entPoint a_entPending a_outPoint wv wu wm mk a_head a_preds a_number a_rawNext) ∧
        (∀ sz pl su ma, yS vs 256 (gr_ms cl mh mv) sz pl su ma → ∀ post : Int32 → SY → Prop,
          (∀ sz' pl' su' ma', yS vs 256 (gr_ms cl mhF mvF) sz' pl' su' ma' → ys_F 256 sz pl su ma sz' pl' su' ma' → post rF (nI vs, nI cl, g_lengthLimit, g_entryLimit, nI nn, nI pcF, loF, mcF, g_analysis, g_count, g_gone, g_fixed, b_prog, b_at, b_pend, sz', pl', su', ma', b_num, b_newSucc, b_newMany)) →
          wY_run_28 post coins (nI L) (d + 1) (nI dn) (nI j) (nI kk) (nI vs) (nI cl) g_lengthLimit g_entryLimit (nI nn) (nI pc) lo mc g_analysis g_count g_gone g_fixed b_prog b_at b_pend sz pl su ma b_num b_newSucc b_newMany) := by
  intro d
  induction d with
  | zero =>
    intro kk dn j mc pc lo mv mh hk hj hd W h1 h2
    refine ⟨nI dn, mc, pc, lo, mv, mh, W, h1, h2, id, fun cb wc wl wv wu wm mk ma cu ck _ M post K => ?_, fun sz pl su ma T post K => ?_⟩
    · exact br_t (nI_le (by omega) (by omega)) (K cb wc wl wv wu wm mk ma cu ck M)
    · exact br_t (nI_le (by omega) (by omega)) (K sz pl su ma T ys_F0)
  | succ d ih =>
    intro kk dn j mc pc lo mv mh hk hj hd W h1 h2
    have hge : ¬ nI L ≤ nI kk := nI_ge (by omega) (by omega)
    rcases Classical.em (mc = 1) with m1 | m1
    · have hpc := h2 m1
      have I := P pc hpc
      have hx := HX pc hpc
      have hy := HY pc hpc
      obtain ⟨fr, F⟩ := gr_fr_ex cl mh
      -- the coin
      obtain ⟨b, hb, hb8, hbc⟩ : ∃ b, b ≤ 1 ∧ (b = 1 → op pc = 8) ∧ (op pc = 8 → b = if bt coins j then 1 else 0) := by
        rcases Nat.decEq (op pc) 8 with z | z
        · exact ⟨0, by omega, fun y => by omega, fun y => absurd y z⟩
        · exact ⟨if bt coins j then 1 else 0, by split <;> omega, fun _ => z, fun _ => rfl⟩
      have hbx : ∀ cb, (∀ i, bt cb i = bt coins (j + i)) → (op pc = 8 → (b = 1 ↔ ¬ cb &&& 1 = 0)) := fun cb hcb e8 => by
        rw [ix_and1, hcb 0, Nat.add_zero, hbc e8]
        cases bt coins j <;> simp
      -- Y's step, with the next coin index
      have ystep : ∀ (post : Int32 → SY → Prop) sz pl su ma, wY_run_88 post (wY_run_28 post coins (nI L) (d + 1)) coins (nI L) (nI dn) (nI (if op pc = 8 then j + 1 else j)) (nI kk) (nI (op pc)) (nI b) (nI fr) (-1) (nI vs) (nI cl) g_lengthLimit g_entryLimit (nI nn) (nI pc) lo mc g_analysis g_count g_gone g_fixed b_prog b_at b_pend sz pl su ma b_num b_newSucc b_newMany →
          yS vs 256 (gr_ms cl mh mv) sz pl su ma → wY_run_28 post coins (nI L) (d + 1 + 1) (nI dn) (nI j) (nI kk) (nI vs) (nI cl) g_lengthLimit g_entryLimit (nI nn) (nI pc) lo mc g_analysis g_count g_gone g_fixed b_prog b_at b_pend sz pl su ma b_num b_newSucc b_newMany := by
        intro post sz pl su ma h T
        have hop := I.1
        refine br_f hge (br_t m1 ?_)
        rw [ix_4b, nI_clamp (by omega), hy.1]
        refine ⟨vp_in_nI (by omega) (by omega), nm_e (yf_free (s := 256) (by omega) (by show cl ≤ 40; omega) (fun u => gr_le41 W.1 u) T F ?_)⟩
        refine pk_eq (op pc) 8 (fun e => nm_r (e' := nI b) ?_ (nm_r (e' := nI (j + 1)) (nI_1 j) ?_)) (fun e => ?_)
        · rw [ix_coin coins (by omega), hbc e]
        · rw [if_pos e] at h; exact h
        · rw [if_neg e] at h
          have : b = 0 := by
            rcases Nat.decEq b 1 with z | z
            · omega
            · exact absurd (hb8 z) e
          rw [this] at h
          exact h
      rcases Classical.em (gr_bad (op pc) (pa pc) (pb pc) (gr_ms cl mh mv)) with bad | nb
      · obtain ⟨rF, mcF, pcF, loF, mvF, mhF, w1, w2, w3, w4, wX, wY⟩ := ih (kk + 1) dn (if op pc = 8 then j + 1 else j) 3 pc lo mv mh (by omega) (by split <;> omega) (by omega) W h1 (fun z => absurd z (by decide))
        have n8 : op pc ≠ 8 := fun z => by rcases bad with y | y <;> omega
        refine ⟨rF, mcF, pcF, loF, mvF, mhF, w1, w2, w3, fun _ => m1, fun cb wc wl wv wu wm mk ma cu ck hcb M post K => ?_, fun sz pl su ma T post K => ?_⟩
        · refine br_f hge (br_t m1 (xq_exec (by omega) hvs hcl hnn hx I W M F (hbx cb hcb) (fun _ => ?_) (fun nb' => absurd bad nb') (fun nb' => absurd bad nb')))
          refine br_t rfl (nm_r (nI_1 kk) ?_)
          exact wX cb wc wl wv wu wm mk ma cu ck (by rw [if_neg n8]; exact hcb) M post K
        · refine ystep post sz pl su ma (ym_88 (by omega) hvs hcl hnn hb hb8 hy I W T F (fun _ => wY sz pl su ma T post K) (fun nb' => absurd bad nb') (fun nb' => absurd bad nb')) T
      · rcases Classical.em (op pc = 2 ∧ fr = cl) with full | nfull
        · obtain ⟨rF, mcF, pcF, loF, mvF, mhF, w1, w2, w3, w4, wX, wY⟩ := ih (kk + 1) dn (if op pc = 8 then j + 1 else j) 4 pc lo mv mh (by omega) (by split <;> omega) (by omega) W h1 (fun z => absurd z (by decide))
          have n8 : op pc ≠ 8 := by omega
          refine ⟨rF, mcF, pcF, loF, mvF, mhF, w1, w2, w3, fun _ => m1, fun cb wc wl wv wu wm mk ma cu ck hcb M post K => ?_, fun sz pl su ma T post K => ?_⟩
          · refine br_f hge (br_t m1 (xq_exec (by omega) hvs hcl hnn hx I W M F (hbx cb hcb) (fun bad => absurd bad nb) (fun _ _ _ => ?_) (fun _ h => absurd (h full.1) (by omega))))
            refine br_t rfl (nm_r (nI_1 kk) ?_)
            exact wX cb wc wl wv wu wm mk ma cu ck (by rw [if_neg n8]; exact hcb) M post K
          · exact ystep post sz pl su ma (ym_88 (by omega) hvs hcl hnn hb hb8 hy I W T F (fun bad => absurd bad nb) (fun _ _ _ => wY sz pl su ma T post K) (fun _ h => absurd (h full.1) (by omega))) T
        · have hfr : fr ≤ cl := by rcases F with z | z <;> omega
          have h2' : op pc = 2 → fr < cl := fun z => by omega
          have W2 := gr_mc_MW (gr_mef I W hcl nb F h2')
          -- where to
          have hq : gr_q (op pc) (pa pc) (pb pc) (pt pc) b pc (gr_ms cl mh mv) ≤ nn := by
            rcases Classical.em (gr_jp (op pc) (pa pc) (pb pc) b (gr_ms cl mh mv)) with z | z
            · rw [gr_q_t z]
              exact hfx pc hpc (by rcases z with z | z | z | z <;> omega)
            · rw [gr_q_f z]; omega
          obtain ⟨mcN, hmc, hmc1⟩ : ∃ mcN : Int32, ((gr_q (op pc) (pa pc) (pb pc) (pt pc) b pc (gr_ms cl mh mv) = nn ∧ mcN = 2) ∨ (gr_q (op pc) (pa pc) (pb pc) (pt pc) b pc (gr_ms cl mh mv) ≠ nn ∧ mcN = mc)) ∧ (mcN = 1 → gr_q (op pc) (pa pc) (pb pc) (pt pc) b pc (gr_ms cl mh mv) < nn) := by
            rcases Nat.decEq (gr_q (op pc) (pa pc) (pb pc) (pt pc) b pc (gr_ms cl mh mv)) nn with z | z
            · exact ⟨mc, Or.inr ⟨z, rfl⟩, fun _ => by omega⟩
            · exact ⟨2, Or.inl ⟨z, rfl⟩, fun y => absurd y (by decide)⟩
          have mcu : ∀ mc' : Int32, ((gr_q (op pc) (pa pc) (pb pc) (pt pc) b pc (gr_ms cl mh mv) = nn ∧ mc' = 2) ∨ (gr_q (op pc) (pa pc) (pb pc) (pt pc) b pc (gr_ms cl mh mv) ≠ nn ∧ mc' = mc)) → mc' = mcN := fun mc' h => by
            rcases h with h | h <;> rcases hmc with h' | h'
            · rw [h.2, h'.2]
            · exact absurd h.1 h'.1
            · exact absurd h'.1 h.1
            · rw [h.2, h'.2]
          obtain ⟨rF, mcF, pcF, loF, mvF, mhF, w1, w2, w3, w4, wX, wY⟩ := ih (kk + 1) (dn + 1) (if op pc = 8 then j + 1 else j) mcN (gr_q (op pc) (pa pc) (pb pc) (pt pc) b pc (gr_ms cl mh mv)) (lo + nI (gr_cn (fun u => gr_mh (op pc) (pa pc) (pb pc) fr cl mh mv u ≠ 41 ∧ ¬ gr_R (gr_mh (op pc) (pa pc) (pb pc) fr cl mh mv) (gr_mv (op pc) (pa pc) (pb pc) fr cl mh mv) vs u) cl)) (gr_mv (op pc) (pa pc) (pb pc) fr cl mh mv) (gr_mc cl vs (gr_mh (op pc) (pa pc) (pb pc) fr cl mh mv) (gr_mv (op pc) (pa pc) (pb pc) fr cl mh mv)) (by omega) (by split <;> omega) (by omega) W2 hq hmc1
          refine ⟨rF, mcF, pcF, loF, mvF, mhF, w1, w2, w3, fun _ => m1, fun cb wc wl wv wu wm mk ma cu ck hcb M post K => ?_, fun sz pl su ma T post K => ?_⟩
          · refine br_f hge (br_t m1 (xq_exec (by omega) hvs hcl hnn hx I W M F (hbx cb hcb) (fun bad => absurd bad nb) (fun _ e1 e2 => absurd ⟨e1, e2⟩ nfull) (fun _ _ cb' wc' wl' wv' wu' wm' mk' ma' cu' ck' mc' c1 c2 M' hm' => ?_)))
            refine br_f (by decide) (nm_r (nI_1 dn) (nm_r (nI_1 kk) ?_))
            rw [mcu mc' hm']
            refine wX cb' wc' wl' wv' wu' wm' mk' ma' cu' ck' (fun i => ?_) M' post K
            rcases Nat.decEq (op pc) 8 with z | z
            · rw [if_neg z, c2 z]; exact hcb i
            · rw [if_pos z, c1 z, ix_sh1, hcb]
              exact congrArg (bt coins) (by omega)
          · refine ystep post sz pl su ma (ym_88 (by omega) hvs hcl hnn hb hb8 hy I W T F (fun bad => absurd bad nb) (fun _ e1 e2 => absurd ⟨e1, e2⟩ nfull) (fun _ _ sz' pl' su' ma' mc' T' F' hm' => ?_)) T
            rw [mcu mc' hm']
            exact wY sz' pl' su' ma' T' post (fun sz2 pl2 su2 ma2 T2 F2 => K sz2 pl2 su2 ma2 T2 (ys_Ft F' F2))
    · refine ⟨nI dn, mc, pc, lo, mv, mh, W, h1, h2, id, fun cb wc wl wv wu wm mk ma cu ck _ M post K => ?_, fun sz pl su ma T post K => ?_⟩
      · exact br_f hge (br_f m1 (K cb wc wl wv wu wm mk ma cu ck M))
      · exact br_f hge (br_f m1 (K sz pl su ma T ys_F0))
end
theorem i_vc_run {k : Nat} {u : SX} {v : SY} (I : i_Rel k u v) (hk : k + 5 ≤ 2564) (v1 : Int32) (v2 : Int32) : wpX_run (fun r u' => wpY_run (fun r' v' => r' = r ∧ i_Rel (k + 5) u' v') v v1 v2) u v1 v2 := by
  refine re_el (P := fun u v => wpX_run (fun r u' => wpY_run (fun r' v' => r' = r ∧ i_Rel (k + 5) u' v') v v1 v2) u v1 v2) I ?_
  intro vs cl ll el nn pc op pa pb pt mv mh A f_fixed f_machine f_lostCount f_coinBits f_outCount f_outLost f_wCount f_workLost f_numbered f_sumMask f_walkCount f_walkSummary f_walkRing g_gone a_opOf a_aOf a_bOf a_tOf a_machineVar a_cellUsed a_cellLink a_tabNodes a_tabSum a_tabVar a_tabSucc a_entPoint a_entPending a_outPoint a_wVar a_wSucc a_wSum a_mark a_head a_preds a_number a_rawNext b_prog b_at b_pend b_size b_place b_succ b_many b_num b_newSucc b_newMany C
  have C' := C
  obtain ⟨hvs, hcl, hll, hel, hnn, hpc, hfx, P, HX, HY, MW, MX, MY, G, XE, YE⟩ := C
  refine br_c (fun z => br_t z ⟨rfl, re_in C'⟩) (fun z => ?_)
  obtain ⟨L, _, hL, cX, cY⟩ := cp_ex v1 0 32 (by omega) (by omega)
  obtain ⟨rF, mcF, pcF, loF, mvF, mhF, w1, w2, w3, w4, wX, wY⟩ := run_ex (L := L) (coins := v2) hvs.2 hcl.2 (show nn ≤ 32 by omega) hL P HX HY (hfx z).2 L 0 0 0 f_machine pc f_lostCount mv mh (by omega) (by omega) (by omega) MW hpc.1 (fun y => (hpc.2 y).2)
  refine cX _ _ (Exists.intro (L + 1) (wX v2 f_wCount f_workLost a_wVar a_wSucc a_wSum a_mark a_machineVar a_cellUsed a_cellLink (fun i => by rw [Nat.zero_add]) MX _ (fun cb' wc' wl' wv' wu' wm' mk' ma' cu' ck' M' => ?_)))
  refine br_f z (cY _ _ (Exists.intro (L + 1) (wY b_size b_place b_succ b_many MY _ (fun sz' pl' su' ma2 T' F' => ⟨rfl, ?_⟩))))
  refine re_in (pc := pcF) (op := op) (pa := pa) (pb := pb) (pt := pt) (mv := mvF) (mh := mhF) (A := A) ⟨hvs, hcl, hll, hel, hnn, ⟨w2, fun y => ⟨z, w3 y⟩⟩, hfx, P, HX, HY, w1, M', T', G, XE, fun e he => ⟨ys_SF hvs.2 ?_ F' ?_ (YE e he).1, (YE e he).2⟩⟩
  · have := (G.2.2 e he).1.1; omega
  · have := G.1; have := G.2.1; omega
end
section
/-! analyse -/
section
variable {vs el nn L : Nat} {op pa pb pt : Nat → Nat}
variable {f_vars f_cells f_lengthLimit f_entryLimit f_count f_fixed f_machine f_machinePc f_lostCount f_coinBits f_analysis f_entryCount f_outCount f_outLost f_wCount f_workLost f_numbered f_sumMask f_walkCount f_walkSummary f_walkRing : Int32} {a_opOf a_aOf a_bOf a_tOf a_machineVar a_cellUsed a_cellLink a_tabNodes a_tabSum a_tabVar a_tabSucc a_entPoint a_entPending a_outPoint a_wVar a_wSucc a_wSum a_mark a_head a_preds a_number a_rawNext : Nat → Int32}
variable {g_cells g_lengthLimit g_pc g_lostCells g_machine g_fixed : Int32} {b_prog : Nat → Int32}
theorem ana_ex (hvs : vs ≤ 3) (hnn : nn ≤ 32) (hL : L ≤ 32) (P : gr_pg vs nn op pa pb pt) (HX : xs_P vs nn op pa pb pt a_opOf a_aOf a_bOf a_tOf) (HY : ys_P nn op pa pb pt b_prog) :
    ∀ d kk dn A, kk + d = L → dn ≤ kk → gE vs el A →
      ∃ rF AF, gE vs el AF ∧
        (∀ oc ol wc wl nb sk tn ts tv tu po wv wu wm mk hd pr nu rn ep eq, xE vs A tn ts tv tu ep eq → ∀ post : Int32 → SX → Prop,
          (∀ oc' ol' wc' wl' nb' sk' tn' ts' tv' tu' po' wv' wu' wm' mk' hd' pr' nu' rn' ep' eq', xE vs AF tn' ts' tv' tu' ep' eq' → post rF (nI vs, f_cells, f_lengthLimit, nI el, nI nn, f_fixed, f_machine, f_machinePc, f_lostCount, f_coinBits, AF.1, nI AF.2.1, oc', ol', wc', wl', nb', sk', f_walkCount, f_walkSummary, f_walkRing, a_opOf, a_aOf, a_bOf, a_tOf, a_machineVar, a_cellUsed, a_cellLink, tn', ts', tv', tu', ep', eq', po', wv', wu', wm', mk', hd', pr', nu', rn')) →
          wX_analyse_24 post (nI L) (d + 1) (nI dn) (nI kk) (nI vs) f_cells f_lengthLimit (nI el) (nI nn) f_fixed f_machine f_machinePc f_lostCount f_coinBits A.1 (nI A.2.1) oc ol wc wl nb sk f_walkCount f_walkSummary f_walkRing a_opOf a_aOf a_bOf a_tOf a_machineVar a_cellUsed a_cellLink tn ts tv tu ep eq po wv wu wm mk hd pr nu rn) ∧
        (∀ gn nu ns nm sz pl su ma at' pe, yE vs A sz pl su ma at' pe → ∀ post : Int32 → SY → Prop,
          (∀ gn2 nu2 ns2 nm2 sz2 pl2 su2 ma2 at2 pe2, yE vs AF sz2 pl2 su2 ma2 at2 pe2 → ys_F6 sz pl su ma sz2 pl2 su2 ma2 → post rF (nI vs, g_cells, g_lengthLimit, nI el, nI nn, g_pc, g_lostCells, g_machine, AF.1, nI AF.2.1, gn2, g_fixed, b_prog, at2, pe2, sz2, pl2, su2, ma2, nu2, ns2, nm2)) →
          wY_analyse_24 post (nI L) (d + 1) (nI dn) (nI kk) (nI vs) g_cells g_lengthLimit (nI el) (nI nn) g_pc g_lostCells g_machine A.1 (nI A.2.1) gn g_fixed b_prog at' pe sz pl su ma nu ns nm) := by
  intro d
  induction d with
  | zero =>
    intro kk dn A hk hd g
    refine ⟨nI dn, A, g, fun oc ol wc wl nb sk tn ts tv tu po wv wu wm mk hd pr nu rn ep eq X post K => ?_, fun gn nu ns nm sz pl su ma at' pe Y post K => ?_⟩
    · exact br_t (nI_le (by omega) (by omega)) (K oc ol wc wl nb sk tn ts tv tu po wv wu wm mk hd pr nu rn ep eq X)
    · exact br_t (nI_le (by omega) (by omega)) (K gn nu ns nm sz pl su ma at' pe Y ys_F60)
  | succ d ih =>
    intro kk dn A hk hd g
    have hge : ¬ nI L ≤ nI kk := nI_ge (by omega) (by omega)
    rcases Classical.em (A.1 = 1) with a1 | a1
    · obtain ⟨A2, ST⟩ := gr_STEP_ex (el := el) hvs hnn P g
      obtain ⟨rF, AF, gF, wX, wY⟩ := ih (kk + 1) (dn + 1) A2 (by omega) (by omega) (gr_STEP_gE hvs hnn P g ST)
      refine ⟨rF, AF, gF, fun oc ol wc wl nb sk tn ts tv tu po wv wu wm mk hd pr nu rn ep eq X post K => ?_, fun gn nu ns nm sz pl su ma at' pe Y post K => ?_⟩
      · refine br_f hge (br_t a1 (xz_step hvs hnn a1 g P HX X ST (fun oc' ol' wc' wl' nb' sk' tn' ts' tv' tu' po' wv' wu' wm' mk' hd' pr' nu' rn' ep' eq' X2 => nm_r (nI_1 dn) (nm_r (nI_1 kk) ?_))))
        exact wX oc' ol' wc' wl' nb' sk' tn' ts' tv' tu' po' wv' wu' wm' mk' hd' pr' nu' rn' ep' eq' X2 post K
      · refine br_f hge (br_t a1 (yz_step hvs hnn a1 g P HY Y ST (fun gn2 nu2 ns2 nm2 sz2 pl2 su2 ma2 at2 pe2 Y2 F2 => ?_)))
        exact wY gn2 nu2 ns2 nm2 sz2 pl2 su2 ma2 at2 pe2 Y2 post (fun gn3 nu3 ns3 nm3 sz3 pl3 su3 ma3 at3 pe3 Y3 F3 => K gn3 nu3 ns3 nm3 sz3 pl3 su3 ma3 at3 pe3 Y3 (ys_F6t F2 F3))
    · refine ⟨nI dn, A, g, fun oc ol wc wl nb sk tn ts tv tu po wv wu wm mk hd pr nu rn ep eq X post K => ?_, fun gn nu ns nm sz pl su ma at' pe Y post K => ?_⟩
      · exact br_f hge (br_f a1 (K oc ol wc wl nb sk tn ts tv tu po wv wu wm mk hd pr nu rn ep eq X))
      · exact br_f hge (br_f a1 (K gn nu ns nm sz pl su ma at' pe Y ys_F60))
end
theorem i_vc_analyse {k : Nat} {u : SX} {v : SY} (I : i_Rel k u v) (hk : k + 5 ≤ 2564) (v1 : Int32) : wpX_analyse (fun r u' => wpY_analyse (fun r' v' => r' = r ∧ i_Rel (k + 5) u' v') v v1) u v1 := by
  refine re_el (P := fun u v => wpX_analyse (fun r u' => wpY_analyse (fun r' v' => r' = r ∧ i_Rel (k + 5) u' v') v v1) u v1) I ?_
  intro vs cl ll el nn pc op pa pb pt mv mh A f_fixed f_machine f_lostCount f_coinBits f_outCount f_outLost f_wCount f_workLost f_numbered f_sumMask f_walkCount f_walkSummary f_walkRing g_gone a_opOf a_aOf a_bOf a_tOf a_machineVar a_cellUsed a_cellLink a_tabNodes a_tabSum a_tabVar a_tabSucc a_entPoint a_entPending a_outPoint a_wVar a_wSucc a_wSum a_mark a_head a_preds a_number a_rawNext b_prog b_at b_pend b_size b_place b_succ b_many b_num b_newSucc b_newMany C
  have C' := C
  obtain ⟨hvs, hcl, hll, hel, hnn, hpc, hfx, P, HX, HY, MW, MX, MY, G, XE, YE⟩ := C
  refine br_c (fun z => br_t z ⟨rfl, re_in C'⟩) (fun z => ?_)
  obtain ⟨L, _, hL, cX, cY⟩ := cp_ex v1 0 32 (by omega) (by omega)
  obtain ⟨rF, AF, gF, wX, wY⟩ := ana_ex (L := L) hvs.2 (show nn ≤ 32 by omega) hL P HX HY L 0 0 A (by omega) (by omega) G
  refine cX _ _ (Exists.intro (L + 1) (wX f_outCount f_outLost f_wCount f_workLost f_numbered f_sumMask a_tabNodes a_tabSum a_tabVar a_tabSucc a_outPoint a_wVar a_wSucc a_wSum a_mark a_head a_preds a_number a_rawNext a_entPoint a_entPending XE _ (fun oc' ol' wc' wl' nb' sk' tn' ts' tv' tu' po' wv' wu' wm' mk' hd' pr' nu' rn' ep' eq' X2 => ?_)))
  refine br_f z (cY _ _ (Exists.intro (L + 1) (wY g_gone b_num b_newSucc b_newMany b_size b_place b_succ b_many b_at b_pend YE _ (fun gn2 nu2 ns2 nm2 sz2 pl2 su2 ma2 at2 pe2 Y2 F2 => ⟨rfl, ?_⟩))))
  exact re_in (pc := pc) (op := op) (pa := pa) (pb := pb) (pt := pt) (mv := mv) (mh := mh) (A := AF) ⟨hvs, hcl, hll, hel, hnn, hpc, hfx, P, HX, HY, MW, MX, ys_F6S hvs.2 (by show cl ≤ 40; omega) F2 MY, gF, X2, Y2⟩
end
section
/-! the slots of structures -/
noncomputable def gr_HS (vs cl : Nat) (mh mv : Nat → Nat) : gr_S := gr_NF vs (gr_ms cl mh mv)
def so_S (A : gr_A) (HS : gr_S) (v1 : Int32) (S : gr_S) : Prop := (v1 = -1 ∧ S = HS) ∨ ∃ j, j < A.2.1 ∧ v1 = nI j ∧ S = A.2.2.1 j
def so_no (A : gr_A) (v1 : Int32) : Prop := ¬ v1 = -1 ∧ (v1 < 0 ∨ nI A.2.1 ≤ v1)
theorem so_no_S {A : gr_A} {HS S : gr_S} {v1 : Int32} (hec : A.2.1 ≤ 256) (h : so_no A v1) (h' : so_S A HS v1 S) : False := by
  rcases h' with ⟨e, _⟩ | ⟨j, hj, e, _⟩
  · exact h.1 e
  · subst e
    rcases h.2 with z | z
    · exact nI_pos (by omega) z
    · exact nI_ge hj (by omega) z
theorem so_S_u {A : gr_A} {HS S S' : gr_S} {v1 : Int32} (hec : A.2.1 ≤ 256) (h : so_S A HS v1 S) (h' : so_S A HS v1 S') : S' = S := by
  rcases h with ⟨e, h⟩ | ⟨j, hj, e, h⟩ <;> rcases h' with ⟨e', h'⟩ | ⟨j', hj', e', h'⟩
  · rw [h, h']
  · rw [e'] at e; exact absurd e (gr_nm1 (by omega))
  · rw [e] at e'; exact absurd e' (gr_nm1 (by omega))
  · rw [e, nI_eq (by omega) (by omega)] at e'
    subst e'
    rw [h, h']
section
variable {vs el cl : Nat} {mv mh : Nat → Nat} {A : gr_A} {v1 : Int32}
variable {f_vars f_cells f_lengthLimit f_entryLimit f_count f_fixed f_machine f_machinePc f_lostCount f_coinBits f_analysis f_entryCount f_outCount f_outLost f_wCount f_workLost f_numbered f_sumMask f_walkCount f_walkSummary f_walkRing : Int32} {a_opOf a_aOf a_bOf a_tOf a_machineVar a_cellUsed a_cellLink a_tabNodes a_tabSum a_tabVar a_tabSucc a_entPoint a_entPending a_outPoint a_wVar a_wSucc a_wSum a_mark a_head a_preds a_number a_rawNext : Nat → Int32}
theorem so_x {BX : Int32 → SX → Prop} (hvs : vs ≤ 3) (hcl : cl ≤ 32) (MW : gr_MW cl vs mh mv) (MX : xs_M vs cl mv mh a_machineVar a_cellUsed a_cellLink) (G : gE vs el A) (XE : xE vs A a_tabNodes a_tabSum a_tabVar a_tabSucc a_entPoint a_entPending)
    (Kno : so_no A v1 → BX (-1) (nI vs, nI cl, f_lengthLimit, f_entryLimit, f_count, f_fixed, f_machine, f_machinePc, f_lostCount, f_coinBits, f_analysis, nI A.2.1, f_outCount, f_outLost, f_wCount, f_workLost, f_numbered, f_sumMask, f_walkCount, f_walkSummary, f_walkRing, a_opOf, a_aOf, a_bOf, a_tOf, a_machineVar, a_cellUsed, a_cellLink, a_tabNodes, a_tabSum, a_tabVar, a_tabSucc, a_entPoint, a_entPending, a_outPoint, a_wVar, a_wSucc, a_wSum, a_mark, a_head, a_preds, a_number, a_rawNext))
    (Kyes : ∀ s S wc wl nb sk tn ts tv tu wv wu wm mk hd pr nu rn, so_S A (gr_HS vs cl mh mv) v1 S → s < 259 → (v1 = -1 ↔ s = 256) → gr_ES vs S → xS vs s S tn ts tv tu → xE vs A tn ts tv tu a_entPoint a_entPending → (∀ s0 S0, (s0 = 256 → ¬ v1 = -1) → S0.1 ≤ 12 → xS vs s0 S0 a_tabNodes a_tabSum a_tabVar a_tabSucc → xS vs s0 S0 tn ts tv tu) →
      BX (nI s) (nI vs, nI cl, f_lengthLimit, f_entryLimit, f_count, f_fixed, f_machine, f_machinePc, f_lostCount, f_coinBits, f_analysis, nI A.2.1, f_outCount, f_outLost, wc, wl, nb, sk, f_walkCount, f_walkSummary, f_walkRing, a_opOf, a_aOf, a_bOf, a_tOf, a_machineVar, a_cellUsed, a_cellLink, tn, ts, tv, tu, a_entPoint, a_entPending, a_outPoint, wv, wu, wm, mk, hd, pr, nu, rn)) :
    wpX_slotOf BX (nI vs, nI cl, f_lengthLimit, f_entryLimit, f_count, f_fixed, f_machine, f_machinePc, f_lostCount, f_coinBits, f_analysis, nI A.2.1, f_outCount, f_outLost, f_wCount, f_workLost, f_numbered, f_sumMask, f_walkCount, f_walkSummary, f_walkRing, a_opOf, a_aOf, a_bOf, a_tOf, a_machineVar, a_cellUsed, a_cellLink, a_tabNodes, a_tabSum, a_tabVar, a_tabSucc, a_entPoint, a_entPending, a_outPoint, a_wVar, a_wSucc, a_wSum, a_mark, a_head, a_preds, a_number, a_rawNext) v1 := by
  have hec : A.2.1 ≤ 256 := by have := G.1; have := G.2.1; omega
  have W := gr_MW_W MW
  by_cases hm : v1 = -1
  · refine br_t hm (xl_heap hcl hvs MX (fun wv wu wm T => ?_))
    dsimp only
    refine x_norm (s := 256) (n := cl) (h := mh) (va := mv) (sm := fun _ => false) (by omega) W hvs T.1 T.2.1 T.2.2 (fun wl nb sk mk hd pr nu rn tn ts tv tu _ hS hF => ?_)
    dsimp only
    refine Kyes 256 (gr_HS vs cl mh mv) (nI cl) wl nb sk tn ts tv tu wv wu wm mk hd pr nu rn (Or.inl ⟨hm, rfl⟩) (by omega) ⟨fun _ => rfl, fun _ => hm⟩ (gr_NF_ES (S := gr_ms cl mh mv) W hvs) hS (fun e he => ?_) (fun s0 S0 h0 hn S => xs_SF hvs hn hF (fun z => h0 z hm) S)
    have := XE e he
    exact ⟨xs_SF hvs (G.2.2 e he).1.1 hF (by omega) this.1, this.2⟩
  · rcases pk_ix v1 (n := A.2.1) (by omega) with h | h | ⟨j, hj, rfl⟩
    · exact br_f hm (br_t h (Kno ⟨hm, Or.inl h⟩))
    · obtain ⟨h1, h2⟩ := ix_ge_n (by omega) h
      exact br_f hm (br_f h1 (br_f h2 (Kno ⟨hm, Or.inr h⟩)))
    · refine br_f hm (br_f (nI_pos (by omega)) (br_t (nI_lt hj (by omega)) ?_))
      exact Kyes j (A.2.2.1 j) f_wCount f_workLost f_numbered f_sumMask a_tabNodes a_tabSum a_tabVar a_tabSucc a_wVar a_wSucc a_wSum a_mark a_head a_preds a_number a_rawNext (Or.inr ⟨j, hj, rfl, rfl⟩) (by omega) ⟨fun z => absurd z hm, fun z => by omega⟩ (G.2.2 j hj).1 (XE j hj).1 XE (fun s0 S0 _ _ S => S)
end
section
variable {vs el cl : Nat} {mv mh : Nat → Nat} {A : gr_A} {v1 : Int32}
variable {f_vars f_cells f_lengthLimit f_entryLimit f_n f_pc f_lostCells f_machine f_analysis f_count f_gone f_fixed : Int32} {a_prog a_at a_pend a_size a_place a_succ a_many a_num a_newSucc a_newMany : Nat → Int32}
theorem so_y {BY : Int32 → SY → Prop} (hvs : vs ≤ 3) (hcl : cl ≤ 32) (MW : gr_MW cl vs mh mv) (MY : yS vs 256 (gr_ms cl mh mv) a_size a_place a_succ a_many) (G : gE vs el A) (YE : yE vs A a_size a_place a_succ a_many a_at a_pend)
    (Kno : so_no A v1 → BY (-3) (nI vs, f_cells, f_lengthLimit, f_entryLimit, f_n, f_pc, f_lostCells, f_machine, f_analysis, nI A.2.1, f_gone, f_fixed, a_prog, a_at, a_pend, a_size, a_place, a_succ, a_many, a_num, a_newSucc, a_newMany))
    (Kyes : ∀ s S nu ns nm sz pl su ma, so_S A (gr_HS vs cl mh mv) v1 S → s < 259 → (v1 = -1 ↔ s = 257) → gr_ES vs S → yS vs s S sz pl su ma → yE vs A sz pl su ma a_at a_pend → yS vs 256 (gr_ms cl mh mv) sz pl su ma → (∀ s0 S0, (s0 = 257 → ¬ v1 = -1) → S0.1 ≤ 12 → yS vs s0 S0 a_size a_place a_succ a_many → yS vs s0 S0 sz pl su ma) →
      BY (nI s) (nI vs, f_cells, f_lengthLimit, f_entryLimit, f_n, f_pc, f_lostCells, f_machine, f_analysis, nI A.2.1, f_gone, f_fixed, a_prog, a_at, a_pend, sz, pl, su, ma, nu, ns, nm)) :
    wpY_slot BY (nI vs, f_cells, f_lengthLimit, f_entryLimit, f_n, f_pc, f_lostCells, f_machine, f_analysis, nI A.2.1, f_gone, f_fixed, a_prog, a_at, a_pend, a_size, a_place, a_succ, a_many, a_num, a_newSucc, a_newMany) v1 := by
  have hec : A.2.1 ≤ 256 := by have := G.1; have := G.2.1; omega
  have W := gr_MW_W MW
  by_cases hm : v1 = -1
  · have h1 : ¬ v1 < -1 := by rw [hm]; decide
    have h2 : v1 < nI A.2.1 := by rw [hm]; exact ix_m1_lt (by omega)
    refine br_f h1 (br_t h2 (br_t hm (yy_ok (p := 256) (q := 257) (S := gr_ms cl mh mv) (by omega) (by omega) (by omega) hvs (by show cl ≤ 40; omega) MY (fun sz pl su ma T F => ?_))))
    dsimp only
    refine y_norm (s := 257) (by omega) hvs (n := cl) (h := mh) (va := mv) (sm := fun _ => false) W T (fun nu ns nm sz2 pl2 su2 ma2 T2 F2 => ?_)
    dsimp only
    have FF := ys_Ft F F2
    exact Kyes 257 (gr_HS vs cl mh mv) nu ns nm sz2 pl2 su2 ma2 (Or.inl ⟨hm, rfl⟩) (by omega) ⟨fun _ => rfl, fun _ => hm⟩ (gr_NF_ES (S := gr_ms cl mh mv) W hvs) T2 (yE_F hvs G (by omega) FF YE) (ys_SF hvs (by show cl ≤ 40; omega) FF (by omega) MY) (fun s0 S0 h0 hn S => ys_SF hvs (by omega) FF (fun z => h0 z hm) S)
  · rcases pk_ix v1 (n := A.2.1) (by omega) with h | h | ⟨j, hj, rfl⟩
    · exact br_t (ix_neg h hm) (Kno ⟨hm, Or.inl h⟩)
    · obtain ⟨h1, h2⟩ := ix_ge_n (by omega) h
      exact br_c (fun _ => Kno ⟨hm, Or.inr h⟩) (fun _ => br_f h2 (Kno ⟨hm, Or.inr h⟩))
    · refine br_f (ix_nI_m1 (by omega)) (br_t (nI_lt hj (by omega)) (br_f hm ?_))
      exact Kyes j (A.2.2.1 j) a_num a_newSucc a_newMany a_size a_place a_succ a_many (Or.inr ⟨j, hj, rfl, rfl⟩) (by omega) ⟨fun z => absurd z hm, fun z => by omega⟩ (G.2.2 j hj).1 (YE j hj).1 YE MY (fun s0 S0 _ _ S => S)
theorem so_n0 {post : Int32 → Prop} {w : Int32} (K : post 1) : wpY_no post (f_vars, f_cells, f_lengthLimit, f_entryLimit, f_n, f_pc, f_lostCells, f_machine, f_analysis, f_count, f_gone, f_fixed, a_prog, a_at, a_pend, a_size, a_place, a_succ, a_many, a_num, a_newSucc, a_newMany) (-3) w := br_t (by decide) K
theorem so_n1 {post : Int32 → Prop} {w : Int32} {s : Nat} {S : gr_S} (hs : s < 259) (hn : S.1 ≤ 12) (T : yS vs s S a_size a_place a_succ a_many) (h : w < 0 ∨ nI S.1 ≤ w) (K : post 1) : wpY_no post (f_vars, f_cells, f_lengthLimit, f_entryLimit, f_n, f_pc, f_lostCells, f_machine, f_analysis, f_count, f_gone, f_fixed, a_prog, a_at, a_pend, a_size, a_place, a_succ, a_many, a_num, a_newSucc, a_newMany) (nI s) w := by
  refine br_f (nI_pos (by omega)) ?_
  by_cases h0 : w < 0
  · exact br_t h0 K
  · have h1 : nI S.1 ≤ w := h.elim (fun z => absurd z h0) id
    refine br_f h0 ⟨vp_in_nI hs (by omega), ?_⟩
    rw [nI_clamp (by omega), T.1]
    exact br_f (Int32.not_lt.mpr h1) K
theorem so_n2 {post : Int32 → Prop} {s j : Nat} {S : gr_S} (hs : s < 259) (hn : S.1 ≤ 12) (T : yS vs s S a_size a_place a_succ a_many) (hj : j < S.1) (K : post 0) : wpY_no post (f_vars, f_cells, f_lengthLimit, f_entryLimit, f_n, f_pc, f_lostCells, f_machine, f_analysis, f_count, f_gone, f_fixed, a_prog, a_at, a_pend, a_size, a_place, a_succ, a_many, a_num, a_newSucc, a_newMany) (nI s) (nI j) := by
  refine br_f (nI_pos (by omega)) (br_f (nI_pos (by omega)) ⟨vp_in_nI hs (by omega), ?_⟩)
  rw [nI_clamp (by omega), T.1]
  exact br_t (nI_lt hj (by omega)) K
end
end
section
/-! questions on one structure -/
theorem i_vc_nodes {k : Nat} {u : SX} {v : SY} (I : i_Rel k u v) (hk : k + 5 ≤ 2564) (v1 : Int32) : wpX_nodes (fun r u' => wpY_nodes (fun r' v' => r' = r ∧ i_Rel (k + 5) u' v') v v1) u v1 := by
  refine re_el (P := fun u v => wpX_nodes (fun r u' => wpY_nodes (fun r' v' => r' = r ∧ i_Rel (k + 5) u' v') v v1) u v1) I ?_
  intro vs cl ll el nn pc op pa pb pt mv mh A f_fixed f_machine f_lostCount f_coinBits f_outCount f_outLost f_wCount f_workLost f_numbered f_sumMask f_walkCount f_walkSummary f_walkRing g_gone a_opOf a_aOf a_bOf a_tOf a_machineVar a_cellUsed a_cellLink a_tabNodes a_tabSum a_tabVar a_tabSucc a_entPoint a_entPending a_outPoint a_wVar a_wSucc a_wSum a_mark a_head a_preds a_number a_rawNext b_prog b_at b_pend b_size b_place b_succ b_many b_num b_newSucc b_newMany C
  have C' := C
  obtain ⟨hvs, hcl, hll, hel, hnn, hpc, hfx, P, HX, HY, MW, MX, MY, G, XE, YE⟩ := C
  have hec : A.2.1 ≤ 256 := by have := G.1; have := G.2.1; omega
  unfold wpX_nodes
  dsimp only
  refine so_x hvs.2 hcl.2 MW MX G XE (fun no => ?_) (fun s S wc wl nb sk tn ts tv tu wv wu wm mk hd pr nu rn hS hs hm ES T XE2 _ => ?_)
  · dsimp only
    refine br_t rfl ?_
    unfold wpY_nodes
    dsimp only
    refine so_y hvs.2 hcl.2 MW MY G YE (fun _ => ?_) (fun s S nu2 ns2 nm2 sz pl su ma hS _ _ _ _ _ _ _ => absurd hS (so_no_S hec no))
    exact br_f (by decide) ⟨rfl, re_in C'⟩
  · dsimp only
    rw [nI_clamp (by omega), T.1]
    refine br_f (gr_nm1 (by omega)) ⟨vp_in_nI hs (by omega), ?_⟩
    unfold wpY_nodes
    dsimp only
    refine so_y hvs.2 hcl.2 MW MY G YE (fun no => absurd hS (so_no_S hec no)) (fun s' S' nu2 ns2 nm2 sz pl su ma hS' hs' _ _ T' YE2 MY2 _ => ?_)
    have e := so_S_u hec hS hS'
    subst e
    dsimp only
    rw [nI_clamp (by omega), T'.1]
    exact br_t (nI_pos' (by omega)) ⟨vp_in_nI hs' (by omega), rfl, re_in ⟨hvs, hcl, hll, hel, hnn, hpc, hfx, P, HX, HY, MW, MX, MY2, G, XE2, YE2⟩⟩
theorem i_vc_varNode {k : Nat} {u : SX} {v : SY} (I : i_Rel k u v) (hk : k + 5 ≤ 2564) (v1 : Int32) (v2 : Int32) : wpX_varNode (fun r u' => wpY_varNode (fun r' v' => r' = r ∧ i_Rel (k + 5) u' v') v v1 v2) u v1 v2 := by
  refine re_el (P := fun u v => wpX_varNode (fun r u' => wpY_varNode (fun r' v' => r' = r ∧ i_Rel (k + 5) u' v') v v1 v2) u v1 v2) I ?_
  intro vs cl ll el nn pc op pa pb pt mv mh A f_fixed f_machine f_lostCount f_coinBits f_outCount f_outLost f_wCount f_workLost f_numbered f_sumMask f_walkCount f_walkSummary f_walkRing g_gone a_opOf a_aOf a_bOf a_tOf a_machineVar a_cellUsed a_cellLink a_tabNodes a_tabSum a_tabVar a_tabSucc a_entPoint a_entPending a_outPoint a_wVar a_wSucc a_wSum a_mark a_head a_preds a_number a_rawNext b_prog b_at b_pend b_size b_place b_succ b_many b_num b_newSucc b_newMany C
  have C' := C
  obtain ⟨hvs, hcl, hll, hel, hnn, hpc, hfx, P, HX, HY, MW, MX, MY, G, XE, YE⟩ := C
  have hec : A.2.1 ≤ 256 := by have := G.1; have := G.2.1; omega
  unfold wpX_varNode
  dsimp only
  refine so_x hvs.2 hcl.2 MW MX G XE (fun no => ?_) (fun s S wc wl nb sk tn ts tv tu wv wu wm mk hd pr nu rn hS hs hm ES T XE2 _ => ?_)
  · dsimp only
    refine br_t rfl ?_
    unfold wpY_varNode
    dsimp only
    refine so_y hvs.2 hcl.2 MW MY G YE (fun _ => ?_) (fun s S nu2 ns2 nm2 sz pl su ma hS _ _ _ _ _ _ _ => absurd hS (so_no_S hec no))
    exact br_t (by decide) ⟨rfl, re_in C'⟩
  · dsimp only
    refine br_f (gr_nm1 (by omega)) ?_
    have yy : ∀ z : Int32, ((v2 < 0 ∨ nI vs ≤ v2) ∧ z = -3) ∨ (∃ x, x < vs ∧ v2 = nI x ∧ z = gr_ex (S.2.2.1 x)) → wpY_varNode (fun r' v' => r' = z ∧ i_Rel (k + 5) (nI vs, nI cl, nI ll, nI el, nI nn, f_fixed, f_machine, nI pc, f_lostCount, f_coinBits, A.1, nI A.2.1, f_outCount, f_outLost, wc, wl, nb, sk, f_walkCount, f_walkSummary, f_walkRing, a_opOf, a_aOf, a_bOf, a_tOf, a_machineVar, a_cellUsed, a_cellLink, tn, ts, tv, tu, a_entPoint, a_entPending, a_outPoint, wv, wu, wm, mk, hd, pr, nu, rn) v') (nI vs, nI cl, nI ll, nI el, nI nn, nI pc, f_lostCount, f_machine, A.1, nI A.2.1, g_gone, f_fixed, b_prog, b_at, b_pend, b_size, b_place, b_succ, b_many, b_num, b_newSucc, b_newMany) v1 v2 := by
      intro z hz
      unfold wpY_varNode
      dsimp only
      refine so_y hvs.2 hcl.2 MW MY G YE (fun no => absurd hS (so_no_S hec no)) (fun s' S' nu2 ns2 nm2 sz pl su ma hS' hs' _ _ T' YE2 MY2 _ => ?_)
      have e := so_S_u hec hS hS'
      subst e
      dsimp only
      have R := re_in (k := k + 5) (f_lostCount := f_lostCount) (f_coinBits := f_coinBits) (f_outCount := f_outCount) (f_outLost := f_outLost) (f_wCount := wc) (f_workLost := wl) (f_numbered := nb) (f_sumMask := sk) (f_walkCount := f_walkCount) (f_walkSummary := f_walkSummary) (f_walkRing := f_walkRing) (g_gone := g_gone) (a_outPoint := a_outPoint) (a_wVar := wv) (a_wSucc := wu) (a_wSum := wm) (a_mark := mk) (a_head := hd) (a_preds := pr) (a_number := nu) (a_rawNext := rn) (b_num := nu2) (b_newSucc := ns2) (b_newMany := nm2) ⟨hvs, hcl, hll, hel, hnn, hpc, hfx, P, HX, HY, MW, MX, MY2, G, XE2, YE2⟩
      refine br_f (nI_pos (by omega)) ?_
      rcases hz with ⟨h, rfl⟩ | ⟨x, hx, rfl, rfl⟩
      · by_cases h0 : v2 < 0
        · exact br_t h0 ⟨rfl, R⟩
        · exact br_f h0 (br_f (Int32.not_lt.mpr (h.elim (fun z => absurd z h0) id)) ⟨rfl, R⟩)
      · rw [ix_3, nI_clamp (by omega), T'.2.1 x hx]
        refine br_f (nI_pos (by omega)) (br_t (nI_lt hx (by omega)) ⟨vp_in_nI (by omega) (by omega), ?_, R⟩)
        exact (gr_ex_en ((gr_E40 ES).2.1 x hx)).symm
    rcases pk_ix v2 (n := vs) (by omega) with h | h | ⟨x, hx, rfl⟩
    · exact br_t h (yy _ (Or.inl ⟨Or.inl h, rfl⟩))
    · obtain ⟨h1, h2⟩ := ix_ge_n (by omega) h
      exact br_f h1 (br_f h2 (yy _ (Or.inl ⟨Or.inr h, rfl⟩)))
    · rw [ix_3, nI_clamp (by omega), T.2.1 x hx]
      exact br_f (nI_pos (by omega)) (br_t (nI_lt hx (by omega)) ⟨vp_in_nI (by omega) (by omega), yy _ (Or.inr ⟨x, hx, rfl, rfl⟩)⟩)
end
section
/-! questions on nodes of one structure -/
def gr_bd (w : Int32) (n : Nat) : Prop := w < 0 ∨ nI n ≤ w
def gr_edge (S : gr_S) (x y : Nat) : Int32 := if S.2.1 x = y then (if (S.2.2.2 x || S.2.2.2 y) then 2 else 1) else if x = y then (if S.2.2.2 x then 2 else 0) else 0
def gr_reach (S : gr_S) (x y : Nat) (z : Int32) : Prop := (x ≠ y → gr_tv z (gr_ld S.2.1 x y)) ∧ (x = y → ((S.2.2.2 x = true ∧ ¬ gr_ld S.2.1 x x → z = 2) ∧ (¬ (S.2.2.2 x = true ∧ ¬ gr_ld S.2.1 x x) → z = 1)))
section
variable {vs s n x : Nat} {h : Nat → Nat}
variable {f_vars f_cells f_lengthLimit f_entryLimit f_count f_fixed f_machine f_machinePc f_lostCount f_coinBits f_analysis f_entryCount f_outCount f_outLost f_wCount f_workLost f_numbered f_sumMask f_walkCount f_walkSummary f_walkRing : Int32} {a_opOf a_aOf a_bOf a_tOf a_machineVar a_cellUsed a_cellLink a_tabNodes a_tabSum a_tabVar a_tabSucc a_entPoint a_entPending a_outPoint a_wVar a_wSucc a_wSum a_mark a_head a_preds a_number a_rawNext : Nat → Int32}
theorem sh_34 {post : Int32 → SX → Prop} (hs : s < 259) (hn : n ≤ 12) (hx : x < 40) (h40 : ∀ u, h u ≤ 40) (hz : a_tabNodes s = nI n) (hU : ∀ u, u < n → a_tabSucc (s * 12 + u) = gr_ex (h u)) (K : ∀ z, gr_tv z (2 ≤ gr_cn (fun w => h w = x) n) → post z (f_vars, f_cells, f_lengthLimit, f_entryLimit, f_count, f_fixed, f_machine, f_machinePc, f_lostCount, f_coinBits, f_analysis, f_entryCount, f_outCount, f_outLost, f_wCount, f_workLost, f_numbered, f_sumMask, f_walkCount, f_walkSummary, f_walkRing, a_opOf, a_aOf, a_bOf, a_tOf, a_machineVar, a_cellUsed, a_cellLink, a_tabNodes, a_tabSum, a_tabVar, a_tabSucc, a_entPoint, a_entPending, a_outPoint, a_wVar, a_wSucc, a_wSum, a_mark, a_head, a_preds, a_number, a_rawNext)) :
    ∀ d i, i + d = n → wX_shared_34 post (nI x) (nI s) f_vars f_cells f_lengthLimit f_entryLimit f_count f_fixed f_machine f_machinePc f_lostCount f_coinBits f_analysis f_entryCount f_outCount f_outLost f_wCount f_workLost f_numbered f_sumMask f_walkCount f_walkSummary f_walkRing a_opOf a_aOf a_bOf a_tOf a_machineVar a_cellUsed a_cellLink a_tabNodes a_tabSum a_tabVar a_tabSucc a_entPoint a_entPending a_outPoint a_wVar a_wSucc a_wSum a_mark a_head a_preds a_number a_rawNext (d + 1) (nI (gr_cn (fun w => h w = x) i)) (nI i) := by
  intro d
  induction d with
  | zero =>
    intro i hi
    have e : i = n := by omega
    subst e
    refine And.intro (vp_in_nI hs (by omega)) ?_
    rw [nI_clamp (by omega), hz]
    have hc := gr_cn_le (fun w => h w = x) i
    refine br_t (nI_le (by omega) (by omega)) (pk_lt (gr_cn (fun w => h w = x) i) 2 (fun z => xi_truth (gr_tv_f id) (K 0 (gr_tv_f (by omega)))) (fun z => xi_truth (gr_tv_t trivial) (K 1 (gr_tv_t z))))
  | succ d ih =>
    intro i hi
    have ih' := ih (i + 1) (by omega)
    simp only [gr_cn] at ih'
    refine And.intro (vp_in_nI hs (by omega)) ?_
    rw [nI_clamp (by omega), hz]
    refine br_f (nI_ge (by omega) (by omega)) ?_
    rw [ix_12, nI_clamp (by omega), hU i (by omega)]
    refine ⟨vp_in_nI (by omega) (by omega), ?_⟩
    rcases Nat.decEq (h i) x with z | z
    · rw [gr_b1_f z] at ih'
      exact br_f (fun e => z (gr_ex_i _ _ (h40 i) (by omega) (e.trans (gr_ex_n hx).symm))) (nm_r (nI_1 i) ih')
    · rw [gr_b1_t z] at ih'
      exact br_t (by rw [z]; exact gr_ex_n hx) (nm_r (nI_1 _) (nm_r (nI_1 i) ih'))
end
theorem i_vc_summary {k : Nat} {u : SX} {v : SY} (I : i_Rel k u v) (hk : k + 5 ≤ 2564) (v1 : Int32) (v2 : Int32) : wpX_summary (fun r u' => wpY_summary (fun r' v' => r' = r ∧ i_Rel (k + 5) u' v') v v1 v2) u v1 v2 := by
  refine re_el (P := fun u v => wpX_summary (fun r u' => wpY_summary (fun r' v' => r' = r ∧ i_Rel (k + 5) u' v') v v1 v2) u v1 v2) I ?_
  intro vs cl ll el nn pc op pa pb pt mv mh A f_fixed f_machine f_lostCount f_coinBits f_outCount f_outLost f_wCount f_workLost f_numbered f_sumMask f_walkCount f_walkSummary f_walkRing g_gone a_opOf a_aOf a_bOf a_tOf a_machineVar a_cellUsed a_cellLink a_tabNodes a_tabSum a_tabVar a_tabSucc a_entPoint a_entPending a_outPoint a_wVar a_wSucc a_wSum a_mark a_head a_preds a_number a_rawNext b_prog b_at b_pend b_size b_place b_succ b_many b_num b_newSucc b_newMany C
  have C' := C
  obtain ⟨hvs, hcl, hll, hel, hnn, hpc, hfx, P, HX, HY, MW, MX, MY, G, XE, YE⟩ := C
  have hec : A.2.1 ≤ 256 := by have := G.1; have := G.2.1; omega
  unfold wpX_summary
  dsimp only
  refine so_x hvs.2 hcl.2 MW MX G XE (fun no => ?_) (fun s S wc wl nb sk tn ts tv tu wv wu wm mk hd pr nu rn hS hs hm ES T XE2 _ => ?_)
  · dsimp only
    refine br_t rfl ?_
    unfold wpY_summary
    dsimp only
    refine so_y hvs.2 hcl.2 MW MY G YE (fun _ => ?_) (fun s S nu2 ns2 nm2 sz pl su ma hS _ _ _ _ _ _ _ => absurd hS (so_no_S hec no))
    exact so_n0 (br_f (by decide) ⟨rfl, re_in C'⟩)
  · dsimp only
    have hn := ES.1
    refine br_f (gr_nm1 (by omega)) ?_
    have yy : ∀ z : Int32, (gr_bd v2 S.1 ∧ z = -3) ∨ (∃ x, x < S.1 ∧ v2 = nI x ∧ z = gr_b (S.2.2.2 x)) → wpY_summary (fun r' v' => r' = z ∧ i_Rel (k + 5) (nI vs, nI cl, nI ll, nI el, nI nn, f_fixed, f_machine, nI pc, f_lostCount, f_coinBits, A.1, nI A.2.1, f_outCount, f_outLost, wc, wl, nb, sk, f_walkCount, f_walkSummary, f_walkRing, a_opOf, a_aOf, a_bOf, a_tOf, a_machineVar, a_cellUsed, a_cellLink, tn, ts, tv, tu, a_entPoint, a_entPending, a_outPoint, wv, wu, wm, mk, hd, pr, nu, rn) v') (nI vs, nI cl, nI ll, nI el, nI nn, nI pc, f_lostCount, f_machine, A.1, nI A.2.1, g_gone, f_fixed, b_prog, b_at, b_pend, b_size, b_place, b_succ, b_many, b_num, b_newSucc, b_newMany) v1 v2 := by
      intro z hz
      unfold wpY_summary
      dsimp only
      refine so_y hvs.2 hcl.2 MW MY G YE (fun no => absurd hS (so_no_S hec no)) (fun s' S' nu2 ns2 nm2 sz pl su ma hS' hs' _ _ T' YE2 MY2 _ => ?_); have e := so_S_u hec hS hS'; subst e; dsimp only
      rcases hz with ⟨h, rfl⟩ | ⟨x, hx, rfl, rfl⟩
      · exact so_n1 hs' hn T' h (br_f (by decide) ⟨rfl, re_in ⟨hvs, hcl, hll, hel, hnn, hpc, hfx, P, HX, HY, MW, MX, MY2, G, XE2, YE2⟩⟩)
      · refine so_n2 hs' hn T' hx (br_t rfl ?_)
        rw [ix_40, nI_clamp (by omega), T'.2.2.2 x hx]
        refine ⟨vp_in_nI (by omega) (by omega), ?_⟩
        cases hb : S'.2.2.2 x
        · exact br_t rfl ⟨rfl, re_in ⟨hvs, hcl, hll, hel, hnn, hpc, hfx, P, HX, HY, MW, MX, MY2, G, XE2, YE2⟩⟩
        · exact br_f (by decide) ⟨rfl, re_in ⟨hvs, hcl, hll, hel, hnn, hpc, hfx, P, HX, HY, MW, MX, MY2, G, XE2, YE2⟩⟩
    rcases pk_ix v2 (n := S.1) (by omega) with h | h | ⟨x, hx, rfl⟩
    · exact br_t h (yy _ (Or.inl ⟨Or.inl h, rfl⟩))
    · obtain ⟨h1, h2⟩ := ix_ge_n (by omega) h
      refine br_f h1 ⟨vp_in_nI hs (by omega), ?_⟩
      rw [nI_clamp (by omega), T.1]
      exact br_f h2 (yy _ (Or.inl ⟨Or.inr h, rfl⟩))
    · refine br_f (nI_pos (by omega)) ⟨vp_in_nI hs (by omega), ?_⟩
      rw [nI_clamp (show s < 2 ^ 31 by omega), T.1]
      refine br_t (nI_lt hx (by omega)) (xi_sum hs ES T hx ?_)
      exact xi_truth (gr_b_tv _) (yy _ (Or.inr ⟨x, hx, rfl, rfl⟩))
theorem i_vc_cyclic {k : Nat} {u : SX} {v : SY} (I : i_Rel k u v) (hk : k + 5 ≤ 2564) (v1 : Int32) (v2 : Int32) : wpX_cyclic (fun r u' => wpY_cyclic (fun r' v' => r' = r ∧ i_Rel (k + 5) u' v') v v1 v2) u v1 v2 := by
  refine re_el (P := fun u v => wpX_cyclic (fun r u' => wpY_cyclic (fun r' v' => r' = r ∧ i_Rel (k + 5) u' v') v v1 v2) u v1 v2) I ?_
  intro vs cl ll el nn pc op pa pb pt mv mh A f_fixed f_machine f_lostCount f_coinBits f_outCount f_outLost f_wCount f_workLost f_numbered f_sumMask f_walkCount f_walkSummary f_walkRing g_gone a_opOf a_aOf a_bOf a_tOf a_machineVar a_cellUsed a_cellLink a_tabNodes a_tabSum a_tabVar a_tabSucc a_entPoint a_entPending a_outPoint a_wVar a_wSucc a_wSum a_mark a_head a_preds a_number a_rawNext b_prog b_at b_pend b_size b_place b_succ b_many b_num b_newSucc b_newMany C
  have C' := C
  obtain ⟨hvs, hcl, hll, hel, hnn, hpc, hfx, P, HX, HY, MW, MX, MY, G, XE, YE⟩ := C
  have hec : A.2.1 ≤ 256 := by have := G.1; have := G.2.1; omega
  unfold wpX_cyclic
  dsimp only
  refine so_x hvs.2 hcl.2 MW MX G XE (fun no => ?_) (fun s S wc wl nb sk tn ts tv tu wv wu wm mk hd pr nu rn hS hs hm ES T XE2 _ => ?_)
  · dsimp only
    refine br_t rfl ?_
    unfold wpY_cyclic
    dsimp only
    refine so_y hvs.2 hcl.2 MW MY G YE (fun _ => ?_) (fun s S nu2 ns2 nm2 sz pl su ma hS _ _ _ _ _ _ _ => absurd hS (so_no_S hec no))
    exact so_n0 (br_f (by decide) ⟨rfl, re_in C'⟩)
  · dsimp only
    have hn := ES.1
    refine br_f (gr_nm1 (by omega)) ?_
    have yy : ∀ z : Int32, (gr_bd v2 S.1 ∧ z = -3) ∨ (∃ x, x < S.1 ∧ v2 = nI x ∧ gr_tv z (gr_ld S.2.1 x x)) → wpY_cyclic (fun r' v' => r' = z ∧ i_Rel (k + 5) (nI vs, nI cl, nI ll, nI el, nI nn, f_fixed, f_machine, nI pc, f_lostCount, f_coinBits, A.1, nI A.2.1, f_outCount, f_outLost, wc, wl, nb, sk, f_walkCount, f_walkSummary, f_walkRing, a_opOf, a_aOf, a_bOf, a_tOf, a_machineVar, a_cellUsed, a_cellLink, tn, ts, tv, tu, a_entPoint, a_entPending, a_outPoint, wv, wu, wm, mk, hd, pr, nu, rn) v') (nI vs, nI cl, nI ll, nI el, nI nn, nI pc, f_lostCount, f_machine, A.1, nI A.2.1, g_gone, f_fixed, b_prog, b_at, b_pend, b_size, b_place, b_succ, b_many, b_num, b_newSucc, b_newMany) v1 v2 := by
      intro z hz
      unfold wpY_cyclic
      dsimp only
      refine so_y hvs.2 hcl.2 MW MY G YE (fun no => absurd hS (so_no_S hec no)) (fun s' S' nu2 ns2 nm2 sz pl su ma hS' hs' _ _ T' YE2 MY2 _ => ?_); have e := so_S_u hec hS hS'; subst e; dsimp only
      rcases hz with ⟨h, rfl⟩ | ⟨x, hx, rfl, hz⟩
      · exact so_n1 hs' hn T' h (br_f (by decide) ⟨rfl, re_in ⟨hvs, hcl, hll, hel, hnn, hpc, hfx, P, HX, HY, MW, MX, MY2, G, XE2, YE2⟩⟩)
      · refine so_n2 hs' hn T' hx (br_t rfl (yl_ok hs' (gr_E_G ES) T'.2.2.1 hx (by omega) (fun r hr => ?_)))
        have er := gr_tv_u hr hz
        subst er
        rcases hr with ⟨rfl, q⟩ | ⟨rfl, q⟩
        · exact br_t rfl ⟨rfl, re_in ⟨hvs, hcl, hll, hel, hnn, hpc, hfx, P, HX, HY, MW, MX, MY2, G, XE2, YE2⟩⟩
        · exact br_f (by decide) ⟨rfl, re_in ⟨hvs, hcl, hll, hel, hnn, hpc, hfx, P, HX, HY, MW, MX, MY2, G, XE2, YE2⟩⟩
    rcases pk_ix v2 (n := S.1) (by omega) with h | h | ⟨x, hx, rfl⟩
    · exact br_t h (yy _ (Or.inl ⟨Or.inl h, rfl⟩))
    · obtain ⟨h1, h2⟩ := ix_ge_n (by omega) h
      refine br_f h1 ⟨vp_in_nI hs (by omega), ?_⟩
      rw [nI_clamp (by omega), T.1]
      exact br_f h2 (yy _ (Or.inl ⟨Or.inr h, rfl⟩))
    · refine br_f (nI_pos (by omega)) ⟨vp_in_nI hs (by omega), ?_⟩
      rw [nI_clamp (show s < 2 ^ 31 by omega), T.1]
      refine br_t (nI_lt hx (by omega)) (xd_ok hs ES T hx (by omega) (fun r hr => ?_))
      exact xi_truth hr (yy _ (Or.inr ⟨x, hx, rfl, hr⟩))
theorem i_vc_shared {k : Nat} {u : SX} {v : SY} (I : i_Rel k u v) (hk : k + 5 ≤ 2564) (v1 : Int32) (v2 : Int32) : wpX_shared (fun r u' => wpY_shared (fun r' v' => r' = r ∧ i_Rel (k + 5) u' v') v v1 v2) u v1 v2 := by
  refine re_el (P := fun u v => wpX_shared (fun r u' => wpY_shared (fun r' v' => r' = r ∧ i_Rel (k + 5) u' v') v v1 v2) u v1 v2) I ?_
  intro vs cl ll el nn pc op pa pb pt mv mh A f_fixed f_machine f_lostCount f_coinBits f_outCount f_outLost f_wCount f_workLost f_numbered f_sumMask f_walkCount f_walkSummary f_walkRing g_gone a_opOf a_aOf a_bOf a_tOf a_machineVar a_cellUsed a_cellLink a_tabNodes a_tabSum a_tabVar a_tabSucc a_entPoint a_entPending a_outPoint a_wVar a_wSucc a_wSum a_mark a_head a_preds a_number a_rawNext b_prog b_at b_pend b_size b_place b_succ b_many b_num b_newSucc b_newMany C
  have C' := C
  obtain ⟨hvs, hcl, hll, hel, hnn, hpc, hfx, P, HX, HY, MW, MX, MY, G, XE, YE⟩ := C
  have hec : A.2.1 ≤ 256 := by have := G.1; have := G.2.1; omega
  unfold wpX_shared
  dsimp only
  refine so_x hvs.2 hcl.2 MW MX G XE (fun no => ?_) (fun s S wc wl nb sk tn ts tv tu wv wu wm mk hd pr nu rn hS hs hm ES T XE2 _ => ?_)
  · dsimp only
    refine br_t rfl ?_
    unfold wpY_shared
    dsimp only
    refine so_y hvs.2 hcl.2 MW MY G YE (fun _ => ?_) (fun s S nu2 ns2 nm2 sz pl su ma hS _ _ _ _ _ _ _ => absurd hS (so_no_S hec no))
    exact so_n0 (br_f (by decide) ⟨rfl, re_in C'⟩)
  · dsimp only
    have hn := ES.1
    refine br_f (gr_nm1 (by omega)) ?_
    have yy : ∀ z : Int32, (gr_bd v2 S.1 ∧ z = -3) ∨ (∃ x, x < S.1 ∧ v2 = nI x ∧ gr_tv z (2 ≤ gr_cn (fun w => S.2.1 w = x) S.1)) → wpY_shared (fun r' v' => r' = z ∧ i_Rel (k + 5) (nI vs, nI cl, nI ll, nI el, nI nn, f_fixed, f_machine, nI pc, f_lostCount, f_coinBits, A.1, nI A.2.1, f_outCount, f_outLost, wc, wl, nb, sk, f_walkCount, f_walkSummary, f_walkRing, a_opOf, a_aOf, a_bOf, a_tOf, a_machineVar, a_cellUsed, a_cellLink, tn, ts, tv, tu, a_entPoint, a_entPending, a_outPoint, wv, wu, wm, mk, hd, pr, nu, rn) v') (nI vs, nI cl, nI ll, nI el, nI nn, nI pc, f_lostCount, f_machine, A.1, nI A.2.1, g_gone, f_fixed, b_prog, b_at, b_pend, b_size, b_place, b_succ, b_many, b_num, b_newSucc, b_newMany) v1 v2 := by
      intro z hz
      unfold wpY_shared
      dsimp only
      refine so_y hvs.2 hcl.2 MW MY G YE (fun no => absurd hS (so_no_S hec no)) (fun s' S' nu2 ns2 nm2 sz pl su ma hS' hs' _ _ T' YE2 MY2 _ => ?_); have e := so_S_u hec hS hS'; subst e; dsimp only
      rcases hz with ⟨h, rfl⟩ | ⟨x, hx, rfl, hz⟩
      · exact so_n1 hs' hn T' h (br_f (by decide) ⟨rfl, re_in ⟨hvs, hcl, hll, hel, hnn, hpc, hfx, P, HX, HY, MW, MX, MY2, G, XE2, YE2⟩⟩)
      · have hc := gr_cn_le (fun w => S'.2.1 w = x) S'.1
        refine so_n2 hs' hn T' hx (br_t rfl (yb_ok hs' (by omega) T'.1 (fun u _ => by have := (gr_E40 ES).1 u; omega) T'.2.2.1 (by omega) ?_))
        refine pk_lt (gr_cn (fun w => S'.2.1 w = x) S'.1) 2 (fun y => ⟨?_, re_in ⟨hvs, hcl, hll, hel, hnn, hpc, hfx, P, HX, HY, MW, MX, MY2, G, XE2, YE2⟩⟩) (fun y => ⟨?_, re_in ⟨hvs, hcl, hll, hel, hnn, hpc, hfx, P, HX, HY, MW, MX, MY2, G, XE2, YE2⟩⟩)
        · exact gr_tv_u hz (gr_tv_f (by omega))
        · exact gr_tv_u hz (gr_tv_t y)
    rcases pk_ix v2 (n := S.1) (by omega) with h | h | ⟨x, hx, rfl⟩
    · exact br_t h (yy _ (Or.inl ⟨Or.inl h, rfl⟩))
    · obtain ⟨h1, h2⟩ := ix_ge_n (by omega) h
      refine br_f h1 ⟨vp_in_nI hs (by omega), ?_⟩
      rw [nI_clamp (by omega), T.1]
      exact br_f h2 (yy _ (Or.inl ⟨Or.inr h, rfl⟩))
    · refine br_f (nI_pos (by omega)) ⟨vp_in_nI hs (by omega), ?_⟩
      rw [nI_clamp (show s < 2 ^ 31 by omega), T.1]
      refine br_t (nI_lt hx (by omega)) (Exists.intro (S.1 + 1) ?_)
      exact sh_34 (h := S.2.1) hs hn (by omega) (gr_E40 ES).1 T.1 T.2.2.1 (fun z hz => yy z (Or.inr ⟨x, hx, rfl, hz⟩)) S.1 0 (by omega)
theorem i_vc_edge {k : Nat} {u : SX} {v : SY} (I : i_Rel k u v) (hk : k + 5 ≤ 2564) (v1 : Int32) (v2 : Int32) (v3 : Int32) : wpX_edge (fun r u' => wpY_edge (fun r' v' => r' = r ∧ i_Rel (k + 5) u' v') v v1 v2 v3) u v1 v2 v3 := by
  refine re_el (P := fun u v => wpX_edge (fun r u' => wpY_edge (fun r' v' => r' = r ∧ i_Rel (k + 5) u' v') v v1 v2 v3) u v1 v2 v3) I ?_
  intro vs cl ll el nn pc op pa pb pt mv mh A f_fixed f_machine f_lostCount f_coinBits f_outCount f_outLost f_wCount f_workLost f_numbered f_sumMask f_walkCount f_walkSummary f_walkRing g_gone a_opOf a_aOf a_bOf a_tOf a_machineVar a_cellUsed a_cellLink a_tabNodes a_tabSum a_tabVar a_tabSucc a_entPoint a_entPending a_outPoint a_wVar a_wSucc a_wSum a_mark a_head a_preds a_number a_rawNext b_prog b_at b_pend b_size b_place b_succ b_many b_num b_newSucc b_newMany C
  have C' := C
  obtain ⟨hvs, hcl, hll, hel, hnn, hpc, hfx, P, HX, HY, MW, MX, MY, G, XE, YE⟩ := C
  have hec : A.2.1 ≤ 256 := by have := G.1; have := G.2.1; omega
  unfold wpX_edge
  dsimp only
  refine so_x hvs.2 hcl.2 MW MX G XE (fun no => ?_) (fun s S wc wl nb sk tn ts tv tu wv wu wm mk hd pr nu rn hS hs hm ES T XE2 _ => ?_)
  · dsimp only
    refine br_t rfl ?_
    unfold wpY_edge
    dsimp only
    refine so_y hvs.2 hcl.2 MW MY G YE (fun _ => ?_) (fun s S nu2 ns2 nm2 sz pl su ma hS _ _ _ _ _ _ _ => absurd hS (so_no_S hec no))
    exact so_n0 (br_f (by decide) ⟨rfl, re_in C'⟩)
  · dsimp only
    have hn := ES.1
    refine br_f (gr_nm1 (by omega)) ?_
    have yy : ∀ z : Int32, (gr_bd v2 S.1 ∧ z = -3) ∨ (∃ x, x < S.1 ∧ v2 = nI x ∧ gr_bd v3 S.1 ∧ z = -3) ∨ (∃ x y, x < S.1 ∧ y < S.1 ∧ v2 = nI x ∧ v3 = nI y ∧ z = gr_edge S x y) → wpY_edge (fun r' v' => r' = z ∧ i_Rel (k + 5) (nI vs, nI cl, nI ll, nI el, nI nn, f_fixed, f_machine, nI pc, f_lostCount, f_coinBits, A.1, nI A.2.1, f_outCount, f_outLost, wc, wl, nb, sk, f_walkCount, f_walkSummary, f_walkRing, a_opOf, a_aOf, a_bOf, a_tOf, a_machineVar, a_cellUsed, a_cellLink, tn, ts, tv, tu, a_entPoint, a_entPending, a_outPoint, wv, wu, wm, mk, hd, pr, nu, rn) v') (nI vs, nI cl, nI ll, nI el, nI nn, nI pc, f_lostCount, f_machine, A.1, nI A.2.1, g_gone, f_fixed, b_prog, b_at, b_pend, b_size, b_place, b_succ, b_many, b_num, b_newSucc, b_newMany) v1 v2 v3 := by
      intro z hz
      unfold wpY_edge
      dsimp only
      refine so_y hvs.2 hcl.2 MW MY G YE (fun no => absurd hS (so_no_S hec no)) (fun s' S' nu2 ns2 nm2 sz pl su ma hS' hs' _ _ T' YE2 MY2 _ => ?_); have e := so_S_u hec hS hS'; subst e; dsimp only
      rcases hz with ⟨h, rfl⟩ | ⟨x, hx, rfl, h, rfl⟩ | ⟨x, y, hx, hy, rfl, rfl, hz⟩
      · exact so_n1 hs' hn T' h (br_f (by decide) ⟨rfl, re_in ⟨hvs, hcl, hll, hel, hnn, hpc, hfx, P, HX, HY, MW, MX, MY2, G, XE2, YE2⟩⟩)
      · exact so_n2 hs' hn T' hx (br_t rfl (so_n1 hs' hn T' h (br_f (by decide) ⟨rfl, re_in ⟨hvs, hcl, hll, hel, hnn, hpc, hfx, P, HX, HY, MW, MX, MY2, G, XE2, YE2⟩⟩)))
      · refine so_n2 hs' hn T' hx (br_t rfl (so_n2 hs' hn T' hy (br_t rfl ?_)))
        subst hz
        have h40 := (gr_E40 ES).1 x
        unfold gr_edge
        rw [ix_40, ix_40, nI_clamp (by omega), nI_clamp (by omega), T'.2.2.1 x hx, T'.2.2.2 x hx, T'.2.2.2 y hy]
        refine ⟨vp_in_nI (by omega) (by omega), ?_⟩
        rcases Nat.decEq (S'.2.1 x) y with z | z
        · refine br_f (fun w => z (gr_en_i _ _ (by omega) (by omega) (w.trans (gr_en_n (by omega)).symm))) ?_
          rw [if_neg z]
          refine pk_eq x y (fun w => ?_) (fun w => ?_)
          · rw [if_pos w]
            refine ⟨vp_in_nI (by omega) (by omega), ?_⟩
            cases hb : S'.2.2.2 x
            · exact br_t rfl ⟨rfl, re_in ⟨hvs, hcl, hll, hel, hnn, hpc, hfx, P, HX, HY, MW, MX, MY2, G, XE2, YE2⟩⟩
            · exact br_f (by decide) ⟨rfl, re_in ⟨hvs, hcl, hll, hel, hnn, hpc, hfx, P, HX, HY, MW, MX, MY2, G, XE2, YE2⟩⟩
          · rw [if_neg w]; exact ⟨rfl, re_in ⟨hvs, hcl, hll, hel, hnn, hpc, hfx, P, HX, HY, MW, MX, MY2, G, XE2, YE2⟩⟩
        · refine br_t (by rw [z]; exact gr_en_n (by omega)) ?_
          rw [if_pos z]
          refine ⟨vp_in_nI (by omega) (by omega), ?_⟩
          cases hb : S'.2.2.2 x
          · refine br_t rfl ⟨vp_in_nI (by omega) (by omega), ?_⟩
            cases hb2 : S'.2.2.2 y
            · exact br_t rfl ⟨rfl, re_in ⟨hvs, hcl, hll, hel, hnn, hpc, hfx, P, HX, HY, MW, MX, MY2, G, XE2, YE2⟩⟩
            · exact br_f (by decide) ⟨rfl, re_in ⟨hvs, hcl, hll, hel, hnn, hpc, hfx, P, HX, HY, MW, MX, MY2, G, XE2, YE2⟩⟩
          · exact br_f (by decide) ⟨rfl, re_in ⟨hvs, hcl, hll, hel, hnn, hpc, hfx, P, HX, HY, MW, MX, MY2, G, XE2, YE2⟩⟩
    rcases pk_ix v2 (n := S.1) (by omega) with h | h | ⟨x, hx, rfl⟩
    · exact br_t h (yy _ (Or.inl ⟨Or.inl h, rfl⟩))
    · obtain ⟨h1, h2⟩ := ix_ge_n (by omega) h
      refine br_f h1 ⟨vp_in_nI hs (by omega), ?_⟩
      rw [nI_clamp (by omega), T.1]
      exact br_t h (yy _ (Or.inl ⟨Or.inr h, rfl⟩))
    · refine br_f (nI_pos (by omega)) ⟨vp_in_nI hs (by omega), ?_⟩
      rw [nI_clamp (show s < 2 ^ 31 by omega), T.1]
      refine br_f (nI_ge hx (by omega)) ?_
      rcases pk_ix v3 (n := S.1) (by omega) with h | h | ⟨y, hy, rfl⟩
      · exact br_t h (yy _ (Or.inr (Or.inl ⟨x, hx, rfl, Or.inl h, rfl⟩)))
      · obtain ⟨h1, h2⟩ := ix_ge_n (by omega) h
        exact br_f h1 ⟨vp_in_nI hs (by omega), br_f h2 (yy _ (Or.inr (Or.inl ⟨x, hx, rfl, Or.inr h, rfl⟩)))⟩
      · refine br_f (nI_pos (by omega)) ⟨vp_in_nI hs (by omega), br_t (nI_lt hy (by omega)) ?_⟩
        refine xi_sum hs ES T hx (xi_sum hs ES T hy ?_)
        have fin : ∀ z, z = gr_edge S x y → wpY_edge (fun r' v' => r' = z ∧ i_Rel (k + 5) (nI vs, nI cl, nI ll, nI el, nI nn, f_fixed, f_machine, nI pc, f_lostCount, f_coinBits, A.1, nI A.2.1, f_outCount, f_outLost, wc, wl, nb, sk, f_walkCount, f_walkSummary, f_walkRing, a_opOf, a_aOf, a_bOf, a_tOf, a_machineVar, a_cellUsed, a_cellLink, tn, ts, tv, tu, a_entPoint, a_entPending, a_outPoint, wv, wu, wm, mk, hd, pr, nu, rn) v') (nI vs, nI cl, nI ll, nI el, nI nn, nI pc, f_lostCount, f_machine, A.1, nI A.2.1, g_gone, f_fixed, b_prog, b_at, b_pend, b_size, b_place, b_succ, b_many, b_num, b_newSucc, b_newMany) v1 (nI x) (nI y) := fun z hz => yy z (Or.inr (Or.inr ⟨x, y, hx, hy, rfl, rfl, hz⟩))
        have h40 := (gr_E40 ES).1 x
        unfold gr_edge at fin
        rw [ix_12, nI_clamp (by omega), T.2.2.1 x hx]
        refine ⟨vp_in_nI (by omega) (by omega), ?_⟩
        rcases Nat.decEq (S.2.1 x) y with z | z
        · rw [if_neg z] at fin
          refine br_f (fun w => z (gr_ex_i _ _ h40 (by omega) (w.trans (gr_ex_n (by omega)).symm))) (pk_eq x y (fun w => ?_) (fun w => ?_))
          · rw [if_pos w] at fin
            cases hb : S.2.2.2 x
            · rw [hb] at fin; exact br_t rfl (fin _ rfl)
            · rw [hb] at fin; exact br_f (by decide) (fin _ rfl)
          · rw [if_neg w] at fin; exact fin _ rfl
        · rw [if_pos z] at fin
          refine br_t (by rw [z]; exact gr_ex_n (by omega)) ?_
          cases hb : S.2.2.2 x
          · rw [hb] at fin
            cases hb2 : S.2.2.2 y
            · rw [hb2] at fin; exact br_t rfl (br_t rfl (fin _ rfl))
            · rw [hb2] at fin; exact br_t rfl (br_f (by decide) (fin _ rfl))
          · rw [hb] at fin; exact br_f (by decide) (fin _ rfl)
theorem i_vc_reach {k : Nat} {u : SX} {v : SY} (I : i_Rel k u v) (hk : k + 5 ≤ 2564) (v1 : Int32) (v2 : Int32) (v3 : Int32) : wpX_reach (fun r u' => wpY_reach (fun r' v' => r' = r ∧ i_Rel (k + 5) u' v') v v1 v2 v3) u v1 v2 v3 := by
  refine re_el (P := fun u v => wpX_reach (fun r u' => wpY_reach (fun r' v' => r' = r ∧ i_Rel (k + 5) u' v') v v1 v2 v3) u v1 v2 v3) I ?_
  intro vs cl ll el nn pc op pa pb pt mv mh A f_fixed f_machine f_lostCount f_coinBits f_outCount f_outLost f_wCount f_workLost f_numbered f_sumMask f_walkCount f_walkSummary f_walkRing g_gone a_opOf a_aOf a_bOf a_tOf a_machineVar a_cellUsed a_cellLink a_tabNodes a_tabSum a_tabVar a_tabSucc a_entPoint a_entPending a_outPoint a_wVar a_wSucc a_wSum a_mark a_head a_preds a_number a_rawNext b_prog b_at b_pend b_size b_place b_succ b_many b_num b_newSucc b_newMany C
  have C' := C
  obtain ⟨hvs, hcl, hll, hel, hnn, hpc, hfx, P, HX, HY, MW, MX, MY, G, XE, YE⟩ := C
  have hec : A.2.1 ≤ 256 := by have := G.1; have := G.2.1; omega
  unfold wpX_reach
  dsimp only
  refine so_x hvs.2 hcl.2 MW MX G XE (fun no => ?_) (fun s S wc wl nb sk tn ts tv tu wv wu wm mk hd pr nu rn hS hs hm ES T XE2 _ => ?_)
  · dsimp only
    refine br_t rfl ?_
    unfold wpY_reach
    dsimp only
    refine so_y hvs.2 hcl.2 MW MY G YE (fun _ => ?_) (fun s S nu2 ns2 nm2 sz pl su ma hS _ _ _ _ _ _ _ => absurd hS (so_no_S hec no))
    exact so_n0 (br_f (by decide) ⟨rfl, re_in C'⟩)
  · dsimp only
    have hn := ES.1
    refine br_f (gr_nm1 (by omega)) ?_
    have yy : ∀ z : Int32, (gr_bd v2 S.1 ∧ z = -3) ∨ (∃ x, x < S.1 ∧ v2 = nI x ∧ gr_bd v3 S.1 ∧ z = -3) ∨ (∃ x y, x < S.1 ∧ y < S.1 ∧ v2 = nI x ∧ v3 = nI y ∧ gr_reach S x y z) → wpY_reach (fun r' v' => r' = z ∧ i_Rel (k + 5) (nI vs, nI cl, nI ll, nI el, nI nn, f_fixed, f_machine, nI pc, f_lostCount, f_coinBits, A.1, nI A.2.1, f_outCount, f_outLost, wc, wl, nb, sk, f_walkCount, f_walkSummary, f_walkRing, a_opOf, a_aOf, a_bOf, a_tOf, a_machineVar, a_cellUsed, a_cellLink, tn, ts, tv, tu, a_entPoint, a_entPending, a_outPoint, wv, wu, wm, mk, hd, pr, nu, rn) v') (nI vs, nI cl, nI ll, nI el, nI nn, nI pc, f_lostCount, f_machine, A.1, nI A.2.1, g_gone, f_fixed, b_prog, b_at, b_pend, b_size, b_place, b_succ, b_many, b_num, b_newSucc, b_newMany) v1 v2 v3 := by
      intro z hz
      unfold wpY_reach
      dsimp only
      refine so_y hvs.2 hcl.2 MW MY G YE (fun no => absurd hS (so_no_S hec no)) (fun s' S' nu2 ns2 nm2 sz pl su ma hS' hs' _ _ T' YE2 MY2 _ => ?_); have e := so_S_u hec hS hS'; subst e; dsimp only
      rcases hz with ⟨h, rfl⟩ | ⟨x, hx, rfl, h, rfl⟩ | ⟨x, y, hx, hy, rfl, rfl, hz⟩
      · exact so_n1 hs' hn T' h (br_f (by decide) ⟨rfl, re_in ⟨hvs, hcl, hll, hel, hnn, hpc, hfx, P, HX, HY, MW, MX, MY2, G, XE2, YE2⟩⟩)
      · exact so_n2 hs' hn T' hx (br_t rfl (so_n1 hs' hn T' h (br_f (by decide) ⟨rfl, re_in ⟨hvs, hcl, hll, hel, hnn, hpc, hfx, P, HX, HY, MW, MX, MY2, G, XE2, YE2⟩⟩)))
      · refine so_n2 hs' hn T' hx (br_t rfl (so_n2 hs' hn T' hy (br_t rfl ?_)))
        refine pk_eq x y (fun w => ?_) (fun w => ?_)
        · have hz2 := hz.2 w
          rw [ix_40, nI_clamp (by omega), T'.2.2.2 x hx]
          refine ⟨vp_in_nI (by omega) (by omega), ?_⟩
          cases hb : S'.2.2.2 x
          · exact br_t rfl ⟨(hz2.2 (fun q => by rw [hb] at q; exact absurd q.1 (by decide))).symm, re_in ⟨hvs, hcl, hll, hel, hnn, hpc, hfx, P, HX, HY, MW, MX, MY2, G, XE2, YE2⟩⟩
          · refine br_f (by decide) (yl_ok hs' (gr_E_G ES) T'.2.2.1 hx (by omega) (fun r hr => ?_))
            rcases hr with ⟨rfl, q⟩ | ⟨rfl, q⟩
            · exact br_t rfl ⟨(hz2.1 ⟨hb, q⟩).symm, re_in ⟨hvs, hcl, hll, hel, hnn, hpc, hfx, P, HX, HY, MW, MX, MY2, G, XE2, YE2⟩⟩
            · exact br_f (by decide) ⟨(hz2.2 (fun q2 => q2.2 q)).symm, re_in ⟨hvs, hcl, hll, hel, hnn, hpc, hfx, P, HX, HY, MW, MX, MY2, G, XE2, YE2⟩⟩
        · have hz2 := hz.1 w
          refine yl_ok hs' (gr_E_G ES) T'.2.2.1 hx (by omega) (fun r hr => ?_)
          have er := gr_tv_u hr hz2
          subst er
          rcases hr with ⟨rfl, q⟩ | ⟨rfl, q⟩
          · exact br_t rfl ⟨rfl, re_in ⟨hvs, hcl, hll, hel, hnn, hpc, hfx, P, HX, HY, MW, MX, MY2, G, XE2, YE2⟩⟩
          · exact br_f (by decide) ⟨rfl, re_in ⟨hvs, hcl, hll, hel, hnn, hpc, hfx, P, HX, HY, MW, MX, MY2, G, XE2, YE2⟩⟩
    rcases pk_ix v2 (n := S.1) (by omega) with h | h | ⟨x, hx, rfl⟩
    · exact br_t h (yy _ (Or.inl ⟨Or.inl h, rfl⟩))
    · obtain ⟨h1, h2⟩ := ix_ge_n (by omega) h
      refine br_f h1 ⟨vp_in_nI hs (by omega), ?_⟩
      rw [nI_clamp (by omega), T.1]
      exact br_t h (yy _ (Or.inl ⟨Or.inr h, rfl⟩))
    · refine br_f (nI_pos (by omega)) ⟨vp_in_nI hs (by omega), ?_⟩
      rw [nI_clamp (show s < 2 ^ 31 by omega), T.1]
      refine br_f (nI_ge hx (by omega)) ?_
      rcases pk_ix v3 (n := S.1) (by omega) with h | h | ⟨y, hy, rfl⟩
      · exact br_t h (yy _ (Or.inr (Or.inl ⟨x, hx, rfl, Or.inl h, rfl⟩)))
      · obtain ⟨h1, h2⟩ := ix_ge_n (by omega) h
        exact br_f h1 ⟨vp_in_nI hs (by omega), br_f h2 (yy _ (Or.inr (Or.inl ⟨x, hx, rfl, Or.inr h, rfl⟩)))⟩
      · refine br_f (nI_pos (by omega)) ⟨vp_in_nI hs (by omega), br_t (nI_lt hy (by omega)) ?_⟩
        have fin : ∀ z, gr_reach S x y z → wpY_reach (fun r' v' => r' = z ∧ i_Rel (k + 5) (nI vs, nI cl, nI ll, nI el, nI nn, f_fixed, f_machine, nI pc, f_lostCount, f_coinBits, A.1, nI A.2.1, f_outCount, f_outLost, wc, wl, nb, sk, f_walkCount, f_walkSummary, f_walkRing, a_opOf, a_aOf, a_bOf, a_tOf, a_machineVar, a_cellUsed, a_cellLink, tn, ts, tv, tu, a_entPoint, a_entPending, a_outPoint, wv, wu, wm, mk, hd, pr, nu, rn) v') (nI vs, nI cl, nI ll, nI el, nI nn, nI pc, f_lostCount, f_machine, A.1, nI A.2.1, g_gone, f_fixed, b_prog, b_at, b_pend, b_size, b_place, b_succ, b_many, b_num, b_newSucc, b_newMany) v1 (nI x) (nI y) := fun z hz => yy z (Or.inr (Or.inr ⟨x, y, hx, hy, rfl, rfl, hz⟩))
        refine xd_ok hs ES T hx (by omega) (fun r hr => ?_)
        refine pk_eq x y (fun w => ?_) (fun w => ?_)
        · have hr' : gr_tv r (gr_ld S.2.1 x x) := by rw [← w] at hr; exact hr
          refine xi_sum hs ES T hx ?_
          cases hb : S.2.2.2 x
          · exact br_t rfl (fin 1 ⟨fun n => absurd w n, fun _ => ⟨fun q => by rw [hb] at q; exact absurd q.1 (by decide), fun _ => rfl⟩⟩)
          · refine br_f (by decide) ?_
            rcases hr' with ⟨rfl, q⟩ | ⟨rfl, q⟩
            · exact br_t rfl (fin 2 ⟨fun n => absurd w n, fun _ => ⟨fun _ => rfl, fun q2 => absurd ⟨hb, q⟩ q2⟩⟩)
            · exact br_f (by decide) (fin 1 ⟨fun n => absurd w n, fun _ => ⟨fun q2 => absurd q q2.2, fun _ => rfl⟩⟩)
        · exact xi_truth hr (fin r ⟨fun _ => hr, fun e => absurd e w⟩)
end
section
/-! embeds, covered -/
def so_EM (vs : Nat) (A : gr_A) (HS : gr_S) (v1 v2 : Int32) (z : Int32) : Prop := ((so_no A v1 ∨ so_no A v2) ∧ z = -3) ∨ ∃ S T, so_S A HS v1 S ∧ so_S A HS v2 T ∧ gr_tv z (gr_EM vs S T)
def so_cov (vs : Nat) (A : gr_A) (HS : gr_S) (pc e : Nat) : Prop := A.2.2.2.1 e = pc ∧ gr_EM vs HS (A.2.2.1 e)
def so_CV (vs : Nat) (A : gr_A) (HS : gr_S) (pc : Nat) (z : Int32) : Prop := (∃ e, e < A.2.1 ∧ so_cov vs A HS pc e ∧ (∀ f, f < e → ¬ so_cov vs A HS pc f) ∧ z = nI e) ∨ ((∀ e, e < A.2.1 → ¬ so_cov vs A HS pc e) ∧ z = -9)
theorem so_CV_u {vs : Nat} {A : gr_A} {HS : gr_S} {pc : Nat} {z z' : Int32} (h : so_CV vs A HS pc z) (h' : so_CV vs A HS pc z') : z' = z := by
  rcases h with ⟨e, e1, e2, e3, rfl⟩ | ⟨e1, rfl⟩ <;> rcases h' with ⟨f, f1, f2, f3, rfl⟩ | ⟨f1, rfl⟩
  · rcases Nat.lt_or_ge e f with q | q
    · exact absurd e2 (f3 e q)
    · rcases Nat.lt_or_ge f e with r | r
      · exact absurd f2 (e3 f r)
      · exact congrArg nI (by omega)
  · exact absurd e2 (f1 e e1)
  · exact absurd f2 (e1 f f1)
  · rfl
section
variable {vs el pc s : Nat} {A : gr_A} {HS : gr_S}
variable {f_vars f_cells f_lengthLimit f_entryLimit f_count f_fixed f_machine f_machinePc f_lostCount f_coinBits f_analysis f_entryCount f_outCount f_outLost f_wCount f_workLost f_numbered f_sumMask f_walkCount f_walkSummary f_walkRing : Int32} {a_opOf a_aOf a_bOf a_tOf a_machineVar a_cellUsed a_cellLink a_tabNodes a_tabSum a_tabVar a_tabSucc a_entPoint a_entPending a_outPoint a_wVar a_wSucc a_wSum a_mark a_head a_preds a_number a_rawNext : Nat → Int32}
theorem cv_x {post : Int32 → SX → Prop} (hvs : vs ≤ 3) (hpc : pc ≤ 32) (hs : s < 259) (G : gE vs el A) (ES : gr_ES vs HS) (T : xS vs s HS a_tabNodes a_tabSum a_tabVar a_tabSucc) (XE : xE vs A a_tabNodes a_tabSum a_tabVar a_tabSucc a_entPoint a_entPending) (K : ∀ z, so_CV vs A HS pc z → post z (nI vs, f_cells, f_lengthLimit, f_entryLimit, f_count, f_fixed, f_machine, nI pc, f_lostCount, f_coinBits, f_analysis, nI A.2.1, f_outCount, f_outLost, f_wCount, f_workLost, f_numbered, f_sumMask, f_walkCount, f_walkSummary, f_walkRing, a_opOf, a_aOf, a_bOf, a_tOf, a_machineVar, a_cellUsed, a_cellLink, a_tabNodes, a_tabSum, a_tabVar, a_tabSucc, a_entPoint, a_entPending, a_outPoint, a_wVar, a_wSucc, a_wSum, a_mark, a_head, a_preds, a_number, a_rawNext)) :
    ∀ d i, i + d = A.2.1 → (∀ f, f < i → ¬ so_cov vs A HS pc f) → wX_covered_8 post (nI s) (nI vs) f_cells f_lengthLimit f_entryLimit f_count f_fixed f_machine (nI pc) f_lostCount f_coinBits f_analysis (nI A.2.1) f_outCount f_outLost f_wCount f_workLost f_numbered f_sumMask f_walkCount f_walkSummary f_walkRing a_opOf a_aOf a_bOf a_tOf a_machineVar a_cellUsed a_cellLink a_tabNodes a_tabSum a_tabVar a_tabSucc a_entPoint a_entPending a_outPoint a_wVar a_wSucc a_wSum a_mark a_head a_preds a_number a_rawNext (d + 1) (nI i) := by
  have hec : A.2.1 ≤ 256 := by have := G.1; have := G.2.1; omega
  intro d
  induction d with
  | zero =>
    intro i hi h1
    exact br_t (nI_le (by omega) (by omega)) (K _ (Or.inr ⟨fun e he => h1 e (by omega), rfl⟩))
  | succ d ih =>
    intro i hi h1
    have x := XE i (by omega)
    have gi := G.2.2 i (by omega)
    have next : ¬ so_cov vs A HS pc i → wX_covered_8 post (nI s) (nI vs) f_cells f_lengthLimit f_entryLimit f_count f_fixed f_machine (nI pc) f_lostCount f_coinBits f_analysis (nI A.2.1) f_outCount f_outLost f_wCount f_workLost f_numbered f_sumMask f_walkCount f_walkSummary f_walkRing a_opOf a_aOf a_bOf a_tOf a_machineVar a_cellUsed a_cellLink a_tabNodes a_tabSum a_tabVar a_tabSucc a_entPoint a_entPending a_outPoint a_wVar a_wSucc a_wSum a_mark a_head a_preds a_number a_rawNext (d + 1) (nI (i + 1)) := fun w => ih (i + 1) (by omega) (fun f hf => by
      rcases Nat.decEq f i with z | z
      · exact h1 f (by omega)
      · rw [z]; exact w)
    refine br_f (nI_ge (by omega) (by omega)) ⟨vp_in_nI (by omega) (by omega), ?_⟩
    rw [nI_clamp (by omega), x.2.1]
    refine pk_eq (A.2.2.2.1 i) pc (fun e => ?_) (fun e => nm_r (nI_1 i) (next (fun w => e w.1))) rfl rfl (by omega) (by omega)
    refine xe_ok (p := s) (q := i) hs (by omega) hvs ES gi.1 T x.1 (fun r hr => ?_)
    rcases hr with ⟨rfl, q⟩ | ⟨rfl, q⟩
    · exact br_t rfl (nm_r (nI_1 i) (next (fun w => q w.2)))
    · exact br_f (by decide) (K _ (Or.inl ⟨i, by omega, ⟨e, q⟩, h1, rfl⟩))
end
section
variable {vs el pc s : Nat} {A : gr_A} {HS : gr_S}
variable {f_vars f_cells f_lengthLimit f_entryLimit f_n f_pc f_lostCells f_machine f_analysis f_count f_gone f_fixed : Int32} {a_prog a_at a_pend a_size a_place a_succ a_many a_num a_newSucc a_newMany : Nat → Int32}
theorem cv_y {post : Int32 → SY → Prop} (hvs : vs ≤ 3) (hpc : pc ≤ 32) (hs : s < 259) (G : gE vs el A) (ES : gr_ES vs HS) (T : yS vs s HS a_size a_place a_succ a_many) (YE : yE vs A a_size a_place a_succ a_many a_at a_pend) (K : ∀ z, so_CV vs A HS pc z → post z (nI vs, f_cells, f_lengthLimit, f_entryLimit, f_n, nI pc, f_lostCells, f_machine, f_analysis, nI A.2.1, f_gone, f_fixed, a_prog, a_at, a_pend, a_size, a_place, a_succ, a_many, a_num, a_newSucc, a_newMany)) :
    ∀ d i, i + d = A.2.1 → (∀ f, f < i → ¬ so_cov vs A HS pc f) → wY_covered_8 post (nI s) (nI vs) f_cells f_lengthLimit f_entryLimit f_n (nI pc) f_lostCells f_machine f_analysis (nI A.2.1) f_gone f_fixed a_prog a_at a_pend a_size a_place a_succ a_many a_num a_newSucc a_newMany (d + 1) (nI i) := by
  have hec : A.2.1 ≤ 256 := by have := G.1; have := G.2.1; omega
  intro d
  induction d with
  | zero =>
    intro i hi h1
    exact br_t (nI_le (by omega) (by omega)) (K _ (Or.inr ⟨fun e he => h1 e (by omega), rfl⟩))
  | succ d ih =>
    intro i hi h1
    have x := YE i (by omega)
    have gi := G.2.2 i (by omega)
    have next : ¬ so_cov vs A HS pc i → wY_covered_8 post (nI s) (nI vs) f_cells f_lengthLimit f_entryLimit f_n (nI pc) f_lostCells f_machine f_analysis (nI A.2.1) f_gone f_fixed a_prog a_at a_pend a_size a_place a_succ a_many a_num a_newSucc a_newMany (d + 1) (nI (i + 1)) := fun w => ih (i + 1) (by omega) (fun f hf => by
      rcases Nat.decEq f i with z | z
      · exact h1 f (by omega)
      · rw [z]; exact w)
    refine br_f (nI_ge (by omega) (by omega)) ⟨vp_in_nI (by omega) (by omega), ?_⟩
    rw [nI_clamp (by omega), x.2.1]
    refine pk_eq (A.2.2.2.1 i) pc (fun e => ?_) (fun e => nm_r (nI_1 i) (next (fun w => e w.1))) rfl rfl (by omega) (by omega)
    refine ye_ok (p := s) (q := i) hs (by omega) hvs ES gi.1 T x.1 (fun r hr => ?_)
    rcases hr with ⟨rfl, q⟩ | ⟨rfl, q⟩
    · exact br_t rfl (nm_r (nI_1 i) (next (fun w => q w.2)))
    · exact br_f (by decide) (K _ (Or.inl ⟨i, by omega, ⟨e, q⟩, h1, rfl⟩))
end
theorem i_vc_covered {k : Nat} {u : SX} {v : SY} (I : i_Rel k u v) (hk : k + 5 ≤ 2564) : wpX_covered (fun r u' => wpY_covered (fun r' v' => r' = r ∧ i_Rel (k + 5) u' v') v) u := by
  refine re_el (P := fun u v => wpX_covered (fun r u' => wpY_covered (fun r' v' => r' = r ∧ i_Rel (k + 5) u' v') v) u) I ?_
  intro vs cl ll el nn pc op pa pb pt mv mh A f_fixed f_machine f_lostCount f_coinBits f_outCount f_outLost f_wCount f_workLost f_numbered f_sumMask f_walkCount f_walkSummary f_walkRing g_gone a_opOf a_aOf a_bOf a_tOf a_machineVar a_cellUsed a_cellLink a_tabNodes a_tabSum a_tabVar a_tabSucc a_entPoint a_entPending a_outPoint a_wVar a_wSucc a_wSum a_mark a_head a_preds a_number a_rawNext b_prog b_at b_pend b_size b_place b_succ b_many b_num b_newSucc b_newMany C
  have C' := C
  obtain ⟨hvs, hcl, hll, hel, hnn, hpc, hfx, P, HX, HY, MW, MX, MY, G, XE, YE⟩ := C
  have hec : A.2.1 ≤ 256 := by have := G.1; have := G.2.1; omega
  unfold wpX_covered
  dsimp only
  refine so_x hvs.2 hcl.2 MW MX G XE (fun no => absurd rfl no.1) (fun s S wc wl nb sk tn ts tv tu wv wu wm mk hd pr nu rn hS hs hm ES T XE2 _ => ?_)
  dsimp only
  refine Exists.intro (A.2.1 + 1) (cv_x hvs.2 (by omega) hs G ES T XE2 (fun z hz => ?_) A.2.1 0 (by omega) (fun f hf => by omega))
  unfold wpY_covered
  dsimp only
  refine so_y hvs.2 hcl.2 MW MY G YE (fun no => absurd rfl no.1) (fun s' S' nu2 ns2 nm2 sz pl su ma hS' hs' _ _ T' YE2 MY2 _ => ?_)
  have e := so_S_u hec hS hS'
  subst e
  dsimp only
  refine Exists.intro (A.2.1 + 1) (cv_y hvs.2 (by omega) hs' G ES T' YE2 (fun z' hz' => ⟨so_CV_u hz hz', re_in ⟨hvs, hcl, hll, hel, hnn, hpc, hfx, P, HX, HY, MW, MX, MY2, G, XE2, YE2⟩⟩) A.2.1 0 (by omega) (fun f hf => by omega))
theorem i_vc_embeds {k : Nat} {u : SX} {v : SY} (I : i_Rel k u v) (hk : k + 5 ≤ 2564) (v1 : Int32) (v2 : Int32) : wpX_embeds (fun r u' => wpY_embeds (fun r' v' => r' = r ∧ i_Rel (k + 5) u' v') v v1 v2) u v1 v2 := by
  refine re_el (P := fun u v => wpX_embeds (fun r u' => wpY_embeds (fun r' v' => r' = r ∧ i_Rel (k + 5) u' v') v v1 v2) u v1 v2) I ?_
  intro vs cl ll el nn pc op pa pb pt mv mh A f_fixed f_machine f_lostCount f_coinBits f_outCount f_outLost f_wCount f_workLost f_numbered f_sumMask f_walkCount f_walkSummary f_walkRing g_gone a_opOf a_aOf a_bOf a_tOf a_machineVar a_cellUsed a_cellLink a_tabNodes a_tabSum a_tabVar a_tabSucc a_entPoint a_entPending a_outPoint a_wVar a_wSucc a_wSum a_mark a_head a_preds a_number a_rawNext b_prog b_at b_pend b_size b_place b_succ b_many b_num b_newSucc b_newMany C
  have C' := C
  obtain ⟨hvs, hcl, hll, hel, hnn, hpc, hfx, P, HX, HY, MW, MX, MY, G, XE, YE⟩ := C
  have hec : A.2.1 ≤ 256 := by have := G.1; have := G.2.1; omega
  -- Y's side, once X's state and answer are known
  have yy : ∀ z wc wl nb sk tn ts tv tu wv wu wm mk hd pr nu rn, so_EM vs A (gr_HS vs cl mh mv) v1 v2 z → xE vs A tn ts tv tu a_entPoint a_entPending → wpY_embeds (fun r' v' => r' = z ∧ i_Rel (k + 5) (nI vs, nI cl, nI ll, nI el, nI nn, f_fixed, f_machine, nI pc, f_lostCount, f_coinBits, A.1, nI A.2.1, f_outCount, f_outLost, wc, wl, nb, sk, f_walkCount, f_walkSummary, f_walkRing, a_opOf, a_aOf, a_bOf, a_tOf, a_machineVar, a_cellUsed, a_cellLink, tn, ts, tv, tu, a_entPoint, a_entPending, a_outPoint, wv, wu, wm, mk, hd, pr, nu, rn) v') (nI vs, nI cl, nI ll, nI el, nI nn, nI pc, f_lostCount, f_machine, A.1, nI A.2.1, g_gone, f_fixed, b_prog, b_at, b_pend, b_size, b_place, b_succ, b_many, b_num, b_newSucc, b_newMany) v1 v2 := by
    intro z wc wl nb sk tn ts tv tu wv wu wm mk hd pr nu rn hz XE2
    unfold wpY_embeds
    dsimp only
    refine so_y hvs.2 hcl.2 MW MY G YE (fun no => ?_) (fun s1 S1 nu1 ns1 nm1 sz1 pl1 su1 ma1 hS1 hs1 hm1 ES1 T1 YE1 MY1 _ => ?_)
    · dsimp only
      have ez : z = -3 := by
        rcases hz with ⟨_, e⟩ | ⟨S, T, h1, _⟩
        · exact e
        · exact absurd h1 (so_no_S hec no)
      subst ez
      refine so_y hvs.2 hcl.2 MW MY G YE (fun no2 => ?_) (fun s2 S2 nu2 ns2 nm2 sz pl su ma hS2 hs2 hm2 ES2 T2 YE2 MY2 _ => ?_)
      · exact br_t (by decide) ⟨rfl, re_in ⟨hvs, hcl, hll, hel, hnn, hpc, hfx, P, HX, HY, MW, MX, MY, G, XE2, YE⟩⟩
      · exact br_t (by decide) ⟨rfl, re_in ⟨hvs, hcl, hll, hel, hnn, hpc, hfx, P, HX, HY, MW, MX, MY2, G, XE2, YE2⟩⟩
    · dsimp only
      refine so_y hvs.2 hcl.2 MW MY1 G YE1 (fun no2 => ?_) (fun s2 S2 nu2 ns2 nm2 sz pl su ma hS2 hs2 hm2 ES2 T2 YE2 MY2 kp => ?_)
      · have ez : z = -3 := by
          rcases hz with ⟨_, e⟩ | ⟨S, T, _, h1, _⟩
          · exact e
          · exact absurd h1 (so_no_S hec no2)
        subst ez
        exact br_f (nI_pos (by omega)) (br_f (by decide) ⟨rfl, re_in ⟨hvs, hcl, hll, hel, hnn, hpc, hfx, P, HX, HY, MW, MX, MY1, G, XE2, YE1⟩⟩)
      · have T1' : yS vs s1 S1 sz pl su ma := by
          rcases Classical.em (s1 = 257 ∧ v2 = -1) with q | q
          · have e1 : S2 = gr_HS vs cl mh mv := so_S_u hec (Or.inl ⟨q.2, rfl⟩) hS2
            have e2 : S1 = gr_HS vs cl mh mv := so_S_u hec (Or.inl ⟨hm1.mpr q.1, rfl⟩) hS1
            have e3 := hm2.mp q.2
            rw [e2, q.1, ← e1, ← e3]; exact T2
          · exact kp s1 S1 (fun a b => q ⟨a, b⟩) ES1.1 T1
        dsimp only
        refine br_f (nI_pos (by omega)) (br_t (nI_pos' (by omega)) (ye_ok hs1 hs2 hvs.2 ES1 ES2 T1' T2 (fun r hr => ?_)))
        have er : r = z := by
          rcases hz with ⟨n, _⟩ | ⟨S, T, h1, h2, h3⟩
          · rcases n with n | n
            · exact absurd hS1 (so_no_S hec n)
            · exact absurd hS2 (so_no_S hec n)
          · have e1 := so_S_u hec h1 hS1
            have e2 := so_S_u hec h2 hS2
            subst e1
            subst e2
            exact gr_tv_u h3 hr
        subst er
        rcases hr with ⟨rfl, q⟩ | ⟨rfl, q⟩
        · exact br_t rfl ⟨rfl, re_in ⟨hvs, hcl, hll, hel, hnn, hpc, hfx, P, HX, HY, MW, MX, MY2, G, XE2, YE2⟩⟩
        · exact br_f (by decide) ⟨rfl, re_in ⟨hvs, hcl, hll, hel, hnn, hpc, hfx, P, HX, HY, MW, MX, MY2, G, XE2, YE2⟩⟩
  unfold wpX_embeds
  dsimp only
  refine so_x hvs.2 hcl.2 MW MX G XE (fun no => ?_) (fun s1 S1 wc1 wl1 nb1 sk1 tn1 ts1 tv1 tu1 wv1 wu1 wm1 mk1 hd1 pr1 nu1 rn1 hS1 hs1 hm1 ES1 T1 XE1 _ => ?_)
  · dsimp only
    refine so_x hvs.2 hcl.2 MW MX G XE (fun no2 => ?_) (fun s2 S2 wc wl nb sk tn ts tv tu wv wu wm mk hd pr nu rn hS2 hs2 hm2 ES2 T2 XE2 _ => ?_)
    · exact br_t rfl (yy _ _ _ _ _ _ _ _ _ _ _ _ _ _ _ _ _ (Or.inl ⟨Or.inl no, rfl⟩) XE)
    · exact br_t rfl (yy _ wc wl nb sk tn ts tv tu wv wu wm mk hd pr nu rn (Or.inl ⟨Or.inl no, rfl⟩) XE2)
  · dsimp only
    refine so_x hvs.2 hcl.2 MW MX G XE1 (fun no2 => ?_) (fun s2 S2 wc wl nb sk tn ts tv tu wv wu wm mk hd pr nu rn hS2 hs2 hm2 ES2 T2 XE2 kp => ?_)
    · exact br_f (gr_nm1 (by omega)) (br_t rfl (yy _ wc1 wl1 nb1 sk1 tn1 ts1 tv1 tu1 wv1 wu1 wm1 mk1 hd1 pr1 nu1 rn1 (Or.inl ⟨Or.inr no2, rfl⟩) XE1))
    · have T1' : xS vs s1 S1 tn ts tv tu := by
        rcases Classical.em (s1 = 256 ∧ v2 = -1) with q | q
        · have e1 : S2 = gr_HS vs cl mh mv := so_S_u hec (Or.inl ⟨q.2, rfl⟩) hS2
          have e2 : S1 = gr_HS vs cl mh mv := so_S_u hec (Or.inl ⟨hm1.mpr q.1, rfl⟩) hS1
          have e3 := hm2.mp q.2
          rw [e2, q.1, ← e1, ← e3]; exact T2
        · exact kp s1 S1 (fun a b => q ⟨a, b⟩) ES1.1 T1
      dsimp only
      refine br_f (gr_nm1 (by omega)) (br_f (gr_nm1 (by omega)) (xe_ok hs1 hs2 hvs.2 ES1 ES2 T1' T2 (fun r hr => ?_)))
      exact xi_truth hr (yy r wc wl nb sk tn ts tv tu wv wu wm mk hd pr nu rn (Or.inr ⟨S1, S2, hS1, hS2, hr⟩) XE2)
end
section
/-! joining over the entries of a point -/
def jn (Q : Nat → Int32 → Prop) (pp : Nat → Nat) (w : Nat) : Nat → Int32 → Prop
  | 0, j => j = -9
  | i + 1, j => ∃ j', jn Q pp w i j' ∧ ((pp i = w ∧ ∃ r, Q i r ∧ j = gr_join j' r) ∨ (pp i ≠ w ∧ j = j'))
theorem jn_u {Q : Nat → Int32 → Prop} {pp : Nat → Nat} {w : Nat} {ec : Nat} (hQ : ∀ i r r', i < ec → Q i r → Q i r' → r' = r) : ∀ i, i ≤ ec → ∀ j j', jn Q pp w i j → jn Q pp w i j' → j' = j
  | 0, _, j, j', h, h' => by
    have e : j = -9 := h
    have e' : j' = -9 := h'
    rw [e, e']
  | i + 1, hi, j, j', h, h' => by
    obtain ⟨a, h1, h2⟩ := h
    obtain ⟨b, h1', h2'⟩ := h'
    have e := jn_u hQ i (by omega) a b h1 h1'
    subst e
    rcases h2 with ⟨p, r, q, rfl⟩ | ⟨p, rfl⟩ <;> rcases h2' with ⟨p', r', q', rfl⟩ | ⟨p', rfl⟩
    · rw [hQ i r r' (by omega) q q']
    · exact absurd p p'
    · exact absurd p' p
    · rfl
/-! ask -/
section
variable {vs el w kind a bn : Nat} {b : Int32} {A : gr_A}
variable {f_vars f_cells f_lengthLimit f_entryLimit f_count f_fixed f_machine f_machinePc f_lostCount f_coinBits f_analysis f_entryCount f_outCount f_outLost f_wCount f_workLost f_numbered f_sumMask f_walkCount f_walkSummary f_walkRing : Int32} {a_opOf a_aOf a_bOf a_tOf a_machineVar a_cellUsed a_cellLink a_tabNodes a_tabSum a_tabVar a_tabSucc a_entPoint a_entPending a_outPoint a_wVar a_wSucc a_wSum a_mark a_head a_preds a_number a_rawNext : Nat → Int32}
theorem ak_x {post : Int32 → SX → Prop} (hvs : vs ≤ 3) (hw : w ≤ 32) (hk : kind ≤ 6) (ha : a < vs) (hb : 1 ≤ kind → kind ≤ 3 → b = nI bn ∧ bn < vs) (G : gE vs el A) (XE : xE vs A a_tabNodes a_tabSum a_tabVar a_tabSucc a_entPoint a_entPending)
    (K : ∀ j wc wv wu wm mk wk ws ring, jn (fun e r => gr_VS (A.2.2.1 e) kind a b bn r) A.2.2.2.1 w A.2.1 j → post j (nI vs, f_cells, f_lengthLimit, f_entryLimit, f_count, f_fixed, f_machine, f_machinePc, f_lostCount, f_coinBits, f_analysis, nI A.2.1, f_outCount, f_outLost, wc, f_workLost, f_numbered, f_sumMask, wk, ws, ring, a_opOf, a_aOf, a_bOf, a_tOf, a_machineVar, a_cellUsed, a_cellLink, a_tabNodes, a_tabSum, a_tabVar, a_tabSucc, a_entPoint, a_entPending, a_outPoint, wv, wu, wm, mk, a_head, a_preds, a_number, a_rawNext)) :
    ∀ d i j wc wv wu wm mk wk ws ring, i + d = A.2.1 → jn (fun e r => gr_VS (A.2.2.1 e) kind a b bn r) A.2.2.2.1 w i j → wX_ask_124 post (nI w) (nI kind) (nI a) b (d + 1) j (nI i) (nI vs) f_cells f_lengthLimit f_entryLimit f_count f_fixed f_machine f_machinePc f_lostCount f_coinBits f_analysis (nI A.2.1) f_outCount f_outLost wc f_workLost f_numbered f_sumMask wk ws ring a_opOf a_aOf a_bOf a_tOf a_machineVar a_cellUsed a_cellLink a_tabNodes a_tabSum a_tabVar a_tabSucc a_entPoint a_entPending a_outPoint wv wu wm mk a_head a_preds a_number a_rawNext := by
  have hec : A.2.1 ≤ 256 := by have := G.1; have := G.2.1; omega
  intro d
  induction d with
  | zero =>
    intro i j wc wv wu wm mk wk ws ring hi hj
    have e : i = A.2.1 := by omega
    subst e
    exact br_t (nI_le (by omega) (by omega)) (K j wc wv wu wm mk wk ws ring hj)
  | succ d ih =>
    intro i j wc wv wu wm mk wk ws ring hi hj
    have x := XE i (by omega)
    have gi := G.2.2 i (by omega)
    refine br_f (nI_ge (by omega) (by omega)) ⟨vp_in_nI (by omega) (by omega), ?_⟩
    rw [nI_clamp (by omega), x.2.1]
    refine pk_eq (A.2.2.2.1 i) w (fun e => ?_) (fun e => nm_r (nI_1 i) (ih (i + 1) j wc wv wu wm mk wk ws ring (by omega) ⟨j, hj, Or.inr ⟨e, rfl⟩⟩)) rfl rfl (by omega) (by omega)
    refine xl_slot (s := i) (by omega) hvs gi.1.1 x.1 (fun wv2 wu2 wm2 T => ?_)
    refine xv_ok hk ha hvs hb (gr_E_W gi.1) T (fun mk2 wk2 ws2 ring2 r hr => ?_)
    refine xj_ok (nm_r (nI_1 i) ?_)
    exact ih (i + 1) _ _ wv2 wu2 wm2 mk2 wk2 ws2 ring2 (by omega) ⟨j, hj, Or.inl ⟨e, r, hr, rfl⟩⟩
end
section
variable {vs el w kind a bn : Nat} {b : Int32} {A : gr_A}
variable {f_vars f_cells f_lengthLimit f_entryLimit f_n f_pc f_lostCells f_machine f_analysis f_count f_gone f_fixed : Int32} {a_prog a_at a_pend a_size a_place a_succ a_many a_num a_newSucc a_newMany : Nat → Int32}
theorem ak_y {post : Int32 → Prop} (hvs : vs ≤ 3) (hw : w ≤ 32) (hk : kind ≤ 6) (ha : a < vs) (hb : 1 ≤ kind → kind ≤ 3 → b = nI bn ∧ bn < vs) (G : gE vs el A) (YE : yE vs A a_size a_place a_succ a_many a_at a_pend)
    (K : ∀ j, jn (fun e r => gr_VS (A.2.2.1 e) kind a b bn r) A.2.2.2.1 w A.2.1 j → post j) :
    ∀ d i j, i + d = A.2.1 → jn (fun e r => gr_VS (A.2.2.1 e) kind a b bn r) A.2.2.2.1 w i j → wY_ask_100 post (nI w) (nI kind) (nI a) b f_vars f_cells f_lengthLimit f_entryLimit f_n f_pc f_lostCells f_machine f_analysis (nI A.2.1) f_gone f_fixed a_prog a_at a_pend a_size a_place a_succ a_many a_num a_newSucc a_newMany (d + 1) j (nI i) := by
  have hec : A.2.1 ≤ 256 := by have := G.1; have := G.2.1; omega
  intro d
  induction d with
  | zero =>
    intro i j hi hj
    have e : i = A.2.1 := by omega
    subst e
    exact br_t (nI_le (by omega) (by omega)) (K j hj)
  | succ d ih =>
    intro i j hi hj
    have y := YE i (by omega)
    have gi := G.2.2 i (by omega)
    refine br_f (nI_ge (by omega) (by omega)) ⟨vp_in_nI (by omega) (by omega), ?_⟩
    rw [nI_clamp (by omega), y.2.1]
    refine pk_eq (A.2.2.2.1 i) w (fun e => ?_) (fun e => nm_r (nI_1 i) (ih (i + 1) j (by omega) ⟨j, hj, Or.inr ⟨e, rfl⟩⟩)) rfl rfl (by omega) (by omega)
    refine yv_ok (s := i) (by omega) hk ha hvs hb (gr_E_W gi.1) y.1 (fun r hr => ?_)
    refine yj_ok (nm_r (nI_1 i) ?_)
    exact ih (i + 1) _ (by omega) ⟨j, hj, Or.inl ⟨e, r, hr, rfl⟩⟩
end
theorem i_vc_ask {k : Nat} {u : SX} {v : SY} (I : i_Rel k u v) (hk : k + 5 ≤ 2564) (v1 : Int32) (v2 : Int32) (v3 : Int32) (v4 : Int32) : wpX_ask (fun r u' => wpY_ask (fun r' => r' = r ∧ i_Rel (k + 5) u' v) v v1 v2 v3 v4) u v1 v2 v3 v4 := by
  refine re_el (P := fun u v => wpX_ask (fun r u' => wpY_ask (fun r' => r' = r ∧ i_Rel (k + 5) u' v) v v1 v2 v3 v4) u v1 v2 v3 v4) I ?_
  intro vs cl ll el nn pc op pa pb pt mv mh A f_fixed f_machine f_lostCount f_coinBits f_outCount f_outLost f_wCount f_workLost f_numbered f_sumMask f_walkCount f_walkSummary f_walkRing g_gone a_opOf a_aOf a_bOf a_tOf a_machineVar a_cellUsed a_cellLink a_tabNodes a_tabSum a_tabVar a_tabSucc a_entPoint a_entPending a_outPoint a_wVar a_wSucc a_wSum a_mark a_head a_preds a_number a_rawNext b_prog b_at b_pend b_size b_place b_succ b_many b_num b_newSucc b_newMany C
  have C' := C
  obtain ⟨hvs, hcl, hll, hel, hnn, hpc, hfx, P, HX, HY, MW, MX, MY, G, XE, YE⟩ := C
  have hec : A.2.1 ≤ 256 := by have := G.1; have := G.2.1; omega
  by_cases hm : v1 < -1
  · exact br_t hm (br_t hm ⟨rfl, re_in C'⟩)
  by_cases hc : v1 ≤ nI nn
  case neg =>
    exact br_f hm (br_f hc (br_f hm (br_t (Int32.not_le.mp hc) ⟨rfl, re_in C'⟩)))
  have hc' : ¬ nI nn < v1 := Int32.not_lt.mpr hc
  by_cases h20 : v2 < 0
  · exact br_f hm (br_t hc (br_t h20 (br_f hm (br_f hc' (br_t h20 ⟨rfl, re_in C'⟩)))))
  by_cases h26 : v2 ≤ 6
  case neg =>
    exact br_f hm (br_t hc (br_f h20 (br_f h26 (br_f hm (br_f hc' (br_f h20 (br_t (Int32.not_le.mp h26) ⟨rfl, re_in C'⟩)))))))
  have h26' : ¬ 6 < v2 := Int32.not_lt.mpr h26
  obtain ⟨kd, hkd, rfl⟩ := nI_of2 (M := 6) (n := 6) (by decide) h20 h26
  by_cases h30 : v3 < 0
  · exact br_f hm (br_t hc (br_f h20 (br_t h26 (br_t h30 (br_f hm (br_f hc' (br_f h20 (br_f h26' (br_t h30 ⟨rfl, re_in C'⟩)))))))))
  by_cases h3v : v3 < nI vs
  case neg =>
    exact br_f hm (br_t hc (br_f h20 (br_t h26 (br_f h30 (br_f h3v (br_f hm (br_f hc' (br_f h20 (br_f h26' (br_f h30 (br_f h3v ⟨rfl, re_in C'⟩)))))))))))
  obtain ⟨a, ha⟩ : ∃ a, a < vs ∧ v3 = nI a := by
    rcases pk_ix v3 (n := vs) (by omega) with h | h | h
    · exact absurd h h30
    · exact absurd h3v (Int32.not_lt.mpr h)
    · exact h
  obtain ⟨ha, rfl⟩ := ha
  -- the answer, once the arguments are good
  have main : ∀ bn, (1 ≤ kd → kd ≤ 3 → v4 = nI bn ∧ bn < vs) →
      wX_ask_88 (fun r u' => wpY_ask (fun r' => r' = r ∧ i_Rel (k + 5) u' (nI vs, nI cl, nI ll, nI el, nI nn, nI pc, f_lostCount, f_machine, A.1, nI A.2.1, g_gone, f_fixed, b_prog, b_at, b_pend, b_size, b_place, b_succ, b_many, b_num, b_newSucc, b_newMany)) (nI vs, nI cl, nI ll, nI el, nI nn, nI pc, f_lostCount, f_machine, A.1, nI A.2.1, g_gone, f_fixed, b_prog, b_at, b_pend, b_size, b_place, b_succ, b_many, b_num, b_newSucc, b_newMany) v1 (nI kd) (nI a) v4) v1 (nI kd) (nI a) v4 (nI vs) (nI cl) (nI ll) (nI el) (nI nn) f_fixed f_machine (nI pc) f_lostCount f_coinBits A.1 (nI A.2.1) f_outCount f_outLost f_wCount f_workLost f_numbered f_sumMask f_walkCount f_walkSummary f_walkRing a_opOf a_aOf a_bOf a_tOf a_machineVar a_cellUsed a_cellLink a_tabNodes a_tabSum a_tabVar a_tabSucc a_entPoint a_entPending a_outPoint a_wVar a_wSucc a_wSum a_mark a_head a_preds a_number a_rawNext := by
    intro bn hb
    -- Y behind its checks
    have y65 : ∀ postY : Int32 → Prop, wY_ask_65 postY v1 (nI kd) (nI a) v4 (nI vs) (nI cl) (nI ll) (nI el) (nI nn) (nI pc) f_lostCount f_machine A.1 (nI A.2.1) g_gone f_fixed b_prog b_at b_pend b_size b_place b_succ b_many b_num b_newSucc b_newMany → wpY_ask postY (nI vs, nI cl, nI ll, nI el, nI nn, nI pc, f_lostCount, f_machine, A.1, nI A.2.1, g_gone, f_fixed, b_prog, b_at, b_pend, b_size, b_place, b_succ, b_many, b_num, b_newSucc, b_newMany) v1 (nI kd) (nI a) v4 := by
      intro postY h
      refine br_f hm (br_f hc' (br_f h20 (br_f h26' (br_f h30 (br_t h3v (pk_lt kd 1 (fun _ => h) (fun k1 => pk_lt 3 kd (fun _ => h) (fun k3 => ?_))))))))
      obtain ⟨rfl, hbn⟩ := hb k1 k3
      exact br_f (nI_pos (by omega)) (br_t (nI_lt hbn (by omega)) h)
    by_cases hh : v1 = -1
    · refine br_t hh (xl_heap hcl.2 hvs.2 MX (fun wv wu wm T => ?_))
      refine xv_ok (S := (cl, mh, mv, fun _ => false)) hkd ha hvs.2 hb (gr_MW_W MW) T (fun mk wk ws ring r hr => ?_)
      refine y65 _ (br_t hh (yv_ok (s := 256) (by omega) hkd ha hvs.2 hb (gr_MW_W MW) MY (fun r' hr' => ⟨gr_VS_u hkd hr hr', re_in C'⟩)))
    · have h0 : ¬ v1 < 0 := ix_nneg hm hh
      obtain ⟨w, hw, rfl⟩ := nI_of2 (M := nI nn) (n := nn) (nI_toInt (by omega)) h0 hc
      refine br_f hh (br_c (fun h2 => ?_) (fun h2 => y65 _ (br_f hh (br_f h2 ⟨rfl, re_in C'⟩))))
      refine Exists.intro (A.2.1 + 1) (ak_x hvs.2 (by omega) hkd ha hb G XE (fun j wc wv wu wm mk wk ws ring hj => ?_) A.2.1 0 (-9) f_wCount a_wVar a_wSucc a_wSum a_mark f_walkCount f_walkSummary f_walkRing (by omega) rfl)
      refine y65 _ (br_f hh (br_t h2 (Exists.intro (A.2.1 + 1) (ak_y hvs.2 (by omega) hkd ha hb G YE (fun j' hj' => ⟨?_, re_in C'⟩) A.2.1 0 (-9) (by omega) rfl))))
      exact jn_u (Q := fun e r => gr_VS (A.2.2.1 e) kd a v4 bn r) (pp := A.2.2.2.1) (w := w) (ec := A.2.1) (fun i r r' _ q q' => gr_VS_u hkd q q') A.2.1 (Nat.le_refl _) j j' hj hj'
  refine br_f hm (br_t hc (br_f h20 (br_t h26 (br_f h30 (br_t h3v ?_)))))
  have withB : 1 ≤ kd → kd ≤ 3 → wX_ask_59 (fun r u' => wpY_ask (fun r' => r' = r ∧ i_Rel (k + 5) u' (nI vs, nI cl, nI ll, nI el, nI nn, nI pc, f_lostCount, f_machine, A.1, nI A.2.1, g_gone, f_fixed, b_prog, b_at, b_pend, b_size, b_place, b_succ, b_many, b_num, b_newSucc, b_newMany)) (nI vs, nI cl, nI ll, nI el, nI nn, nI pc, f_lostCount, f_machine, A.1, nI A.2.1, g_gone, f_fixed, b_prog, b_at, b_pend, b_size, b_place, b_succ, b_many, b_num, b_newSucc, b_newMany) v1 (nI kd) (nI a) v4) v1 (nI kd) (nI a) v4 (nI vs) (nI cl) (nI ll) (nI el) (nI nn) f_fixed f_machine (nI pc) f_lostCount f_coinBits A.1 (nI A.2.1) f_outCount f_outLost f_wCount f_workLost f_numbered f_sumMask f_walkCount f_walkSummary f_walkRing a_opOf a_aOf a_bOf a_tOf a_machineVar a_cellUsed a_cellLink a_tabNodes a_tabSum a_tabVar a_tabSucc a_entPoint a_entPending a_outPoint a_wVar a_wSucc a_wSum a_mark a_head a_preds a_number a_rawNext := by
    intro k1 k3
    have ybad : ∀ postY : Int32 → Prop, (v4 < 0 ∨ nI vs ≤ v4) → postY (-3) → wpY_ask postY (nI vs, nI cl, nI ll, nI el, nI nn, nI pc, f_lostCount, f_machine, A.1, nI A.2.1, g_gone, f_fixed, b_prog, b_at, b_pend, b_size, b_place, b_succ, b_many, b_num, b_newSucc, b_newMany) v1 (nI kd) (nI a) v4 := by
      intro postY h hp
      refine br_f hm (br_f hc' (br_f h20 (br_f h26' (br_f h30 (br_t h3v (pk_lt kd 1 (fun z => by omega) (fun _ => pk_lt 3 kd (fun z => by omega) (fun _ => ?_))))))))
      by_cases h4 : v4 < 0
      · exact br_t h4 hp
      · exact br_f h4 (br_f (Int32.not_lt.mpr (h.elim (fun z => absurd z h4) id)) hp)
    refine br_f (by decide) ?_
    rcases pk_ix v4 (n := vs) (by omega) with h | h | ⟨bn, hbn, hb4⟩
    · exact br_t h (ybad _ (Or.inl h) ⟨rfl, re_in C'⟩)
    · obtain ⟨h1, h2⟩ := ix_ge_n (by omega) h
      exact br_f h1 (br_f h2 (ybad _ (Or.inr h) ⟨rfl, re_in C'⟩))
    · have m := main bn (fun _ _ => ⟨hb4, hbn⟩)
      exact br_f (by rw [hb4]; exact nI_pos (by omega)) (br_t (by rw [hb4]; exact nI_lt hbn (by omega)) m)
  exact pk_eq kd 1 (fun e => withB (by omega) (by omega)) (fun n1 => pk_eq kd 2 (fun e => withB (by omega) (by omega)) (fun n2 => pk_eq kd 3 (fun e => withB (by omega) (by omega)) (fun n3 => br_t rfl (main 0 (fun z1 z2 => by omega)))))
end
section
/-! derefs -/
section
variable {vs el i op a b t : Nat} {A : gr_A}
variable {f_vars f_cells f_lengthLimit f_entryLimit f_count f_fixed f_machine f_machinePc f_lostCount f_coinBits f_analysis f_entryCount f_outCount f_outLost f_wCount f_workLost f_numbered f_sumMask f_walkCount f_walkSummary f_walkRing : Int32} {a_opOf a_aOf a_bOf a_tOf a_machineVar a_cellUsed a_cellLink a_tabNodes a_tabSum a_tabVar a_tabSucc a_entPoint a_entPending a_outPoint a_wVar a_wSucc a_wSum a_mark a_head a_preds a_number a_rawNext : Nat → Int32}
theorem df_x {post : Int32 → Prop} (hvs : vs ≤ 3) (hi : i < 32) (H : xs_I i op a b t a_opOf a_aOf a_bOf a_tOf) (I : gr_ins vs op a b t) (G : gE vs el A) (XE : xE vs A a_tabNodes a_tabSum a_tabVar a_tabSucc a_entPoint a_entPending)
    (K : ∀ j, jn (fun e r => gr_tv r (gr_bad op a b (A.2.2.1 e))) A.2.2.2.1 i A.2.1 j → post j) :
    ∀ d e j, e + d = A.2.1 → jn (fun e r => gr_tv r (gr_bad op a b (A.2.2.1 e))) A.2.2.2.1 i e j → wX_derefs_31 post (nI i) f_vars f_cells f_lengthLimit f_entryLimit f_count f_fixed f_machine f_machinePc f_lostCount f_coinBits f_analysis (nI A.2.1) f_outCount f_outLost f_wCount f_workLost f_numbered f_sumMask f_walkCount f_walkSummary f_walkRing a_opOf a_aOf a_bOf a_tOf a_machineVar a_cellUsed a_cellLink a_tabNodes a_tabSum a_tabVar a_tabSucc a_entPoint a_entPending a_outPoint a_wVar a_wSucc a_wSum a_mark a_head a_preds a_number a_rawNext (d + 1) j (nI e) := by
  have hec : A.2.1 ≤ 256 := by have := G.1; have := G.2.1; omega
  intro d
  induction d with
  | zero =>
    intro e j he hj
    have e0 : e = A.2.1 := by omega
    subst e0
    exact br_t (nI_le (by omega) (by omega)) (K j hj)
  | succ d ih =>
    intro e j he hj
    have x := XE e (by omega)
    have gi := G.2.2 e (by omega)
    refine br_f (nI_ge (by omega) (by omega)) ⟨vp_in_nI (by omega) (by omega), ?_⟩
    rw [nI_clamp (by omega), x.2.1]
    refine pk_eq (A.2.2.2.1 e) i (fun e1 => ?_) (fun e1 => nm_r (nI_1 e) (ih (e + 1) j (by omega) ⟨j, hj, Or.inr ⟨e1, rfl⟩⟩)) rfl rfl (by omega) (by omega)
    refine xo_null hi (by omega) hvs H I x.1 (fun r hr => xi_truth hr (xj_ok (nm_r (nI_1 e) ?_)))
    exact ih (e + 1) _ (by omega) ⟨j, hj, Or.inl ⟨e1, r, hr, rfl⟩⟩
end
section
variable {vs el i op a b t xv : Nat} {A : gr_A}
variable {f_vars f_cells f_lengthLimit f_entryLimit f_n f_pc f_lostCells f_machine f_analysis f_count f_gone f_fixed : Int32} {a_prog a_at a_pend a_size a_place a_succ a_many a_num a_newSucc a_newMany : Nat → Int32}
theorem df_y {post : Int32 → Prop} (hvs : vs ≤ 3) (hi : i < 32) (hx : xv < vs ∨ xv = 40) (hbad : ∀ S : gr_S, gr_bad op a b S ↔ xv < vs ∧ 40 ≤ S.2.2.1 xv) (G : gE vs el A) (YE : yE vs A a_size a_place a_succ a_many a_at a_pend)
    (K : ∀ j, jn (fun e r => gr_tv r (gr_bad op a b (A.2.2.1 e))) A.2.2.2.1 i A.2.1 j → post j) :
    ∀ d e j, e + d = A.2.1 → jn (fun e r => gr_tv r (gr_bad op a b (A.2.2.1 e))) A.2.2.2.1 i e j → wY_derefs_85 post (nI i) (gr_ex xv) f_vars f_cells f_lengthLimit f_entryLimit f_n f_pc f_lostCells f_machine f_analysis (nI A.2.1) f_gone f_fixed a_prog a_at a_pend a_size a_place a_succ a_many a_num a_newSucc a_newMany (d + 1) j (nI e) := by
  have hec : A.2.1 ≤ 256 := by have := G.1; have := G.2.1; omega
  intro d
  induction d with
  | zero =>
    intro e j he hj
    have e0 : e = A.2.1 := by omega
    subst e0
    exact br_t (nI_le (by omega) (by omega)) (K j hj)
  | succ d ih =>
    intro e j he hj
    have y := YE e (by omega)
    have gi := G.2.2 e (by omega)
    have fin : ∀ r, gr_tv r (gr_bad op a b (A.2.2.1 e)) → wY_derefs_119 post (wY_derefs_85 post (nI i) (gr_ex xv) f_vars f_cells f_lengthLimit f_entryLimit f_n f_pc f_lostCells f_machine f_analysis (nI A.2.1) f_gone f_fixed a_prog a_at a_pend a_size a_place a_succ a_many a_num a_newSucc a_newMany (d + 1)) (nI i) j (gr_ex xv) (nI e) r f_vars f_cells f_lengthLimit f_entryLimit f_n f_pc f_lostCells f_machine f_analysis (nI A.2.1) f_gone f_fixed a_prog a_at a_pend a_size a_place a_succ a_many a_num a_newSucc a_newMany := by
      intro r hr
      refine And.intro (vp_in_nI (by omega) (by omega)) ?_
      rw [nI_clamp (by omega), y.2.1]
      refine pk_eq (A.2.2.2.1 e) i (fun e1 => yj_ok (nm_r (nI_1 e) ?_)) (fun e1 => nm_r (nI_1 e) (ih (e + 1) j (by omega) ⟨j, hj, Or.inr ⟨e1, rfl⟩⟩)) rfl rfl (by omega) (by omega)
      exact ih (e + 1) _ (by omega) ⟨j, hj, Or.inl ⟨e1, r, hr, rfl⟩⟩
    refine br_f (nI_ge (by omega) (by omega)) ?_
    rcases hx with z | z
    · have hv := (gr_E40 gi.1).2.1 xv z
      have hidx : (nI e * 3 + gr_ex xv).toNatClampNeg = e * 3 + xv := by rw [gr_ex_n (by omega), ix_3, nI_clamp (by omega)]
      have hin : vp_in (nI e * 3 + gr_ex xv) 777 := by rw [gr_ex_n (by omega), ix_3]; exact vp_in_nI (by omega) (by omega)
      refine br_f (by rw [gr_ex_n (show xv < 40 by omega)]; exact nI_pos (by omega)) ⟨hin, ?_⟩
      rw [hidx, y.1.2.1 xv z]
      refine br_c (fun q => fin 0 (gr_tv_f (fun w => ?_))) (fun q => fin 1 (gr_tv_t ((hbad _).mpr ⟨z, ?_⟩)))
      · exact absurd ((gr_en_neg (by omega)).mpr ((hbad _).mp w).2) (Int32.not_lt.mpr q)
      · exact (gr_en_neg (by omega)).mp (Int32.not_le.mp q)
    · refine br_t (by rw [z]; decide) (fin 0 (gr_tv_f (fun w => ?_)))
      have := ((hbad _).mp w).1
      omega
end
theorem i_vc_derefs {k : Nat} {u : SX} {v : SY} (I : i_Rel k u v) (hk : k + 5 ≤ 2564) (v1 : Int32) : wpX_derefs (fun r => wpY_derefs (fun r' => r' = r ∧ i_Rel (k + 5) u v) v v1) u v1 := by
  refine re_el (P := fun u v => wpX_derefs (fun r => wpY_derefs (fun r' => r' = r ∧ i_Rel (k + 5) u v) v v1) u v1) I ?_
  intro vs cl ll el nn pc op pa pb pt mv mh A f_fixed f_machine f_lostCount f_coinBits f_outCount f_outLost f_wCount f_workLost f_numbered f_sumMask f_walkCount f_walkSummary f_walkRing g_gone a_opOf a_aOf a_bOf a_tOf a_machineVar a_cellUsed a_cellLink a_tabNodes a_tabSum a_tabVar a_tabSucc a_entPoint a_entPending a_outPoint a_wVar a_wSucc a_wSum a_mark a_head a_preds a_number a_rawNext b_prog b_at b_pend b_size b_place b_succ b_many b_num b_newSucc b_newMany C
  have C' := C
  obtain ⟨hvs, hcl, hll, hel, hnn, hpc, hfx, P, HX, HY, MW, MX, MY, G, XE, YE⟩ := C
  have hec : A.2.1 ≤ 256 := by have := G.1; have := G.2.1; omega
  rcases pk_ix v1 (n := nn) (by omega) with h | h | ⟨i, hi, rfl⟩
  · exact br_t h (br_t h ⟨rfl, re_in C'⟩)
  · obtain ⟨h1, h2⟩ := ix_ge_n (by omega) h
    exact br_f h1 (br_f h2 (br_f h1 (br_f h2 ⟨rfl, re_in C'⟩)))
  · have p := nI_pos (n := i) (by omega)
    have lt := nI_lt hi (show nn < 2 ^ 31 by omega)
    have ins := P i hi
    have yi := HY i hi
    refine br_f p (br_t lt (br_c (fun h2 => ?_) (fun h2 => br_f p (br_t lt (br_f h2 ⟨rfl, re_in C'⟩)))))
    refine Exists.intro (A.2.1 + 1) (df_x hvs.2 (by omega) (HX i hi) ins G XE (fun j hj => ?_) A.2.1 0 (-9) (by omega) rfl)
    obtain ⟨i1, i2, i3, i4, i5, i6, i7⟩ := ins
    have fin : ∀ xv, (xv < vs ∨ xv = 40) → (∀ S : gr_S, gr_bad (op i) (pa i) (pb i) S ↔ xv < vs ∧ 40 ≤ S.2.2.1 xv) → ∃ n85 : Nat, wY_derefs_85 (fun r' => r' = j ∧ i_Rel (k + 5) (nI vs, nI cl, nI ll, nI el, nI nn, f_fixed, f_machine, nI pc, f_lostCount, f_coinBits, A.1, nI A.2.1, f_outCount, f_outLost, f_wCount, f_workLost, f_numbered, f_sumMask, f_walkCount, f_walkSummary, f_walkRing, a_opOf, a_aOf, a_bOf, a_tOf, a_machineVar, a_cellUsed, a_cellLink, a_tabNodes, a_tabSum, a_tabVar, a_tabSucc, a_entPoint, a_entPending, a_outPoint, a_wVar, a_wSucc, a_wSum, a_mark, a_head, a_preds, a_number, a_rawNext) (nI vs, nI cl, nI ll, nI el, nI nn, nI pc, f_lostCount, f_machine, A.1, nI A.2.1, g_gone, f_fixed, b_prog, b_at, b_pend, b_size, b_place, b_succ, b_many, b_num, b_newSucc, b_newMany)) (nI i) (gr_ex xv) (nI vs) (nI cl) (nI ll) (nI el) (nI nn) (nI pc) f_lostCount f_machine A.1 (nI A.2.1) g_gone f_fixed b_prog b_at b_pend b_size b_place b_succ b_many b_num b_newSucc b_newMany n85 (-9) 0 := fun xv h1 hb =>
      Exists.intro (A.2.1 + 1) (df_y hvs.2 (by omega) h1 hb G YE (fun j' hj' => ⟨jn_u (Q := fun e r => gr_tv r (gr_bad (op i) (pa i) (pb i) (A.2.2.1 e))) (pp := A.2.2.2.1) (w := i) (ec := A.2.1) (fun e r r' _ q q' => gr_tv_u q q') A.2.1 (Nat.le_refl _) j j' hj hj', re_in C'⟩) A.2.1 0 (-9) (by omega) rfl)
    have f66 : (op i = 4 ∨ op i = 5) → wY_derefs_66 (fun r' => r' = j ∧ i_Rel (k + 5) (nI vs, nI cl, nI ll, nI el, nI nn, f_fixed, f_machine, nI pc, f_lostCount, f_coinBits, A.1, nI A.2.1, f_outCount, f_outLost, f_wCount, f_workLost, f_numbered, f_sumMask, f_walkCount, f_walkSummary, f_walkRing, a_opOf, a_aOf, a_bOf, a_tOf, a_machineVar, a_cellUsed, a_cellLink, a_tabNodes, a_tabSum, a_tabVar, a_tabSucc, a_entPoint, a_entPending, a_outPoint, a_wVar, a_wSucc, a_wSum, a_mark, a_head, a_preds, a_number, a_rawNext) (nI vs, nI cl, nI ll, nI el, nI nn, nI pc, f_lostCount, f_machine, A.1, nI A.2.1, g_gone, f_fixed, b_prog, b_at, b_pend, b_size, b_place, b_succ, b_many, b_num, b_newSucc, b_newMany)) (nI i) (-9) (nI vs) (nI cl) (nI ll) (nI el) (nI nn) (nI pc) f_lostCount f_machine A.1 (nI A.2.1) g_gone f_fixed b_prog b_at b_pend b_size b_place b_succ b_many b_num b_newSucc b_newMany := by
      intro h45
      have ha := i2 (by omega)
      unfold wY_derefs_66
      rw [show nI i * 4 + 1 = nI (i * 4 + 1) from ix_4 i 1, nI_clamp (by omega), yi.2.1]
      refine ⟨vp_in_nI (by omega) (by omega), nm_e (fin (pa i) (Or.inl ha) (fun S => ⟨fun w => ⟨ha, ?_⟩, fun w => Or.inr ⟨h45, w.2⟩⟩))⟩
      rcases w with w | w
      · omega
      · exact w.2
    unfold wpY_derefs
    dsimp only
    refine br_f p (br_t lt (br_t h2 ?_))
    rw [show nI i * 4 + 2 = nI (i * 4 + 2) from ix_4 i 2, ix_4b, nI_clamp (by omega), nI_clamp (by omega), yi.1, yi.2.2.1]
    refine ⟨vp_in_nI (by omega) (by omega), nm_e (pk_eq (op i) 3 (fun e3 => ⟨vp_in_nI (by omega) (by omega), nm_e ?_⟩) (fun n3 => pk_eq (op i) 4 (fun e4 => f66 (Or.inl e4)) (fun n4 => pk_eq (op i) 5 (fun e5 => f66 (Or.inr e5)) (fun n5 => ?_))))⟩
    · have hb := i4 (by omega)
      refine fin (pb i) (Or.inl hb) (fun S => ⟨fun w => ⟨hb, ?_⟩, fun w => Or.inl ⟨e3, w.2⟩⟩)
      rcases w with w | w
      · exact w.2
      · omega
    · refine fin 40 (Or.inr rfl) (fun S => ⟨fun w => ?_, fun w => by omega⟩)
      rcases w with w | w <;> omega
/-! leaks -/
def lk_Q (vs nn i op a b : Nat) (A : gr_A) (e : Nat) (r : Int32) : Prop := ∃ c, xo_C nn i op a b (A.2.2.1 e) c ∧ gr_tv r (∃ k, k < c ∧ xo_L vs op a b (A.2.2.1 e) k)
theorem lk_Q_u {vs nn i op a b : Nat} {A : gr_A} {e : Nat} {r r' : Int32} (h : lk_Q vs nn i op a b A e r) (h' : lk_Q vs nn i op a b A e r') : r' = r := by
  obtain ⟨c, h1, h2⟩ := h
  obtain ⟨c', h1', h2'⟩ := h'
  have := xo_C_u h1 h1'
  subst this
  exact gr_tv_u h2 h2'
section
variable {vs el nn i op a b t : Nat} {A : gr_A}
variable {f_vars f_cells f_lengthLimit f_entryLimit f_count f_fixed f_machine f_machinePc f_lostCount f_coinBits f_analysis f_entryCount f_outCount f_outLost f_wCount f_workLost f_numbered f_sumMask f_walkCount f_walkSummary f_walkRing : Int32} {a_opOf a_aOf a_bOf a_tOf a_machineVar a_cellUsed a_cellLink a_tabNodes a_tabSum a_tabVar a_tabSucc a_entPoint a_entPending a_outPoint a_wVar a_wSucc a_wSum a_mark a_head a_preds a_number a_rawNext : Nat → Int32}
theorem lk_x {post : Int32 → SX → Prop} (hvs : vs ≤ 3) (hnn : nn ≤ 32) (hi : i < nn) (H : xs_I i op a b t a_opOf a_aOf a_bOf a_tOf) (I : gr_ins vs op a b t) (G : gE vs el A)
    (K : ∀ j oc ol wc wl nb sk tn ts tv tu po wv wu wm mk hd pr nu rn, jn (lk_Q vs nn i op a b A) A.2.2.2.1 i A.2.1 j → xE vs A tn ts tv tu a_entPoint a_entPending → post j (nI vs, f_cells, f_lengthLimit, f_entryLimit, nI nn, f_fixed, f_machine, f_machinePc, f_lostCount, f_coinBits, f_analysis, nI A.2.1, oc, ol, wc, wl, nb, sk, f_walkCount, f_walkSummary, f_walkRing, a_opOf, a_aOf, a_bOf, a_tOf, a_machineVar, a_cellUsed, a_cellLink, tn, ts, tv, tu, a_entPoint, a_entPending, po, wv, wu, wm, mk, hd, pr, nu, rn)) :
    ∀ d e j oc ol wc wl nb sk tn ts tv tu po wv wu wm mk hd pr nu rn, e + d = A.2.1 → jn (lk_Q vs nn i op a b A) A.2.2.2.1 i e j → xE vs A tn ts tv tu a_entPoint a_entPending → wX_leaks_31 post (nI i) (d + 1) j (nI e) (nI vs) f_cells f_lengthLimit f_entryLimit (nI nn) f_fixed f_machine f_machinePc f_lostCount f_coinBits f_analysis (nI A.2.1) oc ol wc wl nb sk f_walkCount f_walkSummary f_walkRing a_opOf a_aOf a_bOf a_tOf a_machineVar a_cellUsed a_cellLink tn ts tv tu a_entPoint a_entPending po wv wu wm mk hd pr nu rn := by
  have hec : A.2.1 ≤ 256 := by have := G.1; have := G.2.1; omega
  intro d
  induction d with
  | zero =>
    intro e j oc ol wc wl nb sk tn ts tv tu po wv wu wm mk hd pr nu rn he hj X
    have e0 : e = A.2.1 := by omega
    subst e0
    exact br_t (nI_le (by omega) (by omega)) (K j oc ol wc wl nb sk tn ts tv tu po wv wu wm mk hd pr nu rn hj X)
  | succ d ih =>
    intro e j oc ol wc wl nb sk tn ts tv tu po wv wu wm mk hd pr nu rn he hj X
    have x := X e (by omega)
    have gi := G.2.2 e (by omega)
    refine br_f (nI_ge (by omega) (by omega)) ⟨vp_in_nI (by omega) (by omega), ?_⟩
    rw [nI_clamp (by omega), x.2.1]
    refine pk_eq (A.2.2.2.1 e) i (fun e1 => ?_) (fun e1 => nm_r (nI_1 e) (ih (e + 1) j oc ol wc wl nb sk tn ts tv tu po wv wu wm mk hd pr nu rn (by omega) ⟨j, hj, Or.inr ⟨e1, rfl⟩⟩ X)) rfl rfl (by omega) (by omega)
    refine xo_find (e := e) (i := i) (by omega) (by omega) hnn hvs (by rw [x.2.1, e1]) (fun _ => ⟨H, I⟩) gi.1 x.1 ?_
    intro c ol2 wc2 wl2 nb2 sk2 tn2 ts2 tv2 tu2 po2 wv2 wu2 wm2 mk2 hd2 pr2 nu2 rn2 hc O F hl
    refine xi_truth hl (xj_ok (nm_r (nI_1 e) ?_))
    refine ih (e + 1) _ _ ol2 wc2 wl2 nb2 sk2 tn2 ts2 tv2 tu2 po2 wv2 wu2 wm2 mk2 hd2 pr2 nu2 rn2 (by omega) ⟨j, hj, Or.inl ⟨e1, ol2, ⟨c, hc, hl⟩, rfl⟩⟩ (fun f hf => ?_)
    exact ⟨xs_Fl_S hvs (G.2.2 f hf).1.1 F (by omega) (X f hf).1, (X f hf).2⟩
end
/-- the two outcomes that Y tries are those that there are -/
theorem lk_two {vs nn i op a b : Nat} {S : gr_S} {c : Nat} (hi : i < nn) (C : xo_C nn i op a b S c) : (∃ k, k < c ∧ xo_L vs op a b S k) ↔ ((gr_ok op a b 0 S ∧ xo_L vs op a b S 0) ∨ (gr_ok op a b 1 S ∧ xo_L vs op a b S 1)) := by
  rcases C with ⟨z, e⟩ | ⟨_, nb, z3⟩
  · have hb : gr_bad op a b S := z.elim (fun z => by omega) id
    refine ⟨fun ⟨k, hk, _⟩ => by omega, fun w => ?_⟩
    rcases w with w | w
    · exact absurd hb w.1.1
    · exact absurd hb w.1.1
  · have ok0 : gr_ok op a b 0 S := ⟨nb, fun z => by omega⟩
    rcases z3 with ⟨ok1, e⟩ | ⟨nok, e⟩
    · refine ⟨fun ⟨k, hk, hl⟩ => ?_, fun w => ?_⟩
      · rcases (show k = 0 ∨ k = 1 by omega) with q | q
        · subst q; exact Or.inl ⟨ok0, hl⟩
        · subst q; exact Or.inr ⟨ok1, hl⟩
      · rcases w with w | w
        · exact ⟨0, by omega, w.2⟩
        · exact ⟨1, by omega, w.2⟩
    · refine ⟨fun ⟨k, hk, hl⟩ => ?_, fun w => ?_⟩
      · have q : k = 0 := by omega
        subst q; exact Or.inl ⟨ok0, hl⟩
      · rcases w with w | w
        · exact ⟨0, by omega, w.2⟩
        · exact absurd w.1 nok
section
variable {vs el nn i op a b t e : Nat} {A : gr_A}
variable {f_vars f_cells f_lengthLimit f_entryLimit f_n f_pc f_lostCells f_machine f_analysis f_count f_gone f_fixed : Int32} {a_prog a_at a_pend a_size a_place a_succ a_many a_num a_newSucc a_newMany : Nat → Int32}
/-- one try -/
theorem lk_it {post : Int32 → SY → Prop} {J31 : Int32 → Int32 → Int32 → Int32 → Int32 → Int32 → Int32 → Int32 → Int32 → Int32 → Int32 → Int32 → Int32 → Int32 → (Nat → Int32) → (Nat → Int32) → (Nat → Int32) → (Nat → Int32) → (Nat → Int32) → (Nat → Int32) → (Nat → Int32) → (Nat → Int32) → (Nat → Int32) → (Nat → Int32) → Prop} {x2 x4 : Int32} {k m : Nat} {B : Prop} (hk : k < 2) (hvs : vs ≤ 3) (hi : i < 32) (he : e < A.2.1) (hp : A.2.2.2.1 e = i) (H : ys_I i op a b t a_prog) (I : gr_ins vs op a b t) (G : gE vs el A) (YE : yE vs A a_size a_place a_succ a_many a_at a_pend) (hx : gr_tv x4 B)
    (K : ∀ x4' gn nu ns nm sz pl su ma, gr_tv x4' (B ∨ (gr_ok op a b k (A.2.2.1 e) ∧ xo_L vs op a b (A.2.2.1 e) k)) → yE vs A sz pl su ma a_at a_pend → ys_F6 a_size a_place a_succ a_many sz pl su ma → wY_leaks_45 post J31 (nI i) x2 (nI e) m x4' (nI (k + 1)) (nI vs) f_cells f_lengthLimit f_entryLimit f_n f_pc f_lostCells f_machine f_analysis f_count gn f_fixed a_prog a_at a_pend sz pl su ma nu ns nm) :
    wY_leaks_45 post J31 (nI i) x2 (nI e) (m + 1) x4 (nI k) (nI vs) f_cells f_lengthLimit f_entryLimit f_n f_pc f_lostCells f_machine f_analysis f_count f_gone f_fixed a_prog a_at a_pend a_size a_place a_succ a_many a_num a_newSucc a_newMany := by
  have hec : A.2.1 ≤ 256 := by have := G.1; have := G.2.1; omega
  have y := YE e he
  have gi := G.2.2 e he
  refine br_f (nI_ge (b := 2) (by omega) (by omega)) ⟨vp_in_nI (by omega) (by omega), ?_⟩
  rw [nI_clamp (by omega), y.2.1, hp]
  refine br_t rfl (yo_out (by omega) hi hvs (by omega) H I gi.1 y.1 (fun ok gn nu ns nm sz pl su ma _ F hgn hL => ?_) (fun nok sz pl su ma F => ?_))
  · refine pk_le gn 0 (fun z => nm_r (nI_1 k) (K x4 _ nu ns nm sz pl su ma (gr_tv_iff ⟨Or.inl, fun w => ?_⟩ hx) (yE_F hvs G (by omega) F YE) (ys_F6s (by omega) F))) (fun z => nm_r (nI_1 k) (K 1 _ nu ns nm sz pl su ma (gr_tv_t (Or.inr ⟨ok, hL.mp z⟩)) (yE_F hvs G (by omega) F YE) (ys_F6s (by omega) F)))
    rcases w with w | w
    · exact w
    · have := hL.mpr w.2; omega
  · refine br_t (by decide) (nm_r (nI_1 k) (K x4 _ a_num a_newSucc a_newMany sz pl su ma (gr_tv_iff ⟨Or.inl, fun w => ?_⟩ hx) (yE_F hvs G (by omega) F YE) (ys_F6s (by omega) F)))
    rcases w with w | w
    · exact w
    · exact absurd w.1 nok
theorem lk_86 {post : Int32 → SY → Prop} {J31 : Int32 → Int32 → Int32 → Int32 → Int32 → Int32 → Int32 → Int32 → Int32 → Int32 → Int32 → Int32 → Int32 → Int32 → (Nat → Int32) → (Nat → Int32) → (Nat → Int32) → (Nat → Int32) → (Nat → Int32) → (Nat → Int32) → (Nat → Int32) → (Nat → Int32) → (Nat → Int32) → (Nat → Int32) → Prop} {x4 j : Int32} (hi : i < 32) (he : e < A.2.1) (hec : A.2.1 ≤ 256) (h40 : A.2.2.2.1 e ≤ 40) (YE : yE vs A a_size a_place a_succ a_many a_at a_pend) (K1 : A.2.2.2.1 e = i → J31 (gr_join j x4) (nI (e + 1)) f_vars f_cells f_lengthLimit f_entryLimit f_n f_pc f_lostCells f_machine f_analysis f_count f_gone f_fixed a_prog a_at a_pend a_size a_place a_succ a_many a_num a_newSucc a_newMany) (K0 : A.2.2.2.1 e ≠ i → J31 j (nI (e + 1)) f_vars f_cells f_lengthLimit f_entryLimit f_n f_pc f_lostCells f_machine f_analysis f_count f_gone f_fixed a_prog a_at a_pend a_size a_place a_succ a_many a_num a_newSucc a_newMany) : wY_leaks_86 post J31 (nI i) j (nI e) x4 f_vars f_cells f_lengthLimit f_entryLimit f_n f_pc f_lostCells f_machine f_analysis f_count f_gone f_fixed a_prog a_at a_pend a_size a_place a_succ a_many a_num a_newSucc a_newMany := by
  have y := YE e he
  refine And.intro (vp_in_nI (by omega) (by omega)) ?_
  rw [nI_clamp (by omega), y.2.1]
  exact pk_eq (A.2.2.2.1 e) i (fun e1 => yj_ok (nm_r (nI_1 e) (K1 e1))) (fun e1 => nm_r (nI_1 e) (K0 e1)) rfl rfl (by omega) (by omega)
theorem lk_y {post : Int32 → SY → Prop} (hvs : vs ≤ 3) (hnn : nn ≤ 32) (hi : i < nn) (H : ys_I i op a b t a_prog) (I : gr_ins vs op a b t) (G : gE vs el A) {sz0 pl0 su0 ma0 : Nat → Int32}
    (K : ∀ j gn nu ns nm sz pl su ma, jn (lk_Q vs nn i op a b A) A.2.2.2.1 i A.2.1 j → yE vs A sz pl su ma a_at a_pend → ys_F6 sz0 pl0 su0 ma0 sz pl su ma → post j (nI vs, f_cells, f_lengthLimit, f_entryLimit, nI nn, f_pc, f_lostCells, f_machine, f_analysis, nI A.2.1, gn, f_fixed, a_prog, a_at, a_pend, sz, pl, su, ma, nu, ns, nm)) :
    ∀ d e j gn nu ns nm sz pl su ma, e + d = A.2.1 → jn (lk_Q vs nn i op a b A) A.2.2.2.1 i e j → yE vs A sz pl su ma a_at a_pend → ys_F6 sz0 pl0 su0 ma0 sz pl su ma → wY_leaks_31 post (nI i) (d + 1) j (nI e) (nI vs) f_cells f_lengthLimit f_entryLimit (nI nn) f_pc f_lostCells f_machine f_analysis (nI A.2.1) gn f_fixed a_prog a_at a_pend sz pl su ma nu ns nm := by
  have hec : A.2.1 ≤ 256 := by have := G.1; have := G.2.1; omega
  intro d
  induction d with
  | zero =>
    intro e j gn nu ns nm sz pl su ma he hj Y F
    have e0 : e = A.2.1 := by omega
    subst e0
    exact br_t (nI_le (by omega) (by omega)) (K j gn nu ns nm sz pl su ma hj Y F)
  | succ d ih =>
    intro e j gn nu ns nm sz pl su ma he hj Y F
    have y := Y e (by omega)
    have gi := G.2.2 e (by omega)
    refine br_f (nI_ge (by omega) (by omega)) (Exists.intro 3 ?_)
    rcases Nat.decEq (A.2.2.2.1 e) i with z | z
    · refine br_f (by decide) ⟨vp_in_nI (by omega) (by omega), ?_⟩
      rw [nI_clamp (by omega), y.2.1]
      refine pk_eq (A.2.2.2.1 e) i (fun w => absurd w z) (fun _ => ?_) rfl rfl (by omega) (by omega)
      exact lk_86 (by omega) (by omega) hec gi.2 Y (fun w => absurd w z) (fun _ => ih (e + 1) j gn nu ns nm sz pl su ma (by omega) ⟨j, hj, Or.inr ⟨z, rfl⟩⟩ Y F)
    · obtain ⟨c, hc⟩ := xo_C_ex nn i op a b (A.2.2.1 e)
      refine lk_it (k := 0) (B := False) (by omega) hvs (by omega) (by omega) z H I G Y (gr_tv_f id) (fun x4 gn2 nu2 ns2 nm2 sz2 pl2 su2 ma2 h4 Y2 F2 => ?_)
      refine lk_it (k := 1) (by omega) hvs (by omega) (by omega) z H I G Y2 h4 (fun x5 gn3 nu3 ns3 nm3 sz3 pl3 su3 ma3 h5 Y3 F3 => ?_)
      refine br_t (by decide) (lk_86 (by omega) (by omega) hec gi.2 Y3 (fun _ => ?_) (fun w => absurd z w))
      refine ih (e + 1) _ gn3 nu3 ns3 nm3 sz3 pl3 su3 ma3 (by omega) ⟨j, hj, Or.inl ⟨z, x5, ⟨c, hc, gr_tv_iff ?_ h5⟩, rfl⟩⟩ Y3 (ys_F6t F (ys_F6t F2 F3))
      rw [lk_two hi hc]
      exact ⟨fun w => w.elim (fun w => w.elim (fun w => w.elim) Or.inl) Or.inr, fun w => w.elim (fun w => Or.inl (Or.inr w)) Or.inr⟩
end
theorem i_vc_leaks {k : Nat} {u : SX} {v : SY} (I : i_Rel k u v) (hk : k + 5 ≤ 2564) (v1 : Int32) : wpX_leaks (fun r u' => wpY_leaks (fun r' v' => r' = r ∧ i_Rel (k + 5) u' v') v v1) u v1 := by
  refine re_el (P := fun u v => wpX_leaks (fun r u' => wpY_leaks (fun r' v' => r' = r ∧ i_Rel (k + 5) u' v') v v1) u v1) I ?_
  intro vs cl ll el nn pc op pa pb pt mv mh A f_fixed f_machine f_lostCount f_coinBits f_outCount f_outLost f_wCount f_workLost f_numbered f_sumMask f_walkCount f_walkSummary f_walkRing g_gone a_opOf a_aOf a_bOf a_tOf a_machineVar a_cellUsed a_cellLink a_tabNodes a_tabSum a_tabVar a_tabSucc a_entPoint a_entPending a_outPoint a_wVar a_wSucc a_wSum a_mark a_head a_preds a_number a_rawNext b_prog b_at b_pend b_size b_place b_succ b_many b_num b_newSucc b_newMany C
  have C' := C
  obtain ⟨hvs, hcl, hll, hel, hnn, hpc, hfx, P, HX, HY, MW, MX, MY, G, XE, YE⟩ := C
  have hec : A.2.1 ≤ 256 := by have := G.1; have := G.2.1; omega
  rcases pk_ix v1 (n := nn) (by omega) with h | h | ⟨i, hi, rfl⟩
  · exact br_t h (br_t h ⟨rfl, re_in C'⟩)
  · obtain ⟨h1, h2⟩ := ix_ge_n (by omega) h
    exact br_f h1 (br_f h2 (br_f h1 (br_f h2 ⟨rfl, re_in C'⟩)))
  · have p := nI_pos (n := i) (by omega)
    have lt := nI_lt hi (show nn < 2 ^ 31 by omega)
    refine br_f p (br_t lt (br_c (fun h2 => ?_) (fun h2 => br_f p (br_t lt (br_f h2 ⟨rfl, re_in C'⟩)))))
    refine Exists.intro (A.2.1 + 1) (lk_x hvs.2 (show nn ≤ 32 by omega) hi (HX i hi) (P i hi) G (fun j oc ol wc wl nb sk tn ts tv tu po wv wu wm mk hd pr nu rn hj X => ?_) A.2.1 0 (-9) f_outCount f_outLost f_wCount f_workLost f_numbered f_sumMask a_tabNodes a_tabSum a_tabVar a_tabSucc a_outPoint a_wVar a_wSucc a_wSum a_mark a_head a_preds a_number a_rawNext (by omega) rfl XE)
    refine br_f p (br_t lt (br_t h2 (Exists.intro (A.2.1 + 1) (lk_y hvs.2 (show nn ≤ 32 by omega) hi (HY i hi) (P i hi) G (fun j' gn nu2 ns nm sz pl su ma hj' Y2 F2 => ⟨?_, ?_⟩) A.2.1 0 (-9) g_gone b_num b_newSucc b_newMany b_size b_place b_succ b_many (by omega) rfl YE ys_F60))))
    · exact jn_u (Q := lk_Q vs nn i (op i) (pa i) (pb i) A) (pp := A.2.2.2.1) (w := i) (ec := A.2.1) (fun e r r' _ q q' => lk_Q_u q q') A.2.1 (Nat.le_refl _) j j' hj hj'
    · exact re_in ⟨hvs, hcl, hll, hel, hnn, hpc, hfx, P, HX, HY, MW, MX, ys_F6S hvs.2 (by show cl ≤ 40; omega) F2 MY, G, X, Y2⟩
end
