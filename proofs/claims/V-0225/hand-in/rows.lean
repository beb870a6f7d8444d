section
theorem pk_us {f : Nat → Int32} {k : Nat} {x : Int32} : upd f k x k = x := if_pos rfl
theorem pk_un {f : Nat → Int32} {k j : Nat} {x : Int32} (h : j ≠ k) : upd f k x j = f j := if_neg h
theorem pk_uLs {f : Nat → Int64} {k : Nat} {x : Int64} : vp_updL f k x k = x := if_pos rfl
theorem pk_uLn {f : Nat → Int64} {k j : Nat} {x : Int64} (h : j ≠ k) : vp_updL f k x j = f j := if_neg h
theorem pk_sub {a b : Nat} (h : b ≤ a) : nI a - nI b = nI (a - b) := by
  obtain ⟨c, rfl⟩ : ∃ c, a = c + b := ⟨a - b, by omega⟩
  rw [← nI_add, Int32.add_sub_cancel, Nat.add_sub_cancel]
theorem pk_m1 (n : Nat) : nI (n + 1) + (-1) = nI n := by
  rw [← nI_1, Int32.add_assoc, show (1 : Int32) + (-1) = 0 from rfl, Int32.add_zero]
theorem pk_mul (a b : Nat) : nI a * nI b = nI (a * b) := (Int32.ofNat_mul a b).symm
theorem pk_div {a d : Nat} (ha : a < 2 ^ 31) (h0 : 0 < d) (hd : d < 2 ^ 31) : nI a / nI d = nI (a / d) := by
  apply Int32.toInt_inj.mp
  rw [lg_idiv_nonneg (by rw [nI_toInt ha]; omega) (by rw [nI_toInt hd]; omega), nI_toInt ha, nI_toInt hd, nI_toInt (Nat.lt_of_le_of_lt (Nat.div_le_self a d) ha)]
  first | rfl | exact (Int.natCast_ediv _ _).symm
theorem pk_rem {a d : Nat} (ha : a < 2 ^ 31) (h0 : 0 < d) (hd : d < 2 ^ 31) : nI a - nI a / nI d * nI d = nI (a % d) := by
  rw [pk_div ha h0 hd, pk_mul, pk_sub (Nat.div_mul_le_self a d)]
  exact congrArg nI (by have := Nat.div_add_mod' a d; omega)
theorem pk_sub_toInt {a b : Nat} (ha : a < 2 ^ 30) (hb : b < 2 ^ 30) : (nI a - nI b).toInt = (a : Int) - b := by
  rw [Int32.toInt_sub, nI_toInt (by omega), nI_toInt (by omega)]
  exact Int.bmod_eq_of_le (by omega) (by omega)
theorem pk_sneg {a b : Nat} (hb : b < 2 ^ 30) (h : a < b) : nI a - nI b < 0 := by
  rw [Int32.lt_iff_toInt_lt, pk_sub_toInt (by omega) hb, show (0 : Int32).toInt = 0 from by decide]
  omega
theorem pk_ix (x : Int32) {n : Nat} (hn : n < 2 ^ 31) : x < 0 ∨ nI n ≤ x ∨ ∃ j : Nat, j < n ∧ x = nI j := by
  by_cases h : x < 0
  · exact Or.inl h
  · obtain ⟨j, hj, rfl⟩ := nI_of h
    by_cases h2 : j < n
    · exact Or.inr (Or.inr ⟨j, h2, rfl⟩)
    · exact Or.inr (Or.inl (nI_le (by omega) hj))
theorem pk_le {x y : Int32} {A B : Prop} (a b : Nat) (f : a ≤ b → A) (g : b < a → B) (hx : x = nI a := by rfl) (hy : y = nI b := by rfl) (ha : a < 2 ^ 31 := by omega) (hb : b < 2 ^ 31 := by omega) : (x ≤ y → A) ∧ (¬ x ≤ y → B) := by
  subst hx hy
  rw [nI_leI ha hb]
  exact ⟨f, fun z => g (by omega)⟩
theorem pk_lt {x y : Int32} {A B : Prop} (a b : Nat) (f : a < b → A) (g : b ≤ a → B) (hx : x = nI a := by rfl) (hy : y = nI b := by rfl) (ha : a < 2 ^ 31 := by omega) (hb : b < 2 ^ 31 := by omega) : (x < y → A) ∧ (¬ x < y → B) := by
  subst hx hy
  rw [nI_ltI ha hb]
  exact ⟨f, fun z => g (by omega)⟩
theorem pk_eq {x y : Int32} {A B : Prop} (a b : Nat) (f : a = b → A) (g : a ≠ b → B) (hx : x = nI a := by rfl) (hy : y = nI b := by rfl) (ha : a < 2 ^ 31 := by omega) (hb : b < 2 ^ 31 := by omega) : (x = y → A) ∧ (¬ x = y → B) := by
  subst hx hy
  rw [nI_eq ha hb]
  exact ⟨f, g⟩
theorem pk_in {x : Int32} (n N : Nat) (h : n < N) (hx : x = nI n := by rfl) (hN : N < 2 ^ 31 := by omega) : vp_in x N := by
  subst hx
  exact vp_in_nI h hN
theorem pk_cl {x : Int32} (n : Nat) (hx : x = nI n := by rfl) (h : n < 2 ^ 31 := by omega) : x.toNatClampNeg = n := by
  subst hx
  exact nI_clamp h
theorem pk_tn {n : Nat} (h : n < 2 ^ 32) : (nI n).toBitVec.toNat = n := Nat.mod_eq_of_lt h
theorem pk_and (x : Int32) {m : Int32} (k : Nat) (hm : m.toBitVec.toNat = 2 ^ k - 1) : x &&& m = nI (x.toBitVec.toNat % 2 ^ k) := by
  apply Int32.toBitVec_inj.mp
  apply BitVec.eq_of_toNat_eq
  rw [Int32.toBitVec_and, BitVec.toNat_and, hm, Nat.and_two_pow_sub_one_eq_mod]
  show _ = (BitVec.ofNat 32 _).toNat
  rw [BitVec.toNat_ofNat]
  exact (Nat.mod_eq_of_lt (Nat.lt_of_le_of_lt (Nat.mod_le _ _) x.toBitVec.isLt)).symm
theorem pk_andN {n : Nat} (h : n < 2 ^ 32) {m : Int32} (k : Nat) (hm : m.toBitVec.toNat = 2 ^ k - 1) : nI n &&& m = nI (n % 2 ^ k) := by
  rw [pk_and _ k hm, pk_tn h]
theorem pk_andE (x : Int32) {m : Int32} (k : Nat) (hm : m.toBitVec.toNat = 2 ^ k - 1) : ∃ j : Nat, j < 2 ^ k ∧ x &&& m = nI j := ⟨_, Nat.mod_lt _ (Nat.two_pow_pos k), pk_and x k hm⟩
theorem pk_andIn (x : Int32) {m : Int32} (k : Nat) (hm : m.toBitVec.toNat = 2 ^ k - 1) (hk : k ≤ 30) : vp_in (x &&& m) (2 ^ k) := by
  obtain ⟨j, hj, e⟩ := pk_andE x k hm
  rw [e]
  exact vp_in_nI hj (Nat.lt_of_le_of_lt (Nat.pow_le_pow_right (by decide) hk) (by decide))
theorem pk_shl (a s : Int32) (k : Nat) (hs : (s.toBitVec.smod 32).toNat = k) : (a <<< s).toBitVec.toNat = a.toBitVec.toNat * 2 ^ k % 2 ^ 32 := by
  show (a.toBitVec <<< (s.toBitVec.smod 32).toNat).toNat = _
  rw [hs, BitVec.toNat_shiftLeft, Nat.shiftLeft_eq]
theorem pk_shlN {n : Nat} (s : Int32) (k : Nat) (hs : (s.toBitVec.smod 32).toNat = k) (h : n * 2 ^ k < 2 ^ 32) : nI n <<< s = nI (n * 2 ^ k) := by
  apply Int32.toBitVec_inj.mp
  apply BitVec.eq_of_toNat_eq
  have hn : n < 2 ^ 32 := Nat.lt_of_le_of_lt (Nat.le_mul_of_pos_right n (Nat.two_pow_pos k)) h
  rw [pk_shl _ _ k hs, pk_tn hn, pk_tn h, Nat.mod_eq_of_lt h]
theorem pk_shr (a s : Int32) (k : Nat) (hs : (s.toBitVec.smod 32).toNat = k) : (a >>> s).toInt = a.toInt >>> k := by
  show (a.toBitVec.sshiftRight (s.toBitVec.smod 32).toNat).toInt = _
  rw [hs, BitVec.toInt_sshiftRight]
  rfl
theorem pk_shrN {n : Nat} (h : n < 2 ^ 31) (s : Int32) (k : Nat) (hs : (s.toBitVec.smod 32).toNat = k) : nI n >>> s = nI (n / 2 ^ k) := by
  apply Int32.toInt_inj.mp
  have h2 : n / 2 ^ k ≤ n := Nat.div_le_self _ _
  rw [pk_shr _ _ k hs, nI_toInt h, nI_toInt (by omega), Int.shiftRight_eq_div_pow]
  rfl
theorem pk_ushr (x s : Int32) (k : Nat) (hs : ((s.toUInt32 &&& Int32.toUInt32 31).toBitVec % 32).toNat = k) : (x.toUInt32 >>> (s.toUInt32 &&& Int32.toUInt32 31)).toInt32.toBitVec.toNat = x.toBitVec.toNat / 2 ^ k := by
  have e : (x.toUInt32 >>> (s.toUInt32 &&& Int32.toUInt32 31)).toInt32.toBitVec = x.toBitVec >>> k := by
    rw [← hs]
    exact UInt32.toBitVec_shiftRight _ _
  rw [e, BitVec.toNat_ushiftRight, Nat.shiftRight_eq_div_pow]
theorem pk_ushrN {n : Nat} (hn : n < 2 ^ 32) (s : Int32) (k : Nat) (hs : ((s.toUInt32 &&& Int32.toUInt32 31).toBitVec % 32).toNat = k) : ((nI n).toUInt32 >>> (s.toUInt32 &&& Int32.toUInt32 31)).toInt32 = nI (n / 2 ^ k) := by
  apply Int32.toBitVec_inj.mp
  apply BitVec.eq_of_toNat_eq
  rw [pk_ushr _ s k hs, pk_tn hn, pk_tn (Nat.lt_of_le_of_lt (Nat.div_le_self _ _) hn)]
theorem ek_v {α : Sort _} {P : α → Prop} {a b : α} (e : a = b) (h : P b) : P a := e ▸ h
def bt (x : Int32) (i : Nat) : Bool := x.toBitVec.getLsbD i
theorem b_ext {x y : Int32} (h : ∀ i, i < 32 → bt x i = bt y i) : x = y := Int32.toBitVec_inj.mp (BitVec.eq_of_getLsbD_eq (fun i hi => h i hi))
theorem b_or (x y : Int32) (i : Nat) : bt (x ||| y) i = (bt x i || bt y i) := by unfold bt; rw [Int32.toBitVec_or, BitVec.getLsbD_or]
theorem b_and (x y : Int32) (i : Nat) : bt (x &&& y) i = (bt x i && bt y i) := by unfold bt; rw [Int32.toBitVec_and, BitVec.getLsbD_and]
theorem b_xor (x y : Int32) (i : Nat) : bt (x ^^^ y) i = (bt x i ^^ bt y i) := by unfold bt; rw [Int32.toBitVec_xor, BitVec.getLsbD_xor]
theorem b_big {x : Int32} {i : Nat} (h : 32 ≤ i) : bt x i = false := BitVec.getLsbD_of_ge _ _ h
theorem b_255 (i : Nat) : bt 255 i = decide (i < 8) := by
  rcases Nat.lt_or_ge i 32 with h | h
  · exact (by decide +kernel : ∀ i, i < 32 → bt 255 i = decide (i < 8)) i h
  · rw [b_big h, decide_eq_false (by omega)]
theorem b_65535 (i : Nat) : bt 65535 i = decide (i < 16) := by
  rcases Nat.lt_or_ge i 32 with h | h
  · exact (by decide +kernel : ∀ i, i < 32 → bt 65535 i = decide (i < 16)) i h
  · rw [b_big h, decide_eq_false (by omega)]
theorem b_m1 : ∀ i, i < 32 → bt (-1) i = true := by decide +kernel
theorem b_0 (i : Nat) : bt 0 i = false := BitVec.getLsbD_zero
theorem s_l : ∀ n, n < 32 → ((nI n &&& 31).toBitVec.smod 32).toNat = n := by decide +kernel
theorem s_u : ∀ n, n < 32 → (((nI n).toUInt32 &&& Int32.toUInt32 31).toBitVec % 32).toNat = n := by decide +kernel
theorem b_shl (n : Nat) (hn : n < 32) (x : Int32) {i : Nat} (hi : i < 32) : bt (x <<< (nI n &&& 31)) i = (decide (n ≤ i) && bt x (i - n)) := by
  unfold bt
  rw [Int32.toBitVec_shiftLeft]
  show (x.toBitVec <<< ((nI n &&& 31).toBitVec.smod 32).toNat).getLsbD i = _
  rw [s_l n hn, BitVec.getLsbD_shiftLeft]
  rcases Nat.lt_or_ge i n with h | h
  · simp [h, Nat.not_le.mpr h]
  · simp [hi, h, Nat.not_lt.mpr h]
theorem b_ushr (n : Nat) (hn : n < 32) (x : Int32) (i : Nat) : bt ((x.toUInt32 >>> ((nI n).toUInt32 &&& Int32.toUInt32 31)).toInt32) i = bt x (n + i) := by
  show (x.toUInt32 >>> ((nI n).toUInt32 &&& Int32.toUInt32 31)).toBitVec.getLsbD i = x.toUInt32.toBitVec.getLsbD (n + i)
  rw [UInt32.toBitVec_shiftRight]
  show (x.toUInt32.toBitVec >>> (((nI n).toUInt32 &&& Int32.toUInt32 31).toBitVec % 32).toNat).getLsbD i = _
  rw [s_u n hn, BitVec.getLsbD_ushiftRight]
theorem b_sshr (n : Nat) (hn : n < 32) (x : Int32) {i : Nat} (hi : i < 32) : bt (x >>> (nI n &&& 31)) i = if n + i < 32 then bt x (n + i) else bt x 31 := by
  unfold bt
  rw [Int32.toBitVec_shiftRight]
  show (x.toBitVec.sshiftRight ((nI n &&& 31).toBitVec.smod 32).toNat).getLsbD i = _
  rw [s_l n hn, BitVec.getLsbD_sshiftRight, BitVec.msb_eq_getLsbD_last]
  simp [hi]
theorem b_shl8 (x : Int32) {i : Nat} (hi : i < 32) : bt (x <<< ((8 : Int32) &&& 31)) i = (decide (8 ≤ i) && bt x (i - 8)) := b_shl 8 (by omega) x hi
theorem b_shl16 (x : Int32) {i : Nat} (hi : i < 32) : bt (x <<< ((16 : Int32) &&& 31)) i = (decide (16 ≤ i) && bt x (i - 16)) := b_shl 16 (by omega) x hi
theorem b_shl24 (x : Int32) {i : Nat} (hi : i < 32) : bt (x <<< ((24 : Int32) &&& 31)) i = (decide (24 ≤ i) && bt x (i - 24)) := b_shl 24 (by omega) x hi
theorem b_sshr8 (x : Int32) {i : Nat} (hi : i < 32) : bt (x >>> ((8 : Int32) &&& 31)) i = if 8 + i < 32 then bt x (8 + i) else bt x 31 := b_sshr 8 (by omega) x hi
end
section
/-! ===== pure: games on positions (node, state), certificates, the nested evaluation ===== -/
abbrev pg_P : Type := Nat × Nat
abbrev pg_S : Type := pg_P → Prop
abbrev pg_M : Type := pg_P → Nat → Prop
abbrev pg_D (N S : Nat) (p : pg_P) : Prop := p.1 < N ∧ p.2 < S
theorem pg_mono {α : Type} {r r' : α → α → Prop} (f : ∀ a b, r a b → r' a b) {a b : α} (h : Relation.TransGen r a b) : Relation.TransGen r' a b := by
  induction h with
  | single e => exact .single (f _ _ e)
  | tail _ e ih => exact .tail ih (f _ _ e)
theorem pg_inv {α : Type} {r : α → α → Prop} {I : α → Prop} (f : ∀ a b, r a b → I a → I b) {a b : α} (h : Relation.TransGen r a b) (ha : I a) : I b := by
  induction h with
  | single e => exact f _ _ e ha
  | tail _ e ih => exact f _ _ e ih
theorem pg_monoI {α : Type} {r r' : α → α → Prop} {I : α → Prop} (f : ∀ a b, r a b → I a → I b ∧ r' a b) {a b : α} (h : Relation.TransGen r a b) (ha : I a) : I b ∧ Relation.TransGen r' a b := by
  induction h with
  | single e => exact ⟨(f _ _ e ha).1, .single (f _ _ e ha).2⟩
  | tail _ e ih => exact ⟨(f _ _ e ih.1).1, .tail ih.2 (f _ _ e ih.1).2⟩
noncomputable def pg_b (p : Prop) : Nat := @ite Nat p (Classical.propDecidable p) 1 0
theorem pg_b1 {p : Prop} (h : p) : pg_b p = 1 := @if_pos p (Classical.propDecidable p) h Nat 1 0
theorem pg_b0 {p : Prop} (h : ¬ p) : pg_b p = 0 := @if_neg p (Classical.propDecidable p) h Nat 1 0
theorem pg_ble (p : Prop) : pg_b p ≤ 1 := by
  rcases Classical.em p with h | h
  · rw [pg_b1 h]; exact Nat.le_refl _
  · rw [pg_b0 h]; exact Nat.zero_le _
theorem pg_bmono {p q : Prop} (f : p → q) : pg_b p ≤ pg_b q := by
  rcases Classical.em p with h | h
  · rw [pg_b1 h, pg_b1 (f h)]; exact Nat.le_refl _
  · rw [pg_b0 h]; exact Nat.zero_le _
noncomputable def pg_cnt (f : Nat → Prop) : Nat → Nat
  | 0 => 0
  | n + 1 => pg_cnt f n + pg_b (f n)
theorem pg_cnt_le (f : Nat → Prop) : ∀ n, pg_cnt f n ≤ n
  | 0 => Nat.le_refl _
  | n + 1 => by
    have h := pg_cnt_le f n
    have g := pg_ble (f n)
    show pg_cnt f n + pg_b (f n) ≤ n + 1
    omega
theorem pg_cnt_mono {f g : Nat → Prop} : ∀ n, (∀ i, i < n → f i → g i) → pg_cnt f n ≤ pg_cnt g n
  | 0, _ => Nat.le_refl _
  | n + 1, h => by
    have a := pg_cnt_mono n (fun i hi => h i (by omega))
    have b := pg_bmono (h n (by omega))
    show pg_cnt f n + pg_b (f n) ≤ pg_cnt g n + pg_b (g n)
    omega
theorem pg_cnt_lt {f g : Nat → Prop} {j : Nat} (hg : g j) (hf : ¬ f j) : ∀ n, j < n → (∀ i, i < n → f i → g i) → pg_cnt f n < pg_cnt g n
  | 0, hj, _ => absurd hj (by omega)
  | n + 1, hj, h => by
    show pg_cnt f n + pg_b (f n) < pg_cnt g n + pg_b (g n)
    rcases Nat.lt_or_ge j n with hl | hl
    · have a := pg_cnt_lt hg hf n hl (fun i hi => h i (by omega))
      have b := pg_bmono (h n (by omega))
      omega
    · have e : j = n := by omega
      subst e
      have a := pg_cnt_mono j (fun i hi => h i (by omega))
      rw [pg_b1 hg, pg_b0 hf]
      omega
theorem pg_cnt_full (n : Nat) : pg_cnt (fun _ => True) n = n := by
  induction n with
  | zero => rfl
  | succ n ih => show pg_cnt (fun _ => True) n + pg_b True = n + 1; rw [ih, pg_b1 trivial]
theorem pg_cnt_ltn {f : Nat → Prop} {j n : Nat} (hj : j < n) (hf : ¬ f j) : pg_cnt f n < n := by
  have h := pg_cnt_lt (f := f) (g := fun _ => True) trivial hf n hj (fun _ _ _ => trivial)
  rw [pg_cnt_full] at h
  exact h
/-- size of a set of positions, nodes below 14, states below 5 -/
noncomputable def pg_sz (A : pg_S) : Nat := pg_cnt (fun i => A (i / 5, i % 5)) 70
theorem pg_sz_le (A : pg_S) : pg_sz A ≤ 70 := pg_cnt_le _ _
theorem pg_sz_mono {A B : pg_S} (h : ∀ p, A p → B p) : pg_sz A ≤ pg_sz B := pg_cnt_mono 70 (fun _ _ => h _)
theorem pg_sz_lt {A B : pg_S} {p : pg_P} (h : ∀ q, A q → B q) (hB : B p) (hA : ¬ A p) (h1 : p.1 < 14) (h2 : p.2 < 5) : pg_sz A < pg_sz B := by
  have e1 : (p.1 * 5 + p.2) / 5 = p.1 := by omega
  have e2 : (p.1 * 5 + p.2) % 5 = p.2 := by omega
  refine pg_cnt_lt (j := p.1 * 5 + p.2) ?_ ?_ 70 (by omega) (fun _ _ => h _)
  · rw [e1, e2]; exact hB
  · rw [e1, e2]; exact hA
/-! the game -/
abbrev pg_E (nx : pg_P → Nat → pg_P) (mv : pg_M) (own : pg_P → Nat) (P : Nat) (σ : pg_P → Nat) (W : pg_S) (p q : pg_P) : Prop :=
  W p ∧ W q ∧ ∃ m, mv p m ∧ (own p = P → m = σ p) ∧ q = nx p m
abbrev pg_ge (b : Nat) (R : pg_P → pg_P → Prop) (p q : pg_P) : Prop := R p q ∧ b ≤ p.1 ∧ b ≤ q.1
abbrev pg_Cert (N S : Nat) (nx : pg_P → Nat → pg_P) (mv : pg_M) (own : pg_P → Nat) (bk : Nat → Nat → Prop) (P : Nat) (W : pg_S) (σ : pg_P → Nat) : Prop :=
  (∀ p, W p → pg_D N S p) ∧
  (∀ p, W p → own p = P → mv p (σ p) ∧ W (nx p (σ p))) ∧
  (∀ p, W p → own p ≠ P → ∀ m, mv p m → W (nx p m)) ∧
  (∀ v, W v → bk P v.1 → ¬ Relation.TransGen (pg_ge v.1 (pg_E nx mv own P σ W)) v v)
abbrev pg_St (N S : Nat) (nx : pg_P → Nat → pg_P) (vr bd : Nat → Prop) (dep : Nat → Nat) (anc : Nat → Nat → Prop) (mv : pg_M) (own : pg_P → Nat) (bk : Nat → Nat → Prop) : Prop :=
  (∀ p m, pg_D N S p → mv p m → pg_D N S (nx p m)) ∧
  (∀ p m, pg_D N S p → mv p m → ¬ vr p.1 → p.1 < (nx p m).1 ∧ ∀ b, anc b p.1 → anc b (nx p m).1) ∧
  (∀ p m, pg_D N S p → mv p m → vr p.1 → bd (nx p m).1 ∧ ∀ b, anc b p.1 → (b ≤ (nx p m).1 → anc b (nx p m).1) ∧ ((nx p m).1 ≤ b → anc (nx p m).1 b)) ∧
  (∀ b, anc b b) ∧
  (∀ b n, n < N → anc b n → b ≠ n → bd b → bd n → dep b < dep n) ∧
  (∀ n, n < N → bd n → dep n < 3) ∧
  (∀ p, pg_D N S p → own p = 2 → ∀ m, mv p m ↔ m = 0) ∧
  (∀ p, pg_D N S p → (vr p.1 ∨ bd p.1) → own p = 2) ∧
  (∀ n, bd n ↔ (bk 0 n ∨ bk 1 n)) ∧ (∀ n, ¬ (bk 0 n ∧ bk 1 n)) ∧
  (∀ p, pg_D N S p → own p ≤ 2)
abbrev pg_Hd (nx : pg_P → Nat → pg_P) (vr : Nat → Prop) (mv : pg_M) (own : pg_P → Nat) (st set : pg_S) (p : pg_P) : Prop :=
  (vr p.1 → st (nx p 0)) ∧ (¬ vr p.1 → (own p = 0 → ∃ m, mv p m ∧ set (nx p m)) ∧ (own p ≠ 0 → ∀ m, mv p m → set (nx p m)))
abbrev pg_Sw (N S : Nat) (nx : pg_P → Nat → pg_P) (vr : Nat → Prop) (mv : pg_M) (own : pg_P → Nat) (st set : pg_S) : Prop :=
  ∀ p, pg_D N S p → (set p ↔ pg_Hd nx vr mv own st set p)
abbrev pg_Fr (N S : Nat) (bd : Nat → Prop) (dep : Nat → Nat) (bk : Nat → Nat → Prop) (d : Nat) (st st' : pg_S) : Prop :=
  ∀ p, pg_D N S p → ((bd p.1 ∧ dep p.1 = d) → (st' p ↔ bk 1 p.1)) ∧ (¬ (bd p.1 ∧ dep p.1 = d) → (st' p ↔ st p))
abbrev pg_As (N S : Nat) (bd : Nat → Prop) (dep : Nat → Nat) (d : Nat) (set st st' : pg_S) : Prop :=
  ∀ p, pg_D N S p → ((bd p.1 ∧ dep p.1 = d) → (st' p ↔ set p)) ∧ (¬ (bd p.1 ∧ dep p.1 = d) → (st' p ↔ st p))
abbrev pg_X : Type := pg_S × pg_S
def pg_It (R : pg_X → pg_X → Prop) : Nat → pg_X → pg_X → Prop
  | 0, x, y => x = y
  | k + 1, x, y => ∃ z, R x z ∧ pg_It R k z y
def pg_Ev (N S : Nat) (nx : pg_P → Nat → pg_P) (vr bd : Nat → Prop) (dep : Nat → Nat) (mv : pg_M) (own : pg_P → Nat) (bk : Nat → Nat → Prop) : Nat → pg_X → pg_X → Prop
  | 0, x, y => pg_Sw N S nx vr mv own x.2 y.1 ∧ y.2 = x.2
  | l + 1, x, y => ∃ st0, pg_Fr N S bd dep bk (2 - l) x.2 st0 ∧
      pg_It (fun a b => ∃ c, pg_Ev N S nx vr bd dep mv own bk l a c ∧ b.1 = c.1 ∧ pg_As N S bd dep (2 - l) c.1 c.2 b.2) (S + 1) (x.1, st0) y
abbrev pg_In (R : pg_P → pg_P → Prop) (vr : Nat → Prop) (dep : Nat → Nat) (d : Nat) (p q : pg_P) : Prop := R p q ∧ ¬ (vr p.1 ∧ dep q.1 < d)
abbrev pg_U (R : pg_P → pg_P → Prop) (W : pg_S) (vr : Nat → Prop) (dep : Nat → Nat) (st : pg_S) (d : Nat) (p : pg_P) : Prop :=
  W p ∧ ∀ q, (q = p ∨ Relation.TransGen (pg_In R vr dep d) p q) → ∀ r, R q r → vr q.1 → dep r.1 < d → st r
theorem pg_U_step {R : pg_P → pg_P → Prop} {W : pg_S} {vr : Nat → Prop} {dep : Nat → Nat} {st : pg_S} {d : Nat} {p q : pg_P} (hu : pg_U R W vr dep st d p) (hq : W q) (h : pg_In R vr dep d p q) : pg_U R W vr dep st d q := by
  refine ⟨hq, fun x hx => hu.2 x (Or.inr ?_)⟩
  rcases hx with hx | hx
  · rw [hx]; exact .single h
  · exact (Relation.TransGen.single h).trans hx
theorem pg_U_path {R : pg_P → pg_P → Prop} {W : pg_S} {vr : Nat → Prop} {dep : Nat → Nat} {st : pg_S} {d : Nat} {p q : pg_P} (hR : ∀ a b, R a b → W b) (hu : pg_U R W vr dep st d p) (h : q = p ∨ Relation.TransGen (pg_In R vr dep d) p q) : pg_U R W vr dep st d q := by
  rcases h with h | h
  · rw [h]; exact hu
  · exact pg_inv (I := pg_U R W vr dep st d) (fun a b e ha => pg_U_step ha (hR _ _ e.1) e) h hu
section
variable {N S : Nat} {nx : pg_P → Nat → pg_P} {vr bd : Nat → Prop} {dep : Nat → Nat} {anc : Nat → Nat → Prop} {mv : pg_M} {own : pg_P → Nat} {bk : Nat → Nat → Prop}
/-- the last sweep -/
theorem pg_ct_sw (H : pg_St N S nx vr bd dep anc mv own bk) {W : pg_S} {σ : pg_P → Nat} (C : pg_Cert N S nx mv own bk 0 W σ) {st set : pg_S} (hs : pg_Sw N S nx vr mv own st set) :
    ∀ k p, N - p.1 ≤ k → pg_U (pg_E nx mv own 0 σ W) W vr dep st 3 p → set p := by
  obtain ⟨h1, h2, h3, h4, h5, h6, h7, h8, h9, h10, h11⟩ := H
  obtain ⟨c1, c2, c3, c4⟩ := C
  intro k
  induction k with
  | zero =>
    intro p hk hu
    have := (c1 p hu.1).1
    omega
  | succ k ih =>
    intro p hk hu
    have hd := c1 p hu.1
    refine (hs p hd).mpr ⟨fun hv => ?_, fun hv => ⟨fun ho => ?_, fun ho m hm => ?_⟩⟩
    · have ho := h8 p hd (Or.inl hv)
      have hm : mv p 0 := (h7 p hd ho 0).mpr rfl
      have ho0 : own p ≠ 0 := by omega
      have hr : pg_E nx mv own 0 σ W p (nx p 0) := ⟨hu.1, c3 p hu.1 ho0 0 hm, 0, hm, fun z => absurd z ho0, rfl⟩
      exact hu.2 p (Or.inl rfl) _ hr hv (h6 _ (h1 p 0 hd hm).1 (h3 p 0 hd hm hv).1)
    · obtain ⟨hm, hw⟩ := c2 p hu.1 ho
      refine ⟨σ p, hm, ih _ ?_ ?_⟩
      · have a := (h2 p _ hd hm hv).1
        have b := hd.1
        omega
      · exact pg_U_step hu hw ⟨⟨hu.1, hw, σ p, hm, fun _ => rfl, rfl⟩, fun z => hv z.1⟩
    · have hw := c3 p hu.1 ho m hm
      refine ih _ ?_ ?_
      · have a := (h2 p _ hd hm hv).1
        have b := hd.1
        omega
      · exact pg_U_step hu hw ⟨⟨hu.1, hw, m, hm, fun z => absurd z ho, rfl⟩, fun z => hv z.1⟩
/-- height of a position of a MU node: how many states of that node can be come back to -/
noncomputable def pg_ht (S : Nat) (R : pg_P → pg_P → Prop) (v : pg_P) : Nat :=
  pg_cnt (fun s => Relation.TransGen (pg_ge v.1 R) v (v.1, s)) S
theorem pg_ht_lt {R : pg_P → pg_P → Prop} {v : pg_P} (hv : v.2 < S) (h : ¬ Relation.TransGen (pg_ge v.1 R) v v) : pg_ht S R v < S :=
  pg_cnt_ltn hv h
theorem pg_ht_dec {R : pg_P → pg_P → Prop} {v w : pg_P} (hw : w.2 < S) (hn : w.1 = v.1) (h : ¬ Relation.TransGen (pg_ge w.1 R) w w) (hp : Relation.TransGen (pg_ge v.1 R) v w) : pg_ht S R w < pg_ht S R v := by
  have e : w = (v.1, w.2) := by rw [← hn]
  refine pg_cnt_lt (j := w.2) ?_ ?_ S hw (fun i _ hi => ?_)
  · show Relation.TransGen (pg_ge v.1 R) v (v.1, w.2)
    rw [← e]; exact hp
  · show ¬ Relation.TransGen (pg_ge w.1 R) w (w.1, w.2)
    exact h
  · have hi' : Relation.TransGen (pg_ge w.1 R) w (w.1, i) := hi
    rw [hn] at hi'
    exact hp.trans hi'
/-- a path that makes no jump to a binder of depth below d + 1 stays below the binder c of depth d it starts at -/
theorem pg_below (H : pg_St N S nx vr bd dep anc mv own bk) {σ : pg_P → Nat} {W : pg_S} (hW : ∀ p, W p → pg_D N S p) {c d : Nat} (hc : bd c) (hd : dep c = d) {p q : pg_P} (hp : anc c p.1) (hcp : c ≤ p.1)
    (h : pg_In (pg_E nx mv own 0 σ W) vr dep (d + 1) p q) : anc c q.1 ∧ c ≤ q.1 := by
  obtain ⟨h1, h2, h3, h4, h5, h6, h7, h8, h9, h10, h11⟩ := H
  obtain ⟨⟨wp, wq, m, hm, _, rfl⟩, hn⟩ := h
  have hdp := hW p wp
  rcases Classical.em (vr p.1) with hv | hv
  · obtain ⟨hb, ha⟩ := h3 p m hdp hm hv
    have hq : ¬ dep (nx p m).1 < d + 1 := fun z => hn ⟨hv, z⟩
    rcases Nat.lt_or_ge (nx p m).1 c with hl | hl
    · have a := (ha c hp).2 (by omega)
      have b := h5 _ c (by have := hdp.1; omega) a (by omega) hb hc
      omega
    · exact ⟨(ha c hp).1 hl, hl⟩
  · obtain ⟨a, b⟩ := h2 p m hdp hm hv
    exact ⟨b c hp, by omega⟩
theorem pg_it_inv {R : pg_X → pg_X → Prop} {I : Nat → pg_X → Prop} (f : ∀ i a b, I i a → R a b → I (i + 1) b) : ∀ k i x y, I i x → pg_It R k x y → I (i + k) y
  | 0, i, x, y, h, e => by cases e; exact h
  | k + 1, i, x, y, h, e => by
    obtain ⟨z, hz, hy⟩ := e
    have := pg_it_inv f k (i + 1) z y (f i x z h hz) hy
    rw [show i + (k + 1) = i + 1 + k by omega]
    exact this
theorem pg_it_last {R : pg_X → pg_X → Prop} : ∀ k x y, pg_It R (k + 1) x y → ∃ z, pg_It R k x z ∧ R z y
  | 0, x, y, ⟨z, hz, hy⟩ => by cases hy; exact ⟨x, rfl, hz⟩
  | k + 1, x, y, ⟨z, hz, hy⟩ => by
    obtain ⟨w, hw, h⟩ := pg_it_last k z y hy
    exact ⟨w, ⟨z, hz, hw⟩, h⟩
abbrev pg_Iv (N S : Nat) (R : pg_P → pg_P → Prop) (W : pg_S) (vr bd : Nat → Prop) (dep : Nat → Nat) (bk : Nat → Nat → Prop) (d : Nat) (x : pg_X) (i : Nat) (a : pg_X) : Prop :=
  (∀ p, pg_D N S p → dep p.1 < d → bd p.1 → (a.2 p ↔ x.2 p)) ∧
  (∀ p, pg_U R W vr dep x.2 d p → bd p.1 → dep p.1 = d → (bk 0 p.1 → pg_ht S R p < i) → a.2 p)
/-- the evaluation from level l on holds what player 0's certificate holds -/
theorem pg_ct_lv (H : pg_St N S nx vr bd dep anc mv own bk) {W : pg_S} {σ : pg_P → Nat} (C : pg_Cert N S nx mv own bk 0 W σ) :
    ∀ l, l ≤ 3 → ∀ x y, pg_Ev N S nx vr bd dep mv own bk l x y →
      (∀ p, pg_U (pg_E nx mv own 0 σ W) W vr dep x.2 (3 - l) p → y.1 p) ∧ (∀ p, pg_D N S p → dep p.1 < 3 - l → bd p.1 → (y.2 p ↔ x.2 p)) := by
  intro l
  induction l with
  | zero =>
    intro _ x y h
    obtain ⟨hs, he⟩ := h
    exact ⟨fun p hu => pg_ct_sw H C hs (N - p.1) p (Nat.le_refl _) hu, fun p _ _ _ => by rw [he]⟩
  | succ l ih =>
    intro hl x y h
    obtain ⟨st0, hf, hi⟩ := h
    have hl' : l ≤ 3 := by omega
    have e3 : 3 - l = (2 - l) + 1 := by omega
    have e2 : 3 - (l + 1) = 2 - l := by omega
    rw [e2]
    obtain ⟨d, hd⟩ : ∃ d, d = 2 - l := ⟨_, rfl⟩
    rw [← hd] at hf hi e3 ⊢
    have H' := H
    obtain ⟨h1, h2, h3, h4, h5, h6, h7, h8, h9, h10, h11⟩ := H'
    have C' := C
    obtain ⟨c1, c2, c3, c4⟩ := C'
    have hRW : ∀ a b, pg_E nx mv own 0 σ W a b → W b := fun a b e => e.2.1
    -- the invariant of the rounds
    -- what the inner evaluation gives
    have key : ∀ i a c, pg_Iv N S (pg_E nx mv own 0 σ W) W vr bd dep bk d x i a → pg_Ev N S nx vr bd dep mv own bk l a c →
        (∀ p, pg_D N S p → dep p.1 < d → bd p.1 → (c.2 p ↔ x.2 p)) ∧
        (∀ p, pg_U (pg_E nx mv own 0 σ W) W vr dep x.2 d p → bd p.1 → dep p.1 = d → (bk 0 p.1 → pg_ht S (pg_E nx mv own 0 σ W) p < i + 1) → c.1 p) := by
      intro i a c hI hE
      have hE' := ih hl' a c hE
      rw [e3] at hE'
      refine ⟨fun p hp hdp hb => (hE'.2 p hp (by omega) hb).trans (hI.1 p hp hdp hb), fun p hu hb hdp hh => hE'.1 p ⟨hu.1, ?_⟩⟩
      intro q hq r hr hv hdr
      -- q is below p's node
      have hqq : (anc p.1 q.1 ∧ p.1 ≤ q.1) ∧ (q = p ∨ Relation.TransGen (pg_ge p.1 (pg_E nx mv own 0 σ W)) p q) ∧ (q = p ∨ Relation.TransGen (pg_In (pg_E nx mv own 0 σ W) vr dep d) p q) := by
        rcases hq with hq | hq
        · rw [hq]; exact ⟨⟨h4 _, Nat.le_refl _⟩, Or.inl rfl, Or.inl rfl⟩
        · have a1 := pg_monoI (I := fun z => anc p.1 z.1 ∧ p.1 ≤ z.1) (r' := pg_ge p.1 (pg_E nx mv own 0 σ W)) (fun z w e hz => by
            have g := pg_below H (σ := σ) c1 hb hdp hz.1 hz.2 e
            exact ⟨g, e.1, hz.2, g.2⟩) hq ⟨h4 _, Nat.le_refl _⟩
          exact ⟨a1.1, Or.inr a1.2, Or.inr (pg_mono (fun z w e => ⟨e.1, fun u => e.2 ⟨u.1, by omega⟩⟩) hq)⟩
      obtain ⟨⟨q1, q2⟩, q3, q4⟩ := hqq
      have huq := pg_U_path hRW hu q4
      obtain ⟨wq, wr, m, hm, hσ, er⟩ := hr
      have hdq := c1 q wq
      have hdr' := c1 r wr
      have hbr : bd r.1 := by rw [er]; exact (h3 q m hdq hm hv).1
      rcases Nat.lt_or_ge (dep r.1) d with hlt | hge
      · exact (hI.1 r hdr' hlt hbr).mpr (hu.2 q q4 r ⟨wq, wr, m, hm, hσ, er⟩ hv hlt)
      · have hdr2 : dep r.1 = d := by omega
        -- r.1 = p.1
        have hn : r.1 = p.1 := by
          have hanc := (h3 q m hdq hm hv).2 p.1 q1
          rw [← er] at hanc
          rcases Nat.lt_or_ge r.1 p.1 with z | z
          · have := h5 r.1 p.1 (c1 p hu.1).1 (hanc.2 (by omega)) (by omega) hbr hb
            omega
          · rcases Nat.lt_or_ge p.1 r.1 with y' | y'
            · have := h5 p.1 r.1 hdr'.1 (hanc.1 z) (by omega) hb hbr
              omega
            · omega
        have hrU : pg_U (pg_E nx mv own 0 σ W) W vr dep x.2 d r := pg_U_step huq wr ⟨⟨wq, wr, m, hm, hσ, er⟩, fun z => by omega⟩
        refine hI.2 r hrU hbr hdr2 (fun hk => ?_)
        have hk' : bk 0 p.1 := by rw [← hn]; exact hk
        have hpr : Relation.TransGen (pg_ge p.1 (pg_E nx mv own 0 σ W)) p r := by
          have st : pg_ge p.1 (pg_E nx mv own 0 σ W) q r := ⟨⟨wq, wr, m, hm, hσ, er⟩, q2, by omega⟩
          rcases q3 with q3 | q3
          · rw [q3] at st; exact .single st
          · exact .tail q3 st
        have := pg_ht_dec (S := S) hdr'.2 hn (c4 r wr hk) hpr
        have := hh hk'
        omega
    have step : ∀ i a b, pg_Iv N S (pg_E nx mv own 0 σ W) W vr bd dep bk d x i a → (∃ c, pg_Ev N S nx vr bd dep mv own bk l a c ∧ b.1 = c.1 ∧ pg_As N S bd dep d c.1 c.2 b.2) → pg_Iv N S (pg_E nx mv own 0 σ W) W vr bd dep bk d x (i + 1) b := by
      intro i a b hI ⟨c, hE, hb1, hA⟩
      have k := key i a c hI hE
      refine ⟨fun p hp hdp hb => ((hA p hp).2 (fun z => by omega)).trans (k.1 p hp hdp hb), fun p hu hb hdp hh => ((hA p (c1 p hu.1)).1 ⟨hb, hdp⟩).mpr (k.2 p hu hb hdp hh)⟩
    have I0 : pg_Iv N S (pg_E nx mv own 0 σ W) W vr bd dep bk d x 0 (x.1, st0) := by
      refine ⟨fun p hp hdp hb => (hf p hp).2 (fun z => by omega), fun p hu hb hdp hh => ((hf p (c1 p hu.1)).1 ⟨hb, hdp⟩).mpr ?_⟩
      rcases (h9 p.1).mp hb with z | z
      · exact absurd (hh z) (by omega)
      · exact z
    obtain ⟨z, hz, c, hE, hy1, hA⟩ := pg_it_last S (x.1, st0) y hi
    have IS : pg_Iv N S (pg_E nx mv own 0 σ W) W vr bd dep bk d x S z := by
      have := pg_it_inv (I := pg_Iv N S (pg_E nx mv own 0 σ W) W vr bd dep bk d x) step S 0 (x.1, st0) z I0 hz
      rw [Nat.zero_add] at this
      exact this
    have kS := key S z c IS hE
    refine ⟨fun p hu => ?_, fun p hp hdp hb => ((hA p hp).2 (fun w => by omega)).trans (kS.1 p hp hdp hb)⟩
    rw [hy1]
    have hE' := ih hl' z c hE
    rw [e3] at hE'
    refine hE'.1 p ⟨hu.1, ?_⟩
    intro q hq r hr hv hdr
    have q4 : q = p ∨ Relation.TransGen (pg_In (pg_E nx mv own 0 σ W) vr dep d) p q := by
      rcases hq with hq | hq
      · exact Or.inl hq
      · exact Or.inr (pg_mono (fun z w e => ⟨e.1, fun u => e.2 ⟨u.1, by omega⟩⟩) hq)
    have huq := pg_U_path hRW hu q4
    have hr' := hr
    obtain ⟨wq, wr, m, hm, hσ, er⟩ := hr
    have hdr' := c1 r wr
    have hbr : bd r.1 := by rw [er]; exact (h3 q m (c1 q wq) hm hv).1
    rcases Nat.lt_or_ge (dep r.1) d with hlt | hge
    · exact (IS.1 r hdr' hlt hbr).mpr (hu.2 q q4 r hr' hv hlt)
    · exact IS.2 r (pg_U_step huq wr ⟨hr', fun z => by omega⟩) hbr (by omega) (fun hk => pg_ht_lt hdr'.2 (c4 r wr hk))
theorem pg_ct0 (H : pg_St N S nx vr bd dep anc mv own bk) {W : pg_S} {σ : pg_P → Nat} (C : pg_Cert N S nx mv own bk 0 W σ) {x y : pg_X} (h : pg_Ev N S nx vr bd dep mv own bk 3 x y) {p : pg_P} (hp : W p) : y.1 p :=
  (pg_ct_lv H C 3 (Nat.le_refl _) x y h).1 p ⟨hp, fun q _ r _ _ hd => absurd hd (by omega)⟩
end
end
section
/-! ===== pure: the dual game, both halves, uniqueness ===== -/
def pg_fl (o : Nat) : Nat := if o = 0 then 1 else if o = 1 then 0 else o
theorem pg_fl2 (o : Nat) : pg_fl o = 2 ↔ o = 2 := by unfold pg_fl; split <;> (try split) <;> omega
theorem pg_fl0 (o : Nat) : pg_fl o = 0 ↔ o = 1 := by unfold pg_fl; split <;> (try split) <;> omega
theorem pg_fl1 (o : Nat) : pg_fl o = 1 ↔ o = 0 := by unfold pg_fl; split <;> (try split) <;> omega
theorem pg_fl_le {o : Nat} (h : o ≤ 2) : pg_fl o ≤ 2 := by unfold pg_fl; split <;> (try split) <;> omega
section
variable {N S : Nat} {nx : pg_P → Nat → pg_P} {vr bd : Nat → Prop} {dep : Nat → Nat} {anc : Nat → Nat → Prop} {mv : pg_M} {own : pg_P → Nat} {bk : Nat → Nat → Prop}
theorem pg_St_dual (H : pg_St N S nx vr bd dep anc mv own bk) : pg_St N S nx vr bd dep anc mv (fun p => pg_fl (own p)) (fun P => bk (1 - P)) := by
  obtain ⟨h1, h2, h3, h4, h5, h6, h7, h8, h9, h10, h11⟩ := H
  refine ⟨h1, h2, h3, h4, h5, h6, fun p hp ho => h7 p hp ((pg_fl2 _).mp ho), fun p hp hv => (pg_fl2 _).mpr (h8 p hp hv), fun n => ?_, fun n z => h10 n ⟨z.2, z.1⟩, fun p hp => pg_fl_le (h11 p hp)⟩
  exact (h9 n).trans ⟨fun z => z.elim Or.inr Or.inl, fun z => z.elim Or.inr Or.inl⟩
theorem pg_St_sub (H : pg_St N S nx vr bd dep anc mv own bk) {mv' : pg_M} {own' : pg_P → Nat} (a1 : ∀ p m, pg_D N S p → mv' p m → mv p m) (a2 : ∀ p, pg_D N S p → (own' p = 2 ↔ own p = 2)) (a3 : ∀ p, pg_D N S p → own p = 2 → mv' p 0) (a4 : ∀ p, pg_D N S p → own' p ≤ 2) : pg_St N S nx vr bd dep anc mv' own' bk := by
  obtain ⟨h1, h2, h3, h4, h5, h6, h7, h8, h9, h10, h11⟩ := H
  refine ⟨fun p m hp hm => h1 p m hp (a1 p m hp hm), fun p m hp hm => h2 p m hp (a1 p m hp hm), fun p m hp hm => h3 p m hp (a1 p m hp hm), h4, h5, h6, fun p hp ho m => ⟨fun hm => (h7 p hp ((a2 p hp).mp ho) m).mp (a1 p m hp hm), fun e => ?_⟩, fun p hp hv => (a2 p hp).mpr (h8 p hp hv), h9, h10, a4⟩
  rw [e]; exact a3 p hp ((a2 p hp).mp ho)
theorem pg_Cert_dual {W : pg_S} {σ : pg_P → Nat} (C : pg_Cert N S nx mv own bk 1 W σ) : pg_Cert N S nx mv (fun p => pg_fl (own p)) (fun P => bk (1 - P)) 0 W σ := by
  obtain ⟨c1, c2, c3, c4⟩ := C
  refine ⟨c1, fun p hp ho => c2 p hp ((pg_fl0 _).mp ho), fun p hp ho => c3 p hp (fun z => ho ((pg_fl0 _).mpr z)), fun v hv hb => fun z => c4 v hv hb (pg_mono ?_ z)⟩
  rintro a b ⟨⟨wa, wb, m, hm, hs, e⟩, g⟩
  exact ⟨⟨wa, wb, m, hm, fun z => hs ((pg_fl0 _).mpr z), e⟩, g⟩
theorem pg_Sw_dual (H : pg_St N S nx vr bd dep anc mv own bk) {st set : pg_S} (h : pg_Sw N S nx vr mv own st set) : pg_Sw N S nx vr mv (fun p => pg_fl (own p)) (fun p => ¬ st p) (fun p => ¬ set p) := by
  obtain ⟨h1, h2, h3, h4, h5, h6, h7, h8, h9, h10, h11⟩ := H
  intro p hp
  have e := h p hp
  rcases Classical.em (vr p.1) with hv | hv
  · constructor
    · intro a
      refine ⟨fun _ b => a (e.mpr ⟨fun _ => b, fun z => absurd hv z⟩), fun z => absurd hv z⟩
    · intro a b
      exact a.1 hv ((e.mp b).1 hv)
  · have e' : set p ↔ ((own p = 0 → ∃ m, mv p m ∧ set (nx p m)) ∧ (own p ≠ 0 → ∀ m, mv p m → set (nx p m))) :=
      ⟨fun a => (e.mp a).2 hv, fun a => e.mpr ⟨fun z => absurd z hv, fun _ => a⟩⟩
    have ho := h11 p hp
    have h3c : own p = 0 ∨ own p = 1 ∨ own p = 2 := by omega
    rcases h3c with o | o | o
    · constructor
      · intro a
        refine ⟨fun z => absurd z hv, fun _ => ⟨fun z => absurd ((pg_fl0 _).mp z) (by omega), fun _ m hm b => a (e'.mpr ⟨fun _ => ⟨m, hm, b⟩, fun z => absurd o z⟩)⟩⟩
      · intro a b
        obtain ⟨m, hm, hs⟩ := (e'.mp b).1 o
        exact (a.2 hv).2 (fun z => absurd ((pg_fl0 _).mp z) (by omega)) m hm hs
    · constructor
      · intro a
        refine ⟨fun z => absurd z hv, fun _ => ⟨fun _ => ?_, fun z => absurd ((pg_fl0 _).mpr o) z⟩⟩
        refine Classical.byContradiction fun z => a (e'.mpr ⟨fun w => absurd w (by omega), fun _ m hm => Classical.byContradiction fun w => z ⟨m, hm, w⟩⟩)
      · intro a b
        obtain ⟨m, hm, hs⟩ := (a.2 hv).1 ((pg_fl0 _).mpr o)
        exact hs ((e'.mp b).2 (by omega) m hm)
    · have hm0 : mv p 0 := (h7 p hp o 0).mpr rfl
      constructor
      · intro a
        refine ⟨fun z => absurd z hv, fun _ => ⟨fun z => absurd ((pg_fl0 _).mp z) (by omega), fun _ m hm b => a (e'.mpr ⟨fun w => absurd w (by omega), fun _ m' hm' => ?_⟩)⟩⟩
        rw [(h7 p hp o m').mp hm']
        rw [(h7 p hp o m).mp hm] at b
        exact b
      · intro a b
        exact (a.2 hv).2 (fun z => absurd ((pg_fl0 _).mp z) (by omega)) 0 hm0 ((e'.mp b).2 (by omega) 0 hm0)
abbrev pg_ng (x : pg_X) : pg_X := (fun p => ¬ x.1 p, fun p => ¬ x.2 p)
theorem pg_It_map {R R' : pg_X → pg_X → Prop} (f : ∀ a b, R a b → R' (pg_ng a) (pg_ng b)) : ∀ k x y, pg_It R k x y → pg_It R' k (pg_ng x) (pg_ng y)
  | 0, x, y, h => by cases h; exact rfl
  | k + 1, x, y, ⟨z, hz, hy⟩ => ⟨pg_ng z, f _ _ hz, pg_It_map f k z y hy⟩
theorem pg_Ev_dual (H : pg_St N S nx vr bd dep anc mv own bk) : ∀ l x y, pg_Ev N S nx vr bd dep mv own bk l x y → pg_Ev N S nx vr bd dep mv (fun p => pg_fl (own p)) (fun P => bk (1 - P)) l (pg_ng x) (pg_ng y)
  | 0, x, y, h => ⟨pg_Sw_dual H h.1, by show (fun p => ¬ y.2 p) = (fun p => ¬ x.2 p); rw [h.2]⟩
  | l + 1, x, y, ⟨st0, hf, hi⟩ => by
    refine ⟨fun p => ¬ st0 p, fun p hp => ⟨fun z => ?_, fun z => not_congr ((hf p hp).2 z)⟩, ?_⟩
    · have e := (hf p hp).1 z
      obtain ⟨h1, h2, h3, h4, h5, h6, h7, h8, h9, h10, h11⟩ := H
      show ¬ st0 p ↔ bk (1 - 1) p.1
      constructor
      · intro a
        rcases (h9 p.1).mp z.1 with w | w
        · exact w
        · exact absurd (e.mpr w) a
      · intro a b
        exact h10 p.1 ⟨a, e.mp b⟩
    · refine pg_It_map (fun a b hab => ?_) (S + 1) (x.1, st0) y hi
      obtain ⟨c, hE, hb, hA⟩ := hab
      refine ⟨pg_ng c, pg_Ev_dual H l a c hE, ?_, fun p hp => ⟨fun z => not_congr ((hA p hp).1 z), fun z => not_congr ((hA p hp).2 z)⟩⟩
      show (fun p => ¬ b.1 p) = (fun p => ¬ c.1 p)
      rw [hb]
theorem pg_ct1 (H : pg_St N S nx vr bd dep anc mv own bk) {W : pg_S} {σ : pg_P → Nat} (C : pg_Cert N S nx mv own bk 1 W σ) {x y : pg_X} (h : pg_Ev N S nx vr bd dep mv own bk 3 x y) {p : pg_P} (hp : W p) : ¬ y.1 p :=
  pg_ct0 (x := pg_ng x) (y := pg_ng y) (pg_St_dual H) (pg_Cert_dual C) (pg_Ev_dual H 3 x y h) hp
/-! there is an evaluation -/
def pg_sw (nx : pg_P → Nat → pg_P) (vr : Nat → Prop) (mv : pg_M) (own : pg_P → Nat) (st : pg_S) : Nat → pg_S
  | 0 => fun _ => False
  | k + 1 => fun p => pg_Hd nx vr mv own st (pg_sw nx vr mv own st k) p
theorem pg_Hd_congr {st set set' : pg_S} {p : pg_P} (h : ∀ m, ¬ vr p.1 → mv p m → (set (nx p m) ↔ set' (nx p m))) : pg_Hd nx vr mv own st set p ↔ pg_Hd nx vr mv own st set' p := by
  constructor
  · intro a
    refine ⟨a.1, fun hv => ⟨fun o => ?_, fun o m hm => (h m hv hm).mp ((a.2 hv).2 o m hm)⟩⟩
    obtain ⟨m, hm, hs⟩ := (a.2 hv).1 o
    exact ⟨m, hm, (h m hv hm).mp hs⟩
  · intro a
    refine ⟨a.1, fun hv => ⟨fun o => ?_, fun o m hm => (h m hv hm).mpr ((a.2 hv).2 o m hm)⟩⟩
    obtain ⟨m, hm, hs⟩ := (a.2 hv).1 o
    exact ⟨m, hm, (h m hv hm).mpr hs⟩
theorem pg_sw_st (H : pg_St N S nx vr bd dep anc mv own bk) (st : pg_S) : ∀ k p, pg_D N S p → N - p.1 ≤ k → (pg_sw nx vr mv own st (k + 1) p ↔ pg_sw nx vr mv own st k p)
  | 0, p, hp, hk => by have := hp.1; omega
  | k + 1, p, hp, hk => by
    obtain ⟨h1, h2, h3, h4, h5, h6, h7, h8, h9, h10, h11⟩ := H
    refine pg_Hd_congr (fun m hv hm => pg_sw_st ⟨h1, h2, h3, h4, h5, h6, h7, h8, h9, h10, h11⟩ st k _ (h1 p m hp hm) ?_)
    have a := (h2 p m hp hm hv).1
    have b := hp.1
    omega
theorem pg_Sw_ex (H : pg_St N S nx vr bd dep anc mv own bk) (st : pg_S) : ∃ set, pg_Sw N S nx vr mv own st set :=
  ⟨pg_sw nx vr mv own st N, fun p hp => (pg_sw_st H st N p hp (by omega)).symm⟩
theorem pg_It_ex {R : pg_X → pg_X → Prop} (f : ∀ a, ∃ b, R a b) : ∀ k x, ∃ y, pg_It R k x y
  | 0, x => ⟨x, rfl⟩
  | k + 1, x => by
    obtain ⟨z, hz⟩ := f x
    obtain ⟨y, hy⟩ := pg_It_ex f k z
    exact ⟨y, z, hz, hy⟩
theorem pg_Ev_ex (H : pg_St N S nx vr bd dep anc mv own bk) : ∀ l x, ∃ y, pg_Ev N S nx vr bd dep mv own bk l x y
  | 0, x => by
    obtain ⟨s, hs⟩ := pg_Sw_ex H x.2
    exact ⟨(s, x.2), hs, rfl⟩
  | l + 1, x => by
    have g : ∀ a : pg_X, ∃ b : pg_X, ∃ c, pg_Ev N S nx vr bd dep mv own bk l a c ∧ b.1 = c.1 ∧ pg_As N S bd dep (2 - l) c.1 c.2 b.2 := by
      intro a
      obtain ⟨c, hc⟩ := pg_Ev_ex H l a
      refine ⟨(c.1, fun p => ((bd p.1 ∧ dep p.1 = 2 - l) ∧ c.1 p) ∨ (¬ (bd p.1 ∧ dep p.1 = 2 - l) ∧ c.2 p)), c, hc, rfl, fun p hp => ⟨fun z => ⟨fun w => w.elim (fun u => u.2) (fun u => absurd z u.1), fun w => Or.inl ⟨z, w⟩⟩, fun z => ⟨fun w => w.elim (fun u => absurd u.1 z) (fun u => u.2), fun w => Or.inr ⟨z, w⟩⟩⟩⟩
    obtain ⟨y, hy⟩ := pg_It_ex g (S + 1) (x.1, fun p => ((bd p.1 ∧ dep p.1 = 2 - l) ∧ bk 1 p.1) ∨ (¬ (bd p.1 ∧ dep p.1 = 2 - l) ∧ x.2 p))
    exact ⟨y, _, fun p hp => ⟨fun z => ⟨fun w => w.elim (fun u => u.2) (fun u => absurd z u.1), fun w => Or.inl ⟨z, w⟩⟩, fun z => ⟨fun w => w.elim (fun u => absurd u.1 z) (fun u => u.2), fun w => Or.inr ⟨z, w⟩⟩⟩, hy⟩
theorem pg_uq01 (H : pg_St N S nx vr bd dep anc mv own bk) {W W' : pg_S} {σ σ' : pg_P → Nat} (C : pg_Cert N S nx mv own bk 0 W σ) (C' : pg_Cert N S nx mv own bk 1 W' σ') {p : pg_P} (h : W p) (h' : W' p) : False := by
  obtain ⟨y, hy⟩ := pg_Ev_ex H 3 (fun _ => False, fun _ => False)
  exact pg_ct1 H C' hy h' (pg_ct0 H C hy h)
theorem pg_uq (H : pg_St N S nx vr bd dep anc mv own bk) {P : Nat} (hP : P < 2) {W W' : pg_S} {σ σ' : pg_P → Nat} (C : pg_Cert N S nx mv own bk P W σ) (C' : pg_Cert N S nx mv own bk (1 - P) W' σ') {p : pg_P} (h : W p) (h' : W' p) : False := by
  have : P = 0 ∨ P = 1 := by omega
  rcases this with rfl | rfl
  · exact pg_uq01 H C C' h h'
  · exact pg_uq01 H C' C h' h
/-! attractors -/
abbrev pg_res (nx : pg_P → Nat → pg_P) (mv : pg_M) (A : pg_S) (p : pg_P) (m : Nat) : Prop := mv p m ∧ A (nx p m)
abbrev pg_Att (nx : pg_P → Nat → pg_P) (mv : pg_M) (own : pg_P → Nat) (Q : Nat) (A T F : pg_S) (ch : pg_P → Nat) (ρ : pg_P → Nat) : Prop :=
  (∀ p, T p → F p) ∧ (∀ p, F p → A p) ∧
  (∀ p, F p → ¬ T p → own p = Q → mv p (ch p) ∧ F (nx p (ch p)) ∧ ρ (nx p (ch p)) < ρ p) ∧
  (∀ p, F p → ¬ T p → own p ≠ Q → ∀ m, mv p m → A (nx p m) → F (nx p m) ∧ ρ (nx p m) < ρ p)
abbrev pg_AttC (nx : pg_P → Nat → pg_P) (mv : pg_M) (own : pg_P → Nat) (Q : Nat) (A F : pg_S) : Prop :=
  (∀ p, A p → ¬ F p → own p = Q → ∀ m, mv p m → ¬ F (nx p m)) ∧
  (∀ p, A p → ¬ F p → own p ≠ Q → (∃ m, mv p m ∧ F (nx p m)) → ∃ m, mv p m ∧ A (nx p m) ∧ ¬ F (nx p m))
theorem pg_sub_pt {Q : Nat} {A F : pg_S} (C : pg_AttC nx mv own Q A F) {p : pg_P} (hA : A p) (hF : ¬ F p) (h : ∃ m, mv p m ∧ A (nx p m)) : ∃ m, mv p m ∧ A (nx p m) ∧ ¬ F (nx p m) := by
  obtain ⟨m, hm, ha⟩ := h
  rcases Classical.em (own p = Q) with ho | ho
  · exact ⟨m, hm, ha, C.1 p hA hF ho m hm⟩
  · rcases Classical.em (F (nx p m)) with hf | hf
    · exact C.2 p hA hF ho ⟨m, hm, hf⟩
    · exact ⟨m, hm, ha, hf⟩
theorem pg_cyc_anc (H : pg_St N S nx vr bd dep anc mv own bk) {mv' : pg_M} {P : Nat} {σ : pg_P → Nat} {W : pg_S} (hmv : ∀ p m, mv' p m → mv p m) (hW : ∀ p, W p → pg_D N S p) {b : Nat} {p q : pg_P} (hp : anc b p.1) (h : pg_ge b (pg_E nx mv' own P σ W) p q) : anc b q.1 := by
  obtain ⟨h1, h2, h3, h4, h5, h6, h7, h8, h9, h10, h11⟩ := H
  obtain ⟨⟨wp, wq, m, hm, _, rfl⟩, _, hq⟩ := h
  rcases Classical.em (vr p.1) with hv | hv
  · exact ((h3 p m (hW p wp) (hmv p m hm) hv).2 b hp).1 hq
  · exact (h2 p m (hW p wp) (hmv p m hm) hv).2 b hp
/-- the whole game is player P's: the rest is his, and the attractor of the least rank -/
theorem pg_Z1 (H : pg_St N S nx vr bd dep anc mv own bk) {P : Nat} (hP : P < 2) {A T F : pg_S} {ch ρ : pg_P → Nat} (hA : ∀ p, A p → pg_D N S p)
    (hT : ∀ t, T t → bd t.1 ∧ ¬ bk P t.1) (hmin : ∀ v t, A v → T t → bd v.1 → dep t.1 ≤ dep v.1)
    (hF : pg_Att nx mv own P A T F ch ρ)
    (C : pg_Cert N S nx (pg_res nx mv (fun p => A p ∧ ¬ F p)) own bk P (fun p => A p ∧ ¬ F p) ch) :
    pg_Cert N S nx (pg_res nx mv A) own bk P A ch := by
  have H' := H
  obtain ⟨h1, h2, h3, h4, h5, h6, h7, h8, h9, h10, h11⟩ := H'
  obtain ⟨f1, f2, f3, f4⟩ := hF
  obtain ⟨c1, c2, c3, c4⟩ := C
  refine ⟨hA, fun p hp ho => ?_, fun p hp ho m hm => hm.2, fun v hv hb hc => ?_⟩
  · rcases Classical.em (F p) with hf | hf
    · rcases Classical.em (T p) with ht | ht
      · have := h8 p (hA p hp) (Or.inr (hT p ht).1)
        omega
      · obtain ⟨a, b, _⟩ := f3 p hf ht ho
        exact ⟨⟨a, f2 _ b⟩, f2 _ b⟩
    · obtain ⟨⟨a, b⟩, _⟩ := c2 p ⟨hp, hf⟩ ho
      exact ⟨⟨a, b.1⟩, b.1⟩
  · have hbv : bd v.1 := (h9 v.1).mpr (by
      have : P = 0 ∨ P = 1 := by omega
      rcases this with rfl | rfl
      · exact Or.inl hb
      · exact Or.inr hb)
    -- nothing of T is met
    have noT : ∀ t, (t = v ∨ Relation.TransGen (pg_ge v.1 (pg_E nx (pg_res nx mv A) own P ch A)) v t) → ¬ T t := by
      intro t ht hTt
      have ha : anc v.1 t.1 := by
        rcases ht with e | e
        · rw [e]; exact h4 _
        · exact pg_inv (I := fun z => anc v.1 z.1) (fun a b e ha => pg_cyc_anc H (mv' := pg_res nx mv A) (fun _ _ z => z.1) hA ha e) e (h4 _)
      have hAt : A t := f2 _ (f1 _ hTt)
      rcases Classical.em (v.1 = t.1) with e | e
      · exact (hT t hTt).2 (by rw [← e]; exact hb)
      · have := h5 v.1 t.1 (hA t hAt).1 ha e hbv (hT t hTt).1
        have := hmin v t hv hTt hbv
        omega
    have walk : ∀ w, Relation.TransGen (pg_ge v.1 (pg_E nx (pg_res nx mv A) own P ch A)) v w →
        (F v → F w ∧ ρ w < ρ v) ∧ (¬ F v → F w ∨ (¬ F w ∧ Relation.TransGen (pg_ge v.1 (pg_E nx (pg_res nx mv (fun p => A p ∧ ¬ F p)) own P ch (fun p => A p ∧ ¬ F p))) v w)) := by
      intro w hw
      have stepF : ∀ a b, pg_ge v.1 (pg_E nx (pg_res nx mv A) own P ch A) a b → F a → ¬ T a → F b ∧ ρ b < ρ a := by
        rintro a b ⟨⟨wa, wb, m, hm, hs, rfl⟩, _⟩ hf ht
        rcases Classical.em (own a = P) with o | o
        · rw [hs o]; exact (f3 a hf ht o).2
        · exact f4 a hf ht o m hm.1 hm.2
      have stepN : ∀ a b, pg_ge v.1 (pg_E nx (pg_res nx mv A) own P ch A) a b → ¬ F a → ¬ F b → pg_ge v.1 (pg_E nx (pg_res nx mv (fun p => A p ∧ ¬ F p)) own P ch (fun p => A p ∧ ¬ F p)) a b := by
        rintro a b ⟨⟨wa, wb, m, hm, hs, rfl⟩, g⟩ hf hf'
        exact ⟨⟨⟨wa, hf⟩, ⟨wb, hf'⟩, m, ⟨hm.1, hm.2, hf'⟩, hs, rfl⟩, g⟩
      induction hw with
      | single e =>
        refine ⟨fun hf => stepF _ _ e hf (noT v (Or.inl rfl)), fun hf => ?_⟩
        rename_i b
        rcases Classical.em (F b) with g | g
        · exact Or.inl g
        · exact Or.inr ⟨g, .single (stepN _ _ e hf g)⟩
      | tail hh e ih =>
        rename_i b c
        have nb := noT b (Or.inr hh)
        refine ⟨fun hf => ?_, fun hf => ?_⟩
        · obtain ⟨i1, i2⟩ := ih.1 hf
          obtain ⟨j1, j2⟩ := stepF _ _ e i1 nb
          exact ⟨j1, by omega⟩
        · rcases ih.2 hf with i | i
          · exact Or.inl (stepF _ _ e i nb).1
          · rcases Classical.em (F c) with g | g
            · exact Or.inl g
            · exact Or.inr ⟨g, .tail i.2 (stepN _ _ e i.1 g)⟩
    have k := walk v hc
    rcases Classical.em (F v) with hf | hf
    · have := (k.1 hf).2
      omega
    · rcases k.2 hf with z | z
      · exact hf z
      · exact c4 v ⟨hv, hf⟩ hb z.2
/-- what player Q wins at once (T), its attractor, and what he wins in the rest -/
theorem pg_Z2a {Q : Nat} {A T F W : pg_S} {ch ρ : pg_P → Nat} (hA : ∀ p, A p → pg_D N S p) (hW : ∀ p, W p → A p ∧ ¬ F p)
    (B : pg_Cert N S nx (pg_res nx mv A) own bk Q T ch) (hF : pg_Att nx mv own Q A T F ch ρ)
    (C : pg_Cert N S nx (pg_res nx mv (fun p => A p ∧ ¬ F p)) own bk Q W ch) :
    pg_Cert N S nx (pg_res nx mv A) own bk Q (fun p => F p ∨ W p) ch := by
  obtain ⟨f1, f2, f3, f4⟩ := hF
  obtain ⟨c1, c2, c3, c4⟩ := C
  obtain ⟨b1, b2, b3, b4⟩ := B
  refine ⟨fun p hp => hp.elim (fun z => hA p (f2 p z)) (fun z => hA p (hW p z).1), fun p hp ho => ?_, fun p hp ho m hm => ?_, fun v hv hb hc => ?_⟩
  · rcases Classical.em (F p) with hf | hf
    · rcases Classical.em (T p) with ht | ht
      · obtain ⟨a, b⟩ := b2 p ht ho
        exact ⟨a, Or.inl (f1 _ b)⟩
      · obtain ⟨a, b, _⟩ := f3 p hf ht ho
        exact ⟨⟨a, f2 _ b⟩, Or.inl b⟩
    · have hw := hp.resolve_left hf
      obtain ⟨⟨a, b⟩, c⟩ := c2 p hw ho
      exact ⟨⟨a, b.1⟩, Or.inr c⟩
  · rcases Classical.em (F p) with hf | hf
    · rcases Classical.em (T p) with ht | ht
      · exact Or.inl (f1 _ (b3 p ht ho m hm))
      · exact Or.inl (f4 p hf ht ho m hm.1 hm.2).1
    · have hw := hp.resolve_left hf
      rcases Classical.em (F (nx p m)) with g | g
      · exact Or.inl g
      · exact Or.inr (c3 p hw ho m ⟨hm.1, hm.2, g⟩)
  · have stT : ∀ a b, pg_ge v.1 (pg_E nx (pg_res nx mv A) own Q ch (fun p => F p ∨ W p)) a b → T a → T b ∧ pg_ge v.1 (pg_E nx (pg_res nx mv A) own Q ch T) a b := by
      rintro a b ⟨⟨wa, wb, m, hm, hs, rfl⟩, g⟩ ht
      have tb : T (nx a m) := by
        rcases Classical.em (own a = Q) with o | o
        · rw [hs o]; exact (b2 a ht o).2
        · exact b3 a ht o m hm
      exact ⟨tb, ⟨ht, tb, m, hm, hs, rfl⟩, g⟩
    have stF : ∀ a b, pg_ge v.1 (pg_E nx (pg_res nx mv A) own Q ch (fun p => F p ∨ W p)) a b → F a → ¬ T a → F b ∧ ρ b < ρ a := by
      rintro a b ⟨⟨wa, wb, m, hm, hs, rfl⟩, _⟩ hf ht
      rcases Classical.em (own a = Q) with o | o
      · rw [hs o]; exact (f3 a hf ht o).2
      · exact f4 a hf ht o m hm.1 hm.2
    have stN : ∀ a b, pg_ge v.1 (pg_E nx (pg_res nx mv A) own Q ch (fun p => F p ∨ W p)) a b → ¬ F a → ¬ F b → pg_ge v.1 (pg_E nx (pg_res nx mv (fun p => A p ∧ ¬ F p)) own Q ch W) a b := by
      rintro a b ⟨⟨wa, wb, m, hm, hs, rfl⟩, g⟩ hf hf'
      have w1 := wa.resolve_left hf
      have w2 := wb.resolve_left hf'
      exact ⟨⟨w1, w2, m, ⟨hm.1, hm.2, hf'⟩, hs, rfl⟩, g⟩
    have caseT : T v → False := fun ht => b4 v ht hb (pg_monoI (I := T) stT hc ht).2
    have walk : ∀ w, Relation.TransGen (pg_ge v.1 (pg_E nx (pg_res nx mv A) own Q ch (fun p => F p ∨ W p))) v w →
        (F v → T w ∨ (F w ∧ ρ w < ρ v)) ∧ (¬ F v → F w ∨ (¬ F w ∧ Relation.TransGen (pg_ge v.1 (pg_E nx (pg_res nx mv (fun p => A p ∧ ¬ F p)) own Q ch W)) v w)) := by
      intro w hw
      induction hw with
      | single e =>
        rename_i b
        refine ⟨fun hf => ?_, fun hf => ?_⟩
        · exact Or.inr (stF _ _ e hf caseT)
        · rcases Classical.em (F b) with g | g
          · exact Or.inl g
          · exact Or.inr ⟨g, .single (stN _ _ e hf g)⟩
      | tail hh e ih =>
        rename_i b c
        refine ⟨fun hf => ?_, fun hf => ?_⟩
        · rcases ih.1 hf with i | i
          · exact Or.inl (stT _ _ e i).1
          · rcases Classical.em (T b) with t | t
            · exact Or.inl (stT _ _ e t).1
            · obtain ⟨j1, j2⟩ := stF _ _ e i.1 t
              exact Or.inr ⟨j1, by have := i.2; omega⟩
        · rcases ih.2 hf with i | i
          · rcases Classical.em (T b) with t | t
            · exact Or.inl (f1 _ (stT _ _ e t).1)
            · exact Or.inl (stF _ _ e i t).1
          · rcases Classical.em (F c) with g | g
            · exact Or.inl g
            · exact Or.inr ⟨g, .tail i.2 (stN _ _ e i.1 g)⟩
    have k := walk v hc
    rcases Classical.em (F v) with hf | hf
    · rcases k.1 hf with z | z
      · exact caseT z
      · have := z.2
        omega
    · rcases k.2 hf with z | z
      · exact hf z
      · exact c4 v (hv.resolve_left hf) hb z.2
/-- the other player keeps what he wins in the rest -/
theorem pg_Z2b (H : pg_St N S nx vr bd dep anc mv own bk) {Q R : Nat} (hR : R ≠ Q) (hQ : Q < 2) (hR2 : R < 2) {A F W : pg_S} {ch : pg_P → Nat} (hA : ∀ p, A p → pg_D N S p) (hW : ∀ p, W p → A p ∧ ¬ F p)
    (hC : pg_AttC nx mv own Q A F)
    (C : pg_Cert N S nx (pg_res nx mv (fun p => A p ∧ ¬ F p)) own bk R W ch) :
    pg_Cert N S nx (pg_res nx mv A) own bk R W ch := by
  obtain ⟨h1, h2, h3, h4, h5, h6, h7, h8, h9, h10, h11⟩ := H
  obtain ⟨c1, c2, c3, c4⟩ := C
  refine ⟨c1, fun p hp ho => ?_, fun p hp ho m hm => c3 p hp ho m ⟨hm.1, hm.2, ?_⟩, fun v hv hb hc => c4 v hv hb (pg_mono ?_ hc)⟩
  · obtain ⟨⟨a, b⟩, c⟩ := c2 p hp ho
    exact ⟨⟨a, b.1⟩, c⟩
  · obtain ⟨ha, hf⟩ := hW p hp
    intro g
    rcases Classical.em (own p = Q) with o | o
    · exact hC.1 p ha hf o m hm.1 g
    · have o2 : own p = 2 := by have := h11 p (hA p ha); omega
      obtain ⟨m', hm', _, g'⟩ := hC.2 p ha hf o ⟨m, hm.1, g⟩
      have e := (h7 p (hA p ha) o2 m').mp hm'
      have e' := (h7 p (hA p ha) o2 m).mp hm.1
      rw [e, ← e'] at g'
      exact g' g
  · rintro a b ⟨⟨wa, wb, m, hm, hs, e⟩, g⟩
    refine ⟨⟨wa, wb, m, ⟨hm.1, hm.2, ?_⟩, hs, e⟩, g⟩
    rw [← e]; exact (hW b wb).2
end
end
section
/-! ===== pure: attractors exist, every game is decided, and what follows ===== -/
theorem pg_least (P : Nat → Prop) (h : ∃ k, P k) : ∃ k, P k ∧ ∀ j, j < k → ¬ P j := by
  obtain ⟨k, hk⟩ := h
  induction k using Nat.strongRecOn with
  | ind k ih =>
    rcases Classical.em (∃ j, j < k ∧ P j) with z | z
    · obtain ⟨j, hj, pj⟩ := z
      exact ih j hj pj
    · exact ⟨k, hk, fun j hj pj => z ⟨j, hj, pj⟩⟩
section
variable {N S : Nat} {nx : pg_P → Nat → pg_P} {vr bd : Nat → Prop} {dep : Nat → Nat} {anc : Nat → Nat → Prop} {mv : pg_M} {own : pg_P → Nat} {bk : Nat → Nat → Prop}
theorem pg_Cert_congr {P : Nat} {W : pg_S} {σ σ' : pg_P → Nat} (h : ∀ p, W p → σ' p = σ p) (C : pg_Cert N S nx mv own bk P W σ) : pg_Cert N S nx mv own bk P W σ' := by
  obtain ⟨c1, c2, c3, c4⟩ := C
  refine ⟨c1, fun p hp ho => by rw [h p hp]; exact c2 p hp ho, c3, fun v hv hb hc => c4 v hv hb (pg_mono ?_ hc)⟩
  rintro a b ⟨⟨wa, wb, m, hm, hs, e⟩, g⟩
  exact ⟨⟨wa, wb, m, hm, fun o => (hs o).trans (h a wa), e⟩, g⟩
theorem pg_Cert_mv {mv' : pg_M} {P : Nat} {W : pg_S} {σ : pg_P → Nat} (h : ∀ p m, W p → (mv' p m ↔ mv p m)) (C : pg_Cert N S nx mv own bk P W σ) : pg_Cert N S nx mv' own bk P W σ := by
  obtain ⟨c1, c2, c3, c4⟩ := C
  refine ⟨c1, fun p hp ho => ⟨(h _ _ hp).mpr (c2 p hp ho).1, (c2 p hp ho).2⟩, fun p hp ho m hm => c3 p hp ho m ((h _ _ hp).mp hm), fun v hv hb hc => c4 v hv hb (pg_mono ?_ hc)⟩
  rintro a b ⟨⟨wa, wb, m, hm, hs, e⟩, g⟩
  exact ⟨⟨wa, wb, m, (h _ _ wa).mp hm, hs, e⟩, g⟩
theorem pg_Cert_ext {P : Nat} {W W' : pg_S} {σ : pg_P → Nat} (h : ∀ p, W' p ↔ W p) (C : pg_Cert N S nx mv own bk P W σ) : pg_Cert N S nx mv own bk P W' σ := by
  have e : W' = W := funext fun p => propext (h p)
  rw [e]; exact C
theorem pg_Cert_emp {P : Nat} {W : pg_S} {σ : pg_P → Nat} (h : ∀ p, ¬ W p) : pg_Cert N S nx mv own bk P W σ :=
  ⟨fun p hp => absurd hp (h p), fun p hp => absurd hp (h p), fun p hp => absurd hp (h p), fun p hp => absurd hp (h p)⟩
abbrev pg_AttE (nx : pg_P → Nat → pg_P) (mv : pg_M) (own : pg_P → Nat) (Q : Nat) (A T F : pg_S) (ch : pg_P → Nat) : Prop :=
  ∃ ρ : pg_P → Nat, ∃ K : Nat, pg_Att nx mv own Q A T F ch ρ ∧ ∀ p, F p → ρ p < K
theorem pg_att0 {Q : Nat} {A T : pg_S} (h : ∀ p, T p → A p) (ch : pg_P → Nat) : pg_AttE nx mv own Q A T T ch :=
  ⟨fun _ => 0, 1, ⟨fun _ z => z, h, fun p a b => absurd a b, fun p a b => absurd a b⟩, fun _ _ => Nat.zero_lt_one⟩
theorem pg_att_add {Q : Nat} {A T F F' : pg_S} {ch ch' : pg_P → Nat} {p0 : pg_P} (h : pg_AttE nx mv own Q A T F ch) (hA : A p0) (hF : ¬ F p0) (hF' : ∀ p, F' p ↔ (F p ∨ p = p0))
    (hc : ∀ p, F p → ch' p = ch p) (h1 : own p0 = Q → mv p0 (ch' p0) ∧ F (nx p0 (ch' p0))) (h2 : own p0 ≠ Q → ∀ m, mv p0 m → A (nx p0 m) → F (nx p0 m)) : pg_AttE nx mv own Q A T F' ch' := by
  obtain ⟨ρ, K, ⟨f1, f2, f3, f4⟩, hK⟩ := h
  have ne : ∀ p, F p → p ≠ p0 := fun p hp e => hF (e ▸ hp)
  refine ⟨fun p => if p = p0 then K else ρ p, K + 1, ⟨fun p hp => (hF' p).mpr (Or.inl (f1 p hp)), fun p hp => ?_, fun p hp ht ho => ?_, fun p hp ht ho m hm ha => ?_⟩, fun p hp => ?_⟩
  · rcases (hF' p).mp hp with z | z
    · exact f2 p z
    · rw [z]; exact hA
  · rcases (hF' p).mp hp with z | z
    · obtain ⟨a, b, c⟩ := f3 p z ht ho
      rw [hc p z]
      refine ⟨a, (hF' _).mpr (Or.inl b), ?_⟩
      dsimp only
      rw [if_neg (ne p z), if_neg (ne _ b)]
      exact c
    · subst z
      obtain ⟨a, b⟩ := h1 ho
      refine ⟨a, (hF' _).mpr (Or.inl b), ?_⟩
      dsimp only
      rw [if_pos rfl, if_neg (ne _ b)]
      exact hK _ b
  · rcases (hF' p).mp hp with z | z
    · obtain ⟨b, c⟩ := f4 p z ht ho m hm ha
      refine ⟨(hF' _).mpr (Or.inl b), ?_⟩
      dsimp only
      rw [if_neg (ne p z), if_neg (ne _ b)]
      exact c
    · subst z
      have b := h2 ho m hm ha
      refine ⟨(hF' _).mpr (Or.inl b), ?_⟩
      dsimp only
      rw [if_pos rfl, if_neg (ne _ b)]
      exact hK _ b
  · rcases (hF' p).mp hp with z | z
    · have := hK p z
      show (if p = p0 then K else ρ p) < K + 1
      rw [if_neg (ne p z)]
      omega
    · show (if p = p0 then K else ρ p) < K + 1
      rw [if_pos z]
      omega
theorem pg_attE_congr {Q : Nat} {A T F : pg_S} {ch ch' : pg_P → Nat} (hc : ∀ p, F p → ¬ T p → ch' p = ch p) (h : pg_AttE nx mv own Q A T F ch) : pg_AttE nx mv own Q A T F ch' := by
  obtain ⟨ρ, K, ⟨f1, f2, f3, f4⟩, hK⟩ := h
  exact ⟨ρ, K, ⟨f1, f2, fun p a b o => by rw [hc p a b]; exact f3 p a b o, f4⟩, hK⟩
theorem pg_att_ex (hN : N ≤ 14) (hS : S ≤ 5) {Q : Nat} {A T : pg_S} (hA : ∀ p, A p → pg_D N S p) : ∀ (k : Nat) (F : pg_S) (ch : pg_P → Nat), pg_AttE nx mv own Q A T F ch → pg_sz (fun p => A p ∧ ¬ F p) < k →
    ∃ F' ch', pg_AttE nx mv own Q A T F' ch' ∧ pg_AttC nx mv own Q A F' ∧ (∀ p, F p → F' p) ∧ (∀ p, F p → ch' p = ch p)
  | 0, _, _, _, h => absurd h (by omega)
  | k + 1, F, ch, hE, hk => by
    rcases Classical.em (pg_AttC nx mv own Q A F) with hc | hc
    · exact ⟨F, ch, hE, hc, fun _ z => z, fun _ _ => rfl⟩
    · -- one position is drawn
      have dr : ∃ p0, A p0 ∧ ¬ F p0 ∧ ∃ m0, (own p0 = Q → mv p0 m0 ∧ F (nx p0 m0)) ∧ (own p0 ≠ Q → ∀ m, mv p0 m → A (nx p0 m) → F (nx p0 m)) := by
        refine Classical.byContradiction fun hn => hc ⟨fun p ha hf ho m hm hg => hn ⟨p, ha, hf, m, fun _ => ⟨hm, hg⟩, fun z => absurd ho z⟩, fun p ha hf ho _ => ?_⟩
        refine Classical.byContradiction fun hz => hn ⟨p, ha, hf, 0, fun z => absurd z ho, fun _ m hm hAm => Classical.byContradiction fun hg => hz ⟨m, hm, hAm, hg⟩⟩
      obtain ⟨p0, ha, hf, m0, d1, d2⟩ := dr
      have hd := hA p0 ha
      have hE' := pg_att_add (F' := fun p => F p ∨ p = p0) (ch' := fun p => if p = p0 then m0 else ch p) hE ha hf (fun _ => Iff.rfl) (fun p hp => if_neg (fun (e : p = p0) => hf (e ▸ hp))) (by rw [if_pos rfl]; exact d1) d2
      obtain ⟨F', ch', g1, g2, g3, g4⟩ := pg_att_ex hN hS hA k (fun p => F p ∨ p = p0) _ hE' (by
        have := pg_sz_lt (A := fun p => A p ∧ ¬ (F p ∨ p = p0)) (B := fun p => A p ∧ ¬ F p) (p := p0) (fun q z => ⟨z.1, fun w => z.2 (Or.inl w)⟩) ⟨ha, hf⟩ (fun z => z.2 (Or.inr rfl)) (by have := hd.1; omega) (by have := hd.2; omega)
        omega)
      refine ⟨F', ch', g1, g2, fun p z => g3 p (Or.inl z), fun p z => (g4 p (Or.inl z)).trans (if_neg (fun (e : p = p0) => hf (e ▸ z)))⟩
/-! both players' certificates on a part of the game -/
abbrev pg_LC (N S : Nat) (nx : pg_P → Nat → pg_P) (mv : pg_M) (own : pg_P → Nat) (bk : Nat → Nat → Prop) (A W : pg_S) (ch : pg_P → Nat) : Prop :=
  ∀ P, P < 2 → pg_Cert N S nx (pg_res nx mv A) own bk P (fun p => A p ∧ (P = 0 ↔ W p)) ch
abbrev pg_Sub (nx : pg_P → Nat → pg_P) (mv : pg_M) (A : pg_S) : Prop := ∀ p, A p → ∃ m, mv p m ∧ A (nx p m)
theorem pg_LC_ext {A A' W W' : pg_S} {ch ch' : pg_P → Nat} (hA : ∀ p, A' p ↔ A p) (hW : ∀ p, A p → (W' p ↔ W p)) (hc : ∀ p, A p → ch' p = ch p) (h : pg_LC N S nx mv own bk A W ch) : pg_LC N S nx mv own bk A' W' ch' := by
  have e : A' = A := funext fun p => propext (hA p)
  subst e
  intro P hP
  refine pg_Cert_congr (fun p hp => hc p hp.1) (pg_Cert_ext (fun p => ?_) (h P hP))
  exact ⟨fun z => ⟨z.1, z.2.trans (hW p z.1)⟩, fun z => ⟨z.1, z.2.trans (hW p z.1).symm⟩⟩
theorem pg_LC_emp {A W : pg_S} {ch : pg_P → Nat} (h : ∀ p, ¬ A p) : pg_LC N S nx mv own bk A W ch := fun _ _ => pg_Cert_emp (fun p hp => h p hp.1)
theorem pg_LC_comb (H : pg_St N S nx vr bd dep anc mv own bk) {Q : Nat} (hQ : Q < 2) {A T F W W'' : pg_S} {ch : pg_P → Nat} (hA : ∀ p, A p → pg_D N S p)
    (B : pg_Cert N S nx (pg_res nx mv A) own bk Q T ch) (hE : pg_AttE nx mv own Q A T F ch) (hC : pg_AttC nx mv own Q A F)
    (L : pg_LC N S nx mv own bk (fun p => A p ∧ ¬ F p) W'' ch) (h1 : ∀ p, F p → (W p ↔ Q = 0)) (h2 : ∀ p, A p → ¬ F p → (W p ↔ W'' p)) : pg_LC N S nx mv own bk A W ch := by
  obtain ⟨ρ, K, hF, _⟩ := hE
  intro P hP
  rcases Classical.em (P = Q) with e | e
  · subst e
    refine pg_Cert_ext (fun p => ?_) (pg_Z2a hA (fun p hp => hp.1) B hF (L P hP))
    constructor
    · intro z
      rcases Classical.em (F p) with f | f
      · exact Or.inl f
      · exact Or.inr ⟨⟨z.1, f⟩, z.2.trans (h2 p z.1 f)⟩
    · intro z
      rcases z with z | z
      · exact ⟨hF.2.1 p z, (h1 p z).symm⟩
      · exact ⟨z.1.1, z.2.trans (h2 p z.1.1 z.1.2).symm⟩
  · refine pg_Cert_ext (fun p => ?_) (pg_Z2b H e hQ hP hA (fun p hp => hp.1) hC (L P hP))
    constructor
    · intro z
      have f : ¬ F p := fun f => by
        have a := h1 p f
        have b := z.2.trans a
        omega
      exact ⟨⟨z.1, f⟩, z.2.trans (h2 p z.1 f)⟩
    · intro z
      exact ⟨z.1.1, z.2.trans (h2 p z.1.1 z.1.2).symm⟩
theorem pg_LC_all (H : pg_St N S nx vr bd dep anc mv own bk) {P : Nat} (hP : P < 2) {A T F W W' : pg_S} {ch : pg_P → Nat} (hA : ∀ p, A p → pg_D N S p)
    (hT : ∀ t, T t → bd t.1 ∧ ¬ bk P t.1) (hmin : ∀ v t, A v → T t → bd v.1 → dep t.1 ≤ dep v.1)
    (hE : pg_AttE nx mv own P A T F ch) (L : pg_LC N S nx mv own bk (fun p => A p ∧ ¬ F p) W' ch) (hall : ∀ p, A p → ¬ F p → (P = 0 ↔ W' p)) (hW : ∀ p, A p → (W p ↔ P = 0)) : pg_LC N S nx mv own bk A W ch := by
  obtain ⟨ρ, K, hF, _⟩ := hE
  intro R hR
  rcases Classical.em (R = P) with e | e
  · subst e
    refine pg_Cert_ext (fun p => ⟨fun z => z.1, fun z => ⟨z, (hW p z).symm⟩⟩) (pg_Z1 H hP hA hT hmin hF (pg_Cert_ext (fun p => ⟨fun z => ⟨z, hall p z.1 z.2⟩, fun z => z.1⟩) (L R hR)))
  · refine pg_Cert_emp (fun p z => ?_)
    have a := hW p z.1
    have b := z.2.trans a
    omega
theorem pg_LC_base (H : pg_St N S nx vr bd dep anc mv own bk) {P : Nat} (hP : P < 2) {A F W : pg_S} {ch : pg_P → Nat} (hA : ∀ p, A p → pg_D N S p)
    (hC : pg_AttC nx mv own P A F) (L : pg_LC N S nx mv own bk (fun p => A p ∧ ¬ F p) W ch) : pg_Cert N S nx (pg_res nx mv A) own bk (1 - P) (fun p => (A p ∧ ¬ F p) ∧ (1 - P = 0 ↔ W p)) ch :=
  pg_Z2b H (by omega) hP (by omega) hA (fun p hp => hp.1) hC (L (1 - P) (by omega))
theorem pg_bex (H : pg_St N S nx vr bd dep anc mv own bk) {A : pg_S} (hA : ∀ p, A p → pg_D N S p) (hs : pg_Sub nx mv A) : ∀ k p, A p → N - p.1 < k → ∃ q, A q ∧ bd q.1
  | 0, _, _, h => absurd h (by omega)
  | k + 1, p, hp, hk => by
    have H' := H
    obtain ⟨h1, h2, h3, _⟩ := H'
    obtain ⟨m, hm, ha⟩ := hs p hp
    rcases Classical.em (vr p.1) with hv | hv
    · exact ⟨_, ha, (h3 p m (hA p hp) hm hv).1⟩
    · have a := (h2 p m (hA p hp) hm hv).1
      have b := (hA _ ha).1
      exact pg_bex H hA hs k _ ha (by omega)
theorem pg_det_sub (H : pg_St N S nx vr bd dep anc mv own bk) (hN : N ≤ 14) (hS : S ≤ 5) : ∀ (k : Nat) (A : pg_S), (∀ p, A p → pg_D N S p) → pg_Sub nx mv A → pg_sz A < k → ∃ W ch, pg_LC N S nx mv own bk A W ch
  | 0, _, _, _, h => absurd h (by omega)
  | k + 1, A, hA, hs, hk => by
    have H' := H
    obtain ⟨h1, h2, h3, h4, h5, h6, h7, h8, h9, h10, h11⟩ := H'
    rcases Classical.em (∃ p, A p) with hne | hne
    · obtain ⟨p, hp⟩ := hne
      obtain ⟨q, hq, hqb⟩ := pg_bex H hA hs (N - p.1 + 1) p hp (by omega)
      obtain ⟨d, ⟨t0, ht0, ht0b, ht0d⟩, hmin⟩ := pg_least (fun d => ∃ q, A q ∧ bd q.1 ∧ dep q.1 = d) ⟨_, q, hq, hqb, rfl⟩
      obtain ⟨P, hP, hPb⟩ : ∃ P, P < 2 ∧ ¬ bk P t0.1 := by
        rcases Classical.em (bk 0 t0.1) with z | z
        · exact ⟨1, by omega, fun w => h10 _ ⟨z, w⟩⟩
        · exact ⟨0, by omega, z⟩
      have hmin' : ∀ v t, A v → (A t ∧ bd t.1 ∧ dep t.1 = d ∧ ¬ bk P t.1) → bd v.1 → dep t.1 ≤ dep v.1 := by
        intro v t hv ht hb
        rcases Nat.lt_or_ge (dep v.1) d with z | z
        · exact absurd ⟨v, hv, hb, rfl⟩ (hmin _ z)
        · omega
      obtain ⟨F, ch1, e1, e2, e3, e4⟩ := pg_att_ex (nx := nx) (mv := mv) (own := own) hN hS (Q := P) (T := fun t => A t ∧ bd t.1 ∧ dep t.1 = d ∧ ¬ bk P t.1) hA 71 _ (fun _ => 0) (pg_att0 (fun p z => z.1) _) (Nat.lt_succ_of_le (pg_sz_le _))
      have ht0F : F t0 := e3 t0 ⟨ht0, ht0b, ht0d, hPb⟩
      have hA' : ∀ p, (A p ∧ ¬ F p) → pg_D N S p := fun p z => hA p z.1
      have hs' : pg_Sub nx mv (fun p => A p ∧ ¬ F p) := fun p z => by
        obtain ⟨m, a, b, c⟩ := pg_sub_pt e2 z.1 z.2 (hs p z.1)
        exact ⟨m, a, b, c⟩
      have hd0 := hA t0 ht0
      have hk' : pg_sz (fun p => A p ∧ ¬ F p) < k := by
        have := pg_sz_lt (A := fun p => A p ∧ ¬ F p) (B := A) (p := t0) (fun q z => z.1) ht0 (fun z => z.2 ht0F) (by have := hd0.1; omega) (by have := hd0.2; omega)
        omega
      obtain ⟨W', ch2, L'⟩ := pg_det_sub H hN hS k _ hA' hs' hk'
      -- one strategy for both
      obtain ⟨ch, hch⟩ : ∃ ch : pg_P → Nat, ∀ p, (F p → ch p = ch1 p) ∧ (¬ F p → ch p = ch2 p) :=
        ⟨fun p => @ite Nat (F p) (Classical.propDecidable _) (ch1 p) (ch2 p), fun p => ⟨fun z => @if_pos _ (Classical.propDecidable _) z _ _ _, fun z => @if_neg _ (Classical.propDecidable _) z _ _ _⟩⟩
      have L := pg_LC_ext (ch' := ch) (fun _ => Iff.rfl) (fun _ _ => Iff.rfl) (fun p z => (hch p).2 z.2) L'
      have e1' := pg_attE_congr (ch' := ch) (fun p z _ => (hch p).1 z) e1
      rcases Classical.em (∃ p, (A p ∧ ¬ F p) ∧ (1 - P = 0 ↔ W' p)) with hl | hl
      · obtain ⟨l0, hl0⟩ := hl
        have B := pg_LC_base H hP hA e2 L
        obtain ⟨F2, ch3, g1, g2, g3, g4⟩ := pg_att_ex (nx := nx) (mv := mv) (own := own) hN hS (Q := 1 - P) (T := fun p => (A p ∧ ¬ F p) ∧ (1 - P = 0 ↔ W' p)) hA 71 _ ch (pg_att0 (fun p z => z.1.1) _) (Nat.lt_succ_of_le (pg_sz_le _))
        have hl0F := g3 l0 hl0
        have hdl := hA l0 hl0.1.1
        have hs2 : pg_Sub nx mv (fun p => A p ∧ ¬ F2 p) := fun p z => by
          obtain ⟨m, a, b, c⟩ := pg_sub_pt g2 z.1 z.2 (hs p z.1)
          exact ⟨m, a, b, c⟩
        have hk2 : pg_sz (fun p => A p ∧ ¬ F2 p) < k := by
          have := pg_sz_lt (A := fun p => A p ∧ ¬ F2 p) (B := A) (p := l0) (fun q z => z.1) hl0.1.1 (fun z => z.2 hl0F) (by have := hdl.1; omega) (by have := hdl.2; omega)
          omega
        obtain ⟨W2, ch4, L2⟩ := pg_det_sub H hN hS k _ (fun p z => hA p z.1) hs2 hk2
        obtain ⟨c5, hc5⟩ : ∃ c5 : pg_P → Nat, ∀ p, (F2 p → c5 p = ch3 p) ∧ (¬ F2 p → c5 p = ch4 p) :=
          ⟨fun p => @ite Nat (F2 p) (Classical.propDecidable _) (ch3 p) (ch4 p), fun p => ⟨fun z => @if_pos _ (Classical.propDecidable _) z _ _ _, fun z => @if_neg _ (Classical.propDecidable _) z _ _ _⟩⟩
        refine ⟨fun p => (F2 p ∧ 1 - P = 0) ∨ (¬ F2 p ∧ W2 p), c5, pg_LC_comb H (Q := 1 - P) (by omega) (T := fun p => (A p ∧ ¬ F p) ∧ (1 - P = 0 ↔ W' p)) (F := F2) (W'' := W2) hA ?_ (pg_attE_congr (fun p z _ => (hc5 p).1 z) g1) g2 (pg_LC_ext (fun _ => Iff.rfl) (fun _ _ => Iff.rfl) (fun p z => (hc5 p).2 z.2) L2) ?_ ?_⟩
        · exact pg_Cert_congr (fun p z => ((hc5 p).1 (g3 p z)).trans (g4 p z)) B
        · intro p z
          exact ⟨fun w => w.elim (fun u => u.2) (fun u => absurd z u.1), fun w => Or.inl ⟨z, w⟩⟩
        · intro p _ z
          exact ⟨fun w => w.elim (fun u => absurd u.1 z) (fun u => u.2), fun w => Or.inr ⟨z, w⟩⟩
      · refine ⟨fun _ => P = 0, ch, pg_LC_all H hP hA (fun t z => ⟨z.2.1, z.2.2.2⟩) hmin' e1' L (fun p ha hf => ?_) (fun _ _ => Iff.rfl)⟩
        have z : ¬ (1 - P = 0 ↔ W' p) := fun w => hl ⟨p, ⟨ha, hf⟩, w⟩
        rcases Classical.em (W' p) with w | w
        · exact ⟨fun _ => w, fun _ => Classical.byContradiction fun u => z ⟨fun _ => w, fun _ => by omega⟩⟩
        · exact ⟨fun u => absurd ⟨fun v => by omega, fun v => absurd v w⟩ z, fun u => absurd u w⟩
    · exact ⟨fun _ => True, fun _ => 0, pg_LC_emp (fun p hp => hne ⟨p, hp⟩)⟩
/-- the certificate of who is stuck at once -/
theorem pg_dead {Q : Nat} {A T : pg_S} {ch : pg_P → Nat} (hA : ∀ p, A p → pg_D N S p) (hT : ∀ p, T p → A p ∧ own p ≠ Q ∧ ∀ m, ¬ mv p m) : pg_Cert N S nx (pg_res nx mv A) own bk Q T ch := by
  refine ⟨fun p hp => hA p (hT p hp).1, fun p hp ho => absurd ho (hT p hp).2.1, fun p hp _ m hm => absurd hm.1 ((hT p hp).2.2 m), fun v hv hb hc => ?_⟩
  have : ∀ w, Relation.TransGen (pg_ge v.1 (pg_E nx (pg_res nx mv A) own Q ch T)) v w → False := by
    intro w hw
    induction hw with
    | single e => obtain ⟨⟨wa, _, m, hm, _⟩, _⟩ := e; exact (hT _ wa).2.2 m hm.1
    | tail _ _ ih => exact ih
  exact this v hc
theorem pg_det (H : pg_St N S nx vr bd dep anc mv own bk) (hN : N ≤ 14) (hS : S ≤ 5) : ∃ W ch, pg_LC N S nx mv own bk (pg_D N S) W ch := by
  have H' := H
  obtain ⟨h1, h2, h3, h4, h5, h6, h7, h8, h9, h10, h11⟩ := H'
  obtain ⟨F1, c1, a1, a2, a3, a4⟩ := pg_att_ex (nx := nx) (mv := mv) (own := own) hN hS (Q := 1) (A := pg_D N S) (T := fun p => pg_D N S p ∧ own p = 0 ∧ ∀ m, ¬ mv p m) (fun _ z => z) 71 _ (fun _ => 0) (pg_att0 (fun p z => z.1) _) (Nat.lt_succ_of_le (pg_sz_le _))
  obtain ⟨F0, c0, b1, b2, b3, b4⟩ := pg_att_ex (nx := nx) (mv := mv) (own := own) hN hS (Q := 0) (A := fun p => pg_D N S p ∧ ¬ F1 p) (T := fun p => (pg_D N S p ∧ ¬ F1 p) ∧ own p = 1 ∧ ∀ m, ¬ mv p m) (fun _ z => z.1) 71 _ c1 (pg_att0 (fun p z => z.1) _) (Nat.lt_succ_of_le (pg_sz_le _))
  have hs : pg_Sub nx mv (fun p => (pg_D N S p ∧ ¬ F1 p) ∧ ¬ F0 p) := by
    intro p z
    have mvp : ∃ m, mv p m := by
      refine Classical.byContradiction fun w => ?_
      have w' : ∀ m, ¬ mv p m := fun m hm => w ⟨m, hm⟩
      have ho := h11 p z.1.1
      have o3 : own p = 0 ∨ own p = 1 ∨ own p = 2 := by omega
      rcases o3 with o | o | o
      · exact z.1.2 (a3 p ⟨z.1.1, o, w'⟩)
      · exact z.2 (b3 p ⟨z.1, o, w'⟩)
      · exact w' 0 ((h7 p z.1.1 o 0).mpr rfl)
    obtain ⟨m, hm⟩ := mvp
    obtain ⟨m1, q1, q2, q3⟩ := pg_sub_pt a2 z.1.1 z.1.2 ⟨m, hm, h1 p m z.1.1 hm⟩
    obtain ⟨m2, r1, r2, r3⟩ := pg_sub_pt b2 z.1 z.2 ⟨m1, q1, q2, q3⟩
    exact ⟨m2, r1, r2, r3⟩
  obtain ⟨W, c2, L⟩ := pg_det_sub H hN hS 71 _ (fun p z => z.1.1) hs (Nat.lt_succ_of_le (pg_sz_le _))
  obtain ⟨ch, hch⟩ : ∃ ch : pg_P → Nat, ∀ p, (F1 p → ch p = c1 p) ∧ (¬ F1 p → F0 p → ch p = c0 p) ∧ (¬ F1 p → ¬ F0 p → ch p = c2 p) := by
    refine ⟨fun p => @ite Nat (F1 p) (Classical.propDecidable _) (c1 p) (@ite Nat (F0 p) (Classical.propDecidable _) (c0 p) (c2 p)), fun p => ⟨fun z => @if_pos _ (Classical.propDecidable _) z _ _ _, fun z w => ?_, fun z w => ?_⟩⟩
    · show @ite Nat (F1 p) (Classical.propDecidable _) (c1 p) (@ite Nat (F0 p) (Classical.propDecidable _) (c0 p) (c2 p)) = c0 p
      rw [@if_neg _ (Classical.propDecidable _) z, @if_pos _ (Classical.propDecidable _) w]
    · show @ite Nat (F1 p) (Classical.propDecidable _) (c1 p) (@ite Nat (F0 p) (Classical.propDecidable _) (c0 p) (c2 p)) = c2 p
      rw [@if_neg _ (Classical.propDecidable _) z, @if_neg _ (Classical.propDecidable _) w]
  have L0 := pg_LC_comb H (Q := 0) (by omega) (A := fun p => pg_D N S p ∧ ¬ F1 p) (T := fun p => (pg_D N S p ∧ ¬ F1 p) ∧ own p = 1 ∧ ∀ m, ¬ mv p m) (F := F0) (W := fun p => F0 p ∨ W p) (W'' := W) (ch := ch) (fun _ z => z.1) (pg_dead (fun _ z => z.1) (fun p z => ⟨z.1, by omega, z.2.2⟩))
    (pg_attE_congr (fun p z _ => (hch p).2.1 (by obtain ⟨ρ, K, ⟨f1, f2, _⟩, _⟩ := b1; exact (f2 p z).2) z) b1) b2 (pg_LC_ext (fun _ => Iff.rfl) (fun _ _ => Iff.rfl) (fun p z => (hch p).2.2 z.1.2 z.2) L) (fun p z => ⟨fun _ => rfl, fun _ => Or.inl z⟩) (fun p _ z => ⟨fun w => w.resolve_left z, Or.inr⟩)
  exact ⟨fun p => ¬ F1 p ∧ (F0 p ∨ W p), ch, pg_LC_comb H (Q := 1) (by omega) (T := fun p => pg_D N S p ∧ own p = 0 ∧ ∀ m, ¬ mv p m) (F := F1) (fun _ z => z) (pg_dead (fun _ z => z) (fun p z => ⟨z.1, by omega, z.2.2⟩)) (pg_attE_congr (fun p z _ => (hch p).1 z) a1) a2 L0 (fun p z => ⟨fun w => absurd z w.1, fun w => absurd w (by omega)⟩) (fun p _ z => ⟨fun w => w.2, fun w => ⟨z, w⟩⟩)⟩
end
end
section
/-! ===== pure: whole games; one-player games; strategies; pins ===== -/
theorem pg_flip {P : Nat} (hP : P < 2) (w : Prop) : ¬ (P = 0 ↔ w) ↔ (1 - P = 0 ↔ w) := by
  have : P = 0 ∨ P = 1 := by omega
  rcases this with rfl | rfl <;> rcases Classical.em w with h | h <;> simp [h]
section
variable {N S : Nat} {nx : pg_P → Nat → pg_P} {vr bd : Nat → Prop} {dep : Nat → Nat} {anc : Nat → Nat → Prop} {mv mv' : pg_M} {own : pg_P → Nat} {bk : Nat → Nat → Prop}
abbrev pg_FC (N S : Nat) (nx : pg_P → Nat → pg_P) (mv : pg_M) (own : pg_P → Nat) (bk : Nat → Nat → Prop) (W : pg_S) (ch : pg_P → Nat) : Prop :=
  ∀ P, P < 2 → pg_Cert N S nx mv own bk P (fun p => pg_D N S p ∧ (P = 0 ↔ W p)) ch
theorem pg_FC_of (H : pg_St N S nx vr bd dep anc mv own bk) {W : pg_S} {ch : pg_P → Nat} (h : pg_LC N S nx mv own bk (pg_D N S) W ch) : pg_FC N S nx mv own bk W ch := by
  intro P hP
  refine pg_Cert_mv (fun p m hp => ⟨fun z => ⟨z, H.1 p m hp.1 z⟩, fun z => z.1⟩) (h P hP)
theorem pg_FC_ex (H : pg_St N S nx vr bd dep anc mv own bk) (hN : N ≤ 14) (hS : S ≤ 5) : ∃ W ch, pg_FC N S nx mv own bk W ch := by
  obtain ⟨W, ch, h⟩ := pg_det H hN hS
  exact ⟨W, ch, pg_FC_of H h⟩
theorem pg_FC_W {W W' : pg_S} {ch : pg_P → Nat} (h : ∀ p, pg_D N S p → (W' p ↔ W p)) (F : pg_FC N S nx mv own bk W ch) : pg_FC N S nx mv own bk W' ch := fun P hP =>
  pg_Cert_ext (fun p => ⟨fun z => ⟨z.1, z.2.trans (h p z.1)⟩, fun z => ⟨z.1, z.2.trans (h p z.1).symm⟩⟩) (F P hP)
theorem pg_FC_mv {W : pg_S} {ch : pg_P → Nat} (h : ∀ p m, pg_D N S p → (mv' p m ↔ mv p m)) (F : pg_FC N S nx mv own bk W ch) : pg_FC N S nx mv' own bk W ch := fun P hP =>
  pg_Cert_mv (fun p m z => h p m z.1) (F P hP)
/-- the evaluation is the winning set -/
theorem pg_T1 (H : pg_St N S nx vr bd dep anc mv own bk) {W : pg_S} {ch : pg_P → Nat} (F : pg_FC N S nx mv own bk W ch) {x y : pg_X} (h : pg_Ev N S nx vr bd dep mv own bk 3 x y) {p : pg_P} (hp : pg_D N S p) : y.1 p ↔ W p := by
  rcases Classical.em (W p) with w | w
  · exact ⟨fun _ => w, fun _ => pg_ct0 H (F 0 (by omega)) h ⟨hp, ⟨fun _ => w, fun _ => rfl⟩⟩⟩
  · exact ⟨fun z => absurd z (pg_ct1 H (F 1 (by omega)) h ⟨hp, ⟨fun z => absurd z (by omega), fun z => absurd z w⟩⟩), fun z => absurd z w⟩
/-- what one player is sure of and what the other has exclude each other -/
theorem pg_uqW (H : pg_St N S nx vr bd dep anc mv own bk) {W V : pg_S} {ch σ : pg_P → Nat} (F : pg_FC N S nx mv own bk W ch) {P : Nat} (hP : P < 2) (C : pg_Cert N S nx mv own bk P V σ) {p : pg_P} (hp : V p) : (P = 0 ↔ W p) := by
  refine Classical.byContradiction fun z => ?_
  exact pg_uq H hP C (F (1 - P) (by omega)) hp ⟨C.1 p hp, (pg_flip hP _).mp z⟩
theorem pg_FC_uq (H : pg_St N S nx vr bd dep anc mv own bk) {W W' : pg_S} {ch ch' : pg_P → Nat} (F : pg_FC N S nx mv own bk W ch) (F' : pg_FC N S nx mv own bk W' ch') {p : pg_P} (hp : pg_D N S p) : W p ↔ W' p := by
  obtain ⟨y, hy⟩ := pg_Ev_ex H 3 (fun _ => False, fun _ => False)
  exact (pg_T1 H F hy hp).symm.trans (pg_T1 H F' hy hp)
/-! one-player games -/
abbrev pg_E0 (N S : Nat) (nx : pg_P → Nat → pg_P) (mv : pg_M) (p q : pg_P) : Prop := pg_D N S p ∧ ∃ m, mv p m ∧ q = nx p m
abbrev pg_bad (N S : Nat) (nx : pg_P → Nat → pg_P) (mv : pg_M) (own : pg_P → Nat) (bk : Nat → Nat → Prop) (P : Nat) (p : pg_P) : Prop :=
  ∃ q, (q = p ∨ Relation.TransGen (pg_E0 N S nx mv) p q) ∧ pg_D N S q ∧ ((own q = P ∧ ∀ m, ¬ mv q m) ∨ (bk P q.1 ∧ Relation.TransGen (pg_ge q.1 (pg_E0 N S nx mv)) q q))
noncomputable def pg_o1 (own : pg_P → Nat) (mv : pg_M) (P : Nat) (p : pg_P) : Nat :=
  if own p = 2 then 2 else @ite Nat (own p = P ∧ ∀ m, ¬ mv p m) (Classical.propDecidable _) P (1 - P)
theorem pg_o1_2 {P : Nat} (hP : P < 2) (p : pg_P) : pg_o1 own mv P p = 2 ↔ own p = 2 := by
  unfold pg_o1
  split
  · rename_i h; exact ⟨fun _ => h, fun _ => rfl⟩
  · rename_i h
    refine ⟨fun z => ?_, fun z => absurd z h⟩
    rcases Classical.em (own p = P ∧ ∀ m, ¬ mv p m) with w | w
    · rw [@if_pos _ (Classical.propDecidable _) w] at z; omega
    · rw [@if_neg _ (Classical.propDecidable _) w] at z; omega
theorem pg_o1_P {P : Nat} (hP : P < 2) {p : pg_P} (h : pg_o1 own mv P p = P) : own p = P ∧ ∀ m, ¬ mv p m := by
  unfold pg_o1 at h
  split at h
  · omega
  · rcases Classical.em (own p = P ∧ ∀ m, ¬ mv p m) with w | w
    · exact w
    · rw [@if_neg _ (Classical.propDecidable _) w] at h; omega
theorem pg_o1_Q {P : Nat} {p : pg_P} (h2 : own p ≠ 2) (w : ¬ (own p = P ∧ ∀ m, ¬ mv p m)) : pg_o1 own mv P p = 1 - P := by
  unfold pg_o1
  rw [if_neg h2, @if_neg _ (Classical.propDecidable _) w]
theorem pg_o1_Pe {P : Nat} (hP : P < 2) {p : pg_P} (w : own p = P ∧ ∀ m, ¬ mv p m) : pg_o1 own mv P p = P := by
  unfold pg_o1
  rw [if_neg (by have := w.1; omega), @if_pos _ (Classical.propDecidable _) w]
theorem pg_o1_le {P : Nat} (hP : P < 2) (p : pg_P) : pg_o1 own mv P p ≤ 2 := by
  unfold pg_o1
  split
  · omega
  · rcases Classical.em (own p = P ∧ ∀ m, ¬ mv p m) with w | w
    · rw [@if_pos _ (Classical.propDecidable _) w]; omega
    · rw [@if_neg _ (Classical.propDecidable _) w]; omega
theorem pg_o1_St (H : pg_St N S nx vr bd dep anc mv own bk) {P : Nat} (hP : P < 2) : pg_St N S nx vr bd dep anc mv (pg_o1 own mv P) bk := by
  have H' := H
  obtain ⟨h1, h2, h3, h4, h5, h6, h7, h8, h9, h10, h11⟩ := H'
  exact pg_St_sub H (fun _ _ _ z => z) (fun p _ => pg_o1_2 hP p) (fun p hp ho => (h7 p hp ho 0).mpr rfl) (fun p _ => pg_o1_le hP p)
theorem pg_bad_pre {P : Nat} {p q : pg_P} (e : pg_E0 N S nx mv p q) (h : pg_bad N S nx mv own bk P q) : pg_bad N S nx mv own bk P p := by
  obtain ⟨r, hr, h⟩ := h
  refine ⟨r, Or.inr ?_, h⟩
  rcases hr with z | z
  · rw [z]; exact .single e
  · exact (Relation.TransGen.single e).trans z
/-- from where nothing bad is met player P has a certificate in the game where the other one moves everywhere -/
theorem pg_nb (H : pg_St N S nx vr bd dep anc mv own bk) {P : Nat} (hP : P < 2) (σ : pg_P → Nat) : pg_Cert N S nx mv (pg_o1 own mv P) bk P (fun p => pg_D N S p ∧ ¬ pg_bad N S nx mv own bk P p) σ := by
  refine ⟨fun p hp => hp.1, fun p hp ho => ?_, fun p hp ho m hm => ⟨H.1 p m hp.1 hm, fun z => hp.2 (pg_bad_pre ⟨hp.1, m, hm, rfl⟩ z)⟩, fun v hv hb hc => ?_⟩
  · exact absurd ⟨p, Or.inl rfl, hp.1, Or.inl (pg_o1_P hP ho)⟩ hp.2
  · refine hv.2 ⟨v, Or.inl rfl, hv.1, Or.inr ⟨hb, pg_mono ?_ hc⟩⟩
    rintro a b ⟨⟨wa, wb, m, hm, hs, e⟩, g⟩
    exact ⟨⟨wa.1, m, hm, e⟩, g⟩
/-- a closed set of player P's, without stuck positions of his and without cycles bad for him, is not bad -/
theorem pg_nbad {P : Nat} {W : pg_S} (h1 : ∀ p q, W p → pg_E0 N S nx mv p q → W q) (h2 : ∀ p, W p → own p = P → ∃ m, mv p m) (h3 : ∀ v, W v → bk P v.1 → ¬ Relation.TransGen (pg_ge v.1 (fun a b => W a ∧ W b ∧ pg_E0 N S nx mv a b)) v v) {p : pg_P} (hp : W p) : ¬ pg_bad N S nx mv own bk P p := by
  rintro ⟨q, hq, _, hb⟩
  have wq : W q := by
    rcases hq with z | z
    · rw [z]; exact hp
    · exact pg_inv (I := W) (fun a b e ha => h1 a b ha e) z hp
  rcases hb with z | z
  · obtain ⟨m, hm⟩ := h2 q wq z.1
    exact z.2 m hm
  · refine h3 q wq z.1 (pg_monoI (I := W) (fun a b e ha => ?_) z.2 wq).2
    have hb := h1 a b ha e.1
    exact ⟨hb, ⟨ha, hb, e.1⟩, e.2⟩
theorem pg_T2W (H : pg_St N S nx vr bd dep anc mv own bk) {P : Nat} (hP : P < 2) {W : pg_S} {ch : pg_P → Nat} (F : pg_FC N S nx mv (pg_o1 own mv P) bk W ch) {p : pg_P} (hp : pg_D N S p) : (P = 0 ↔ W p) ↔ ¬ pg_bad N S nx mv own bk P p := by
  constructor
  · intro w
    obtain ⟨c1, c2, c3, c4⟩ := F P hP
    have ho : ∀ p, (pg_D N S p ∧ (P = 0 ↔ W p)) → pg_o1 own mv P p ≠ P := fun p z o => (pg_o1_P hP o).2 _ (c2 p z o).1
    refine pg_nbad (W := fun p => pg_D N S p ∧ (P = 0 ↔ W p)) ?_ ?_ ?_ ⟨hp, w⟩
    · rintro a b wa ⟨_, m, hm, rfl⟩
      exact c3 a wa (ho a wa) m hm
    · intro a wa oa
      refine Classical.byContradiction fun z => ho a wa (pg_o1_Pe hP ⟨oa, fun m hm => z ⟨m, hm⟩⟩)
    · intro v wv hb hc
      refine c4 v wv hb (pg_mono ?_ hc)
      rintro a b ⟨⟨wa, wb, _, m, hm, e⟩, g⟩
      exact ⟨⟨wa, wb, m, hm, fun o => absurd o (ho a wa), e⟩, g⟩
  · intro nb
    exact pg_uqW (pg_o1_St H hP) F hP (pg_nb H hP ch) ⟨hp, nb⟩
theorem pg_T2 (H : pg_St N S nx vr bd dep anc mv own bk) (hN : N ≤ 14) (hS : S ≤ 5) {P : Nat} (hP : P < 2) {x y : pg_X} (h : pg_Ev N S nx vr bd dep mv (pg_o1 own mv P) bk 3 x y) {p : pg_P} (hp : pg_D N S p) : (P = 0 ↔ y.1 p) ↔ ¬ pg_bad N S nx mv own bk P p := by
  obtain ⟨W, ch, F⟩ := pg_FC_ex (pg_o1_St H hP) hN hS
  have e := pg_T1 (pg_o1_St H hP) F h hp
  rw [e]
  exact pg_T2W H hP F hp
/-! a strategy is checked by the cycles of the game that it leaves -/
theorem pg_T3 (H : pg_St N S nx vr bd dep anc mv own bk) {P : Nat} (hP : P < 2) {W : pg_S} {ch : pg_P → Nat} (F : pg_FC N S nx mv own bk W ch)
    (r1 : ∀ p, pg_D N S p → own p ≠ P → ∀ m, mv' p m ↔ mv p m) (r2 : ∀ p, pg_D N S p → own p = P → (∀ m, ¬ mv p m) → ∀ m, ¬ mv' p m)
    (r3 : ∀ p, pg_D N S p → own p = P → (∃ m, mv p m) → ∃ f, mv p f ∧ ((P = 0 ↔ W p) → f = ch p) ∧ ∀ m, mv' p m ↔ m = f) {p : pg_P} (hp : pg_D N S p) : pg_bad N S nx mv' own bk P p ↔ ¬ (P = 0 ↔ W p) := by
  have H' := H
  obtain ⟨h1, h2, h3, h4, h5, h6, h7, h8, h9, h10, h11⟩ := H'
  have sub : ∀ p m, pg_D N S p → mv' p m → mv p m := by
    intro p m hp hm
    rcases Classical.em (own p = P) with o | o
    · rcases Classical.em (∃ m, mv p m) with z | z
      · obtain ⟨f, f1, _, f3⟩ := r3 p hp o z
        rw [(f3 m).mp hm]; exact f1
      · exact absurd hm (r2 p hp o (fun m w => z ⟨m, w⟩) m)
    · exact (r1 p hp o m).mp hm
  constructor
  · intro hb w
    obtain ⟨c1, c2, c3, c4⟩ := F P hP
    have mvch : ∀ a m, (pg_D N S a ∧ (P = 0 ↔ W a)) → own a = P → mv' a m → m = ch a := by
      intro a m wa o hm
      obtain ⟨f, f1, f2, f3⟩ := r3 a wa.1 o ⟨_, (c2 a wa o).1⟩
      rw [(f3 m).mp hm]; exact f2 wa.2
    refine pg_nbad (W := fun p => pg_D N S p ∧ (P = 0 ↔ W p)) ?_ ?_ ?_ ⟨hp, w⟩ hb
    · rintro a b wa ⟨_, m, hm, rfl⟩
      rcases Classical.em (own a = P) with o | o
      · rw [mvch a m wa o hm]; exact (c2 a wa o).2
      · exact c3 a wa o m (sub a m wa.1 hm)
    · intro a wa oa
      obtain ⟨f, f1, f2, f3⟩ := r3 a wa.1 oa ⟨_, (c2 a wa oa).1⟩
      exact ⟨f, (f3 f).mpr rfl⟩
    · intro v wv hb hc
      refine c4 v wv hb (pg_mono ?_ hc)
      rintro a b ⟨⟨wa, wb, _, m, hm, e⟩, g⟩
      exact ⟨⟨wa, wb, m, sub a m wa.1 hm, fun o => mvch a m wa o hm, e⟩, g⟩
  · intro w
    have w' := (pg_flip hP _).mp w
    refine Classical.byContradiction fun nb => ?_
    obtain ⟨c1, c2, c3, c4⟩ := F (1 - P) (by omega)
    have Hs : pg_St N S nx vr bd dep anc mv' own bk := pg_St_sub H sub (fun _ _ => Iff.rfl) (fun p hp o => (r1 p hp (by omega) 0).mpr ((h7 p hp o 0).mpr rfl)) h11
    -- the other player's certificate in the game that is left, where he moves everywhere
    obtain ⟨τ, hτ⟩ : ∃ τ : pg_P → Nat, ∀ p, (own p ≠ P → τ p = ch p) ∧ (own p = P → ∀ m, mv' p m → pg_D N S p → m = τ p) := by
      refine ⟨fun p => @ite Nat (own p = P) (Classical.propDecidable _) (@dite Nat (∃ m, mv' p m) (Classical.propDecidable _) (fun z => z.choose) (fun _ => 0)) (ch p), fun p => ⟨fun z => @if_neg _ (Classical.propDecidable _) z _ _ _, fun z m hm hd => ?_⟩⟩
      have ex : ∃ m, mv' p m := ⟨m, hm⟩
      show m = @ite Nat (own p = P) (Classical.propDecidable _) (@dite Nat (∃ m, mv' p m) (Classical.propDecidable _) (fun z => z.choose) (fun _ => 0)) (ch p)
      rw [@if_pos _ (Classical.propDecidable _) z, @dif_pos _ (Classical.propDecidable _) ex]
      obtain ⟨f, f1, f2, f3⟩ := r3 p hd z ⟨m, sub p m hd hm⟩
      rw [(f3 m).mp hm, (f3 ex.choose).mp ex.choose_spec]
    have C : pg_Cert N S nx mv' (pg_o1 own mv' P) bk (1 - P) (fun p => pg_D N S p ∧ (1 - P = 0 ↔ W p)) τ := by
      refine ⟨c1, fun a wa o => ?_, fun a wa o m hm => ?_, fun v wv hb hc => c4 v wv hb (pg_mono ?_ hc)⟩
      · rcases Classical.em (own a = P) with oa | oa
        · have ex : ∃ m, mv' a m := Classical.byContradiction fun z => by
            have := pg_o1_Pe hP (own := own) (mv := mv') (p := a) ⟨oa, fun m hm => z ⟨m, hm⟩⟩
            omega
          obtain ⟨m, hm⟩ := ex
          rw [← (hτ a).2 oa m hm wa.1]
          exact ⟨hm, c3 a wa (by omega) m (sub a m wa.1 hm)⟩
        · have o2 : own a ≠ 2 := fun z => by
            have := (pg_o1_2 (own := own) (mv := mv') hP a).mpr z
            omega
          have oq : own a = 1 - P := by have := h11 a wa.1; omega
          rw [(hτ a).1 oa]
          obtain ⟨a1, a2⟩ := c2 a wa oq
          exact ⟨(r1 a wa.1 oa _).mpr a1, a2⟩
      · have oq : own a ≠ 1 - P := fun z => o (pg_o1_Q (by omega) (fun y => by omega))
        exact c3 a wa oq m (sub a m wa.1 hm)
      · rintro a b ⟨⟨wa, wb, m, hm, hs, e⟩, g⟩
        refine ⟨⟨wa, wb, m, sub a m wa.1 hm, fun o => ?_, e⟩, g⟩
        rw [hs (pg_o1_Q (by omega) (fun y => by omega))]
        exact (hτ a).1 (by omega)
    exact pg_uq (pg_o1_St Hs hP) hP (pg_nb Hs hP ch) C ⟨hp, nb⟩ ⟨hp, w'⟩
/-! one position with one move left -/
theorem pg_pin_up {P : Nat} {v : pg_P} {k : Nat} (ov : own v = P) (hk : mv v k) (e1 : ∀ m, mv' v m ↔ m = k) (e2 : ∀ p m, p ≠ v → (mv' p m ↔ mv p m)) {W : pg_S} {σ : pg_P → Nat} (C : pg_Cert N S nx mv' own bk P W σ) : pg_Cert N S nx mv own bk P W σ := by
  obtain ⟨c1, c2, c3, c4⟩ := C
  have up : ∀ p m, mv' p m → mv p m := by
    intro p m hm
    rcases Classical.em (p = v) with e | e
    · rw [e] at hm ⊢; rw [(e1 m).mp hm]; exact hk
    · exact (e2 p m e).mp hm
  refine ⟨c1, fun p hp ho => ⟨up _ _ (c2 p hp ho).1, (c2 p hp ho).2⟩, fun p hp ho m hm => c3 p hp ho m ((e2 p m (fun e => ho (e ▸ ov))).mpr hm), fun w hw hb hc => c4 w hw hb (pg_mono ?_ hc)⟩
  rintro a b ⟨⟨wa, wb, m, hm, hs, e⟩, g⟩
  refine ⟨⟨wa, wb, m, ?_, hs, e⟩, g⟩
  rcases Classical.em (a = v) with z | z
  · have oa : own a = P := by rw [z]; exact ov
    rw [hs oa]; exact (c2 a wa oa).1
  · exact (e2 a m z).mpr hm
theorem pg_T4 (H : pg_St N S nx vr bd dep anc mv' own bk) {P : Nat} (hP : P < 2) {v : pg_P} {k : Nat} (ov : own v = P) (e1 : ∀ m, mv' v m ↔ m = k) (e2 : ∀ p m, p ≠ v → (mv' p m ↔ mv p m)) {W W' : pg_S} {ch ch' : pg_P → Nat} (F : pg_FC N S nx mv own bk W ch) (hk : k = ch v) (hv : pg_D N S v) (wv : P = 0 ↔ W v) (F' : pg_FC N S nx mv' own bk W' ch') : P = 0 ↔ W' v := by
  obtain ⟨c1, c2, c3, c4⟩ := F P hP
  have C : pg_Cert N S nx mv' own bk P (fun p => pg_D N S p ∧ (P = 0 ↔ W p)) ch := by
    refine ⟨c1, fun p hp ho => ⟨?_, (c2 p hp ho).2⟩, fun p hp ho m hm => c3 p hp ho m ((e2 p m (fun e => ho (e ▸ ov))).mp hm), fun w hw hb hc => c4 w hw hb (pg_mono ?_ hc)⟩
    · rcases Classical.em (p = v) with z | z
      · rw [z]; exact (e1 _).mpr hk.symm
      · exact (e2 p _ z).mpr (c2 p hp ho).1
    · rintro a b ⟨⟨wa, wb, m, hm, hs, e⟩, g⟩
      refine ⟨⟨wa, wb, m, ?_, hs, e⟩, g⟩
      rcases Classical.em (a = v) with z | z
      · have oa : own a = P := by rw [z]; exact ov
        rw [hs oa]; exact (c2 a wa oa).1
      · exact (e2 a m z).mp hm
  exact pg_uqW H F' hP C ⟨hv, wv⟩
theorem pg_pin_mono (H : pg_St N S nx vr bd dep anc mv own bk) {P : Nat} (hP : P < 2) {v : pg_P} {k : Nat} (ov : own v = P) (hk : mv v k) (e1 : ∀ m, mv' v m ↔ m = k) (e2 : ∀ p m, p ≠ v → (mv' p m ↔ mv p m)) {W W' : pg_S} {ch ch' : pg_P → Nat} (F : pg_FC N S nx mv own bk W ch) (F' : pg_FC N S nx mv' own bk W' ch') {p : pg_P} (hp : pg_D N S p) (h : P = 0 ↔ W' p) : P = 0 ↔ W p :=
  pg_uqW H F hP (pg_pin_up ov hk e1 e2 (F' P hP)) ⟨hp, h⟩
theorem pg_T5 (H : pg_St N S nx vr bd dep anc mv own bk) {P : Nat} (hP : P < 2) {v : pg_P} {k : Nat} (ov : own v = P) (hk : mv v k) (e1 : ∀ m, mv' v m ↔ m = k) (e2 : ∀ p m, p ≠ v → (mv' p m ↔ mv p m)) {W W' : pg_S} {ch ch' : pg_P → Nat} (F : pg_FC N S nx mv own bk W ch) (F' : pg_FC N S nx mv' own bk W' ch') (hv : pg_D N S v) (wv : P = 0 ↔ W' v) : ∃ c, pg_FC N S nx mv' own bk W c := by
  have up := fun p (hp : pg_D N S p) (h : P = 0 ↔ W' p) => pg_pin_mono H hP ov hk e1 e2 F F' hp h
  obtain ⟨c, hc⟩ : ∃ c : pg_P → Nat, ∀ p, ((P = 0 ↔ W' p) → (P = 0 ↔ W p) → c p = ch' p) ∧ (¬ ((P = 0 ↔ W' p) ∧ (P = 0 ↔ W p)) → c p = ch p) :=
    ⟨fun p => @ite Nat ((P = 0 ↔ W' p) ∧ (P = 0 ↔ W p)) (Classical.propDecidable _) (ch' p) (ch p), fun p => ⟨fun z w => @if_pos _ (Classical.propDecidable _) ⟨z, w⟩ _ _ _, fun z => @if_neg _ (Classical.propDecidable _) z _ _ _⟩⟩
  refine ⟨c, fun R hR => ?_⟩
  obtain ⟨c1, c2, c3, c4⟩ := F R hR
  rcases Classical.em (R = P) with e | e
  · subst e
    obtain ⟨d1, d2, d3, d4⟩ := F' R hR
    refine ⟨c1, fun p hp ho => ?_, fun p hp ho m hm => c3 p hp ho m ((e2 p m (fun e => ho (e ▸ ov))).mp hm), fun w hw hb hcy => ?_⟩
    · rcases Classical.em (R = 0 ↔ W' p) with z | z
      · rw [(hc p).1 z hp.2]
        obtain ⟨a, b⟩ := d2 p ⟨hp.1, z⟩ ho
        exact ⟨a, b.1, up _ b.1 b.2⟩
      · rw [(hc p).2 (fun y => z y.1)]
        obtain ⟨a, b⟩ := c2 p hp ho
        exact ⟨(e2 p _ (fun e => z (by rw [e]; exact wv))).mpr a, b⟩
    · -- once in W' always in W'
      have st1 : ∀ a b, pg_ge w.1 (pg_E nx mv' own R c (fun p => pg_D N S p ∧ (R = 0 ↔ W p))) a b → (R = 0 ↔ W' a) → (R = 0 ↔ W' b) ∧ pg_ge w.1 (pg_E nx mv' own R ch' (fun p => pg_D N S p ∧ (R = 0 ↔ W' p))) a b := by
        rintro a b ⟨⟨wa, wb, m, hm, hs, rfl⟩, g⟩ za
        have zb : R = 0 ↔ W' (nx a m) := by
          rcases Classical.em (own a = R) with o | o
          · rw [hs o, (hc a).1 za wa.2]; exact (d2 a ⟨wa.1, za⟩ o).2.2
          · exact (d3 a ⟨wa.1, za⟩ o m hm).2
        exact ⟨zb, ⟨⟨wa.1, za⟩, ⟨wb.1, zb⟩, m, hm, fun o => (hs o).trans ((hc a).1 za wa.2), rfl⟩, g⟩
      have st2 : ∀ a b, pg_ge w.1 (pg_E nx mv' own R c (fun p => pg_D N S p ∧ (R = 0 ↔ W p))) a b → ¬ (R = 0 ↔ W' a) → pg_ge w.1 (pg_E nx mv own R ch (fun p => pg_D N S p ∧ (R = 0 ↔ W p))) a b := by
        rintro a b ⟨⟨wa, wb, m, hm, hs, rfl⟩, g⟩ za
        exact ⟨⟨wa, wb, m, (e2 a m (fun e => za (by rw [e]; exact wv))).mp hm, fun o => (hs o).trans ((hc a).2 (fun y => za y.1)), rfl⟩, g⟩
      rcases Classical.em (R = 0 ↔ W' w) with z | z
      · exact d4 w ⟨hw.1, z⟩ hb (pg_monoI (I := fun p => (R = 0 ↔ W' p)) st1 hcy z).2
      · have walk : ∀ u, Relation.TransGen (pg_ge w.1 (pg_E nx mv' own R c (fun p => pg_D N S p ∧ (R = 0 ↔ W p)))) w u → (R = 0 ↔ W' u) ∨ Relation.TransGen (pg_ge w.1 (pg_E nx mv own R ch (fun p => pg_D N S p ∧ (R = 0 ↔ W p)))) w u := by
          intro u hu
          induction hu with
          | single e => exact Or.inr (.single (st2 _ _ e z))
          | tail _ e ih =>
            rename_i a b _
            rcases Classical.em (R = 0 ↔ W' a) with y | y
            · exact Or.inl (st1 _ _ e y).1
            · exact Or.inr (.tail (ih.resolve_left y) (st2 _ _ e y))
        exact c4 w hw hb ((walk w hcy).resolve_left z)
  · -- the other player: nothing changes where he wins
    have nv : ∀ p, (pg_D N S p ∧ (R = 0 ↔ W p)) → p ≠ v := by
      rintro p hp rfl
      have a := up _ hv wv
      have b := hp.2
      have cc := a.trans b.symm
      omega
    have cc : ∀ p, (pg_D N S p ∧ (R = 0 ↔ W p)) → c p = ch p := by
      intro p hp
      refine (hc p).2 (fun y => ?_)
      have := y.2.trans hp.2.symm
      omega
    exact pg_Cert_congr cc (pg_Cert_mv (fun p m hp => e2 p m (nv p hp)) ⟨c1, c2, c3, c4⟩)
end
end
section
/-! ===== bits of masks ===== -/
theorem zb_1 : ∀ i, i < 32 → bt 1 i = decide (i = 0) := by decide +kernel
theorem zb_sh (m : Int32) {s : Nat} (hs : s < 32) : (m >>> (nI s &&& 31)) &&& 1 = if bt m s = true then 1 else 0 := by
  apply b_ext
  intro i hi
  rw [b_and, b_sshr s hs m hi, zb_1 i hi]
  rcases Nat.eq_zero_or_pos i with z | z
  · subst z
    rw [if_pos (by omega), Nat.add_zero]
    cases bt m s
    · rfl
    · rfl
  · rw [decide_eq_false (by omega : ¬ i = 0), Bool.and_false]
    split
    · rw [zb_1 i hi, decide_eq_false (by omega : ¬ i = 0)]
    · rw [b_0]
theorem zb_sh0 (m : Int32) {s : Nat} (hs : s < 32) : ((m >>> (nI s &&& 31)) &&& 1 = 0) ↔ ¬ bt m s = true := by
  rw [zb_sh m hs]
  split
  · rename_i h; exact ⟨fun z => absurd z (by decide), fun z => absurd h z⟩
  · rename_i h; exact ⟨fun _ => h, fun _ => rfl⟩
theorem zb_sh1 (m : Int32) {s : Nat} (hs : s < 32) : ((m >>> (nI s &&& 31)) &&& 1 = 1) ↔ bt m s = true := by
  rw [zb_sh m hs]
  split
  · rename_i h; exact ⟨fun _ => h, fun _ => rfl⟩
  · rename_i h; exact ⟨fun z => absurd z (by decide), fun z => absurd z h⟩
theorem zb_one {k : Nat} (hk : k < 32) {i : Nat} (hi : i < 32) : bt ((1 : Int32) <<< (nI k &&& 31)) i = decide (i = k) := by
  rw [b_shl k hk 1 hi]
  rcases Nat.lt_or_ge i k with h | h
  · rw [decide_eq_false (by omega : ¬ k ≤ i), decide_eq_false (by omega : ¬ i = k)]; rfl
  · rw [decide_eq_true h, zb_1 (i - k) (by omega)]
    simp only [Bool.true_and]
    rcases Nat.eq_zero_or_pos (i - k) with z | z
    · rw [decide_eq_true z, decide_eq_true (by omega : i = k)]
    · rw [decide_eq_false (by omega : ¬ i - k = 0), decide_eq_false (by omega : ¬ i = k)]
theorem zb_or1 (m : Int32) {k : Nat} (hk : k < 32) {i : Nat} (hi : i < 32) : bt (m ||| ((1 : Int32) <<< (nI k &&& 31))) i = true ↔ (bt m i = true ∨ i = k) := by
  rw [b_or, zb_one hk hi, Bool.or_eq_true, decide_eq_true_iff]
theorem zb_xor1 (m : Int32) {k : Nat} (hk : k < 32) {i : Nat} (hi : i < 32) : bt (m ^^^ ((1 : Int32) <<< (nI k &&& 31))) i = if i = k then !bt m i else bt m i := by
  rw [b_xor, zb_one hk hi]
  split
  · rename_i h; rw [decide_eq_true h, Bool.xor_true]
  · rename_i h; rw [decide_eq_false h, Bool.xor_false]
theorem zb_not (m : Int32) {i : Nat} (hi : i < 32) : bt (m ^^^ (-1)) i = !bt m i := by
  rw [b_xor, b_m1 i hi, Bool.xor_true]
theorem zb_diff (a b : Int32) {i : Nat} (hi : i < 32) : bt (a &&& (b ^^^ (-1))) i = true ↔ (bt a i = true ∧ ¬ bt b i = true) := by
  rw [b_and, zb_not b hi, Bool.and_eq_true, Bool.not_eq_true', Bool.not_eq_true]
theorem zb_zero (m : Int32) : m = 0 ↔ ∀ i, i < 32 → ¬ bt m i = true := by
  constructor
  · intro e i _
    rw [e, b_0]; exact Bool.false_ne_true
  · intro h
    apply b_ext
    intro i hi
    rw [b_0]
    exact Bool.eq_false_iff.mpr (h i hi)
theorem zb_nz {m : Int32} (h : ¬ m = 0) : ∃ i, i < 32 ∧ bt m i = true := by
  refine Classical.byContradiction fun z => h ((zb_zero m).mpr fun i hi hb => z ⟨i, hi, hb⟩)
theorem zb_lt {m : Int32} {i : Nat} (h : bt m i = true) : i < 32 := by
  rcases Nat.lt_or_ge i 32 with z | z
  · exact z
  · rw [b_big z] at h; exact absurd h Bool.false_ne_true
theorem zb_ext {x y : Int32} (h : ∀ i, i < 32 → (bt x i = true ↔ bt y i = true)) : x = y :=
  b_ext fun i hi => Bool.eq_iff_iff.mpr (h i hi)
theorem zb_full : ∀ S, S < 6 → ∀ i, i < 32 → bt (((1 : Int32) <<< (nI S &&& 31)) - 1) i = decide (i < S) := by decide +kernel
theorem zb_3 : ∀ i, i < 32 → bt 3 i = decide (i < 2) := by decide +kernel
theorem zb_32 {m : Int32} (h : ∀ i, i < 32 → 5 ≤ i → ¬ bt m i = true) : ∃ k, k < 32 ∧ m = nI k := by
  obtain ⟨j, hj, e⟩ := pk_andE m (m := 31) 5 (by decide)
  refine ⟨j, hj, ?_⟩
  rw [← e]
  apply b_ext
  intro i hi
  have h31 : ∀ i, i < 32 → bt 31 i = decide (i < 5) := by decide +kernel
  rw [b_and, h31 i hi]
  rcases Nat.lt_or_ge i 5 with z | z
  · rw [decide_eq_true z, Bool.and_true]
  · rw [decide_eq_false (by omega : ¬ i < 5), Bool.and_false]
    exact Bool.eq_false_iff.mpr (h i hi z)
theorem zb_addk : ∀ k, k < 32 → ∀ s, s < 5 → (∀ i, i < 32 → s ≤ i → bt (nI k) i = false) → nI k + ((1 : Int32) <<< (nI s &&& 31)) = nI k ||| ((1 : Int32) <<< (nI s &&& 31)) := by decide +kernel
theorem zb_add {m : Int32} {s : Nat} (hs : s < 5) (h : ∀ i, i < 32 → s ≤ i → ¬ bt m i = true) : m + ((1 : Int32) <<< (nI s &&& 31)) = m ||| ((1 : Int32) <<< (nI s &&& 31)) := by
  obtain ⟨k, hk, rfl⟩ := zb_32 (m := m) (fun i hi h5 => h i hi (by omega))
  exact zb_addk k hk s hs (fun i hi h5 => Bool.eq_false_iff.mpr (h i hi h5))
/-! ===== the two players' game as the arrays hold it ===== -/
def zc_nx (K F G : Nat → Int32) (p : pg_P) (m : Nat) : pg_P :=
  if K p.1 = 5 ∨ K p.1 = 6 then ((F p.1).toNatClampNeg, m) else if m = 1 ∧ (K p.1 = 3 ∨ K p.1 = 4) then ((G p.1).toNatClampNeg, p.2) else ((F p.1).toNatClampNeg, p.2)
def zc_own (K Ar At : Nat → Int32) (p : pg_P) : Nat :=
  if K p.1 = 4 ∨ K p.1 = 5 then 0 else if K p.1 = 3 ∨ K p.1 = 6 then 1 else if K p.1 = 1 then (if bt (At p.2) (Ar p.1).toNatClampNeg = true then 1 else 0) else if K p.1 = 2 then (if bt (At p.2) (Ar p.1).toNatClampNeg = true then 0 else 1) else 2
abbrev zc_vr (K : Nat → Int32) (n : Nat) : Prop := K n = 9
abbrev zc_bd (K : Nat → Int32) (n : Nat) : Prop := K n = 7 ∨ K n = 8
abbrev zc_bk (K : Nat → Int32) (P n : Nat) : Prop := (P = 0 ∧ K n = 7) ∨ (P ≠ 0 ∧ K n = 8)
abbrev zc_dep (Dp : Nat → Int32) (n : Nat) : Nat := (Dp n).toNatClampNeg
abbrev zc_mv (M : Nat → Int32) (p : pg_P) (m : Nat) : Prop := bt (M (p.1 * 5 + p.2)) m = true
abbrev zc_set (a : Nat → Int32) (r : Nat) (p : pg_P) : Prop := bt (a (r + p.1)) p.2 = true
/-- what the solver needs of the formula -/
abbrev zx_C (N S : Nat) (K Ar F G Dp : Nat → Int32) : Prop :=
  (N ≤ 14 ∧ S ≤ 5) ∧ (∀ n, n < N → ∃ c, c < 14 ∧ F n = nI c) ∧ (∀ n, n < N → ∃ c, c < 14 ∧ G n = nI c) ∧
  (∀ n, n < N → (K n = 1 ∨ K n = 2) → ∃ a, a < 2 ∧ Ar n = nI a) ∧ (∀ n, n < N → ∃ d, d < 4 ∧ Dp n = nI d)
/-- the moves: their numbers fit the kind -/
abbrev zx_M (N S : Nat) (K M : Nat → Int32) : Prop :=
  ∀ n s m, n < N → s < S → bt (M (n * 5 + s)) m = true → ((K n = 5 ∨ K n = 6) ∧ m < S) ∨ ((K n = 3 ∨ K n = 4) ∧ m < 2) ∨ ((K n = 7 ∨ K n = 8 ∨ K n = 9) ∧ m = 0)
theorem zc_nx_d {K F G : Nat → Int32} {n s m : Nat} (h : K n = 5 ∨ K n = 6) : zc_nx K F G (n, s) m = ((F n).toNatClampNeg, m) := if_pos h
theorem zc_nx_1 {K F G : Nat → Int32} {n s m : Nat} (h : K n = 3 ∨ K n = 4) (hm : m = 1) : zc_nx K F G (n, s) m = ((G n).toNatClampNeg, s) := by
  unfold zc_nx
  rw [if_neg, if_pos ⟨hm, h⟩]
  rintro (z | z) <;> rcases h with h | h <;> · change K n = _ at z; rw [h] at z; exact absurd z (by decide)
theorem zc_nx_0 {K F G : Nat → Int32} {n s m : Nat} (h : ¬ (K n = 5 ∨ K n = 6)) (h' : ¬ (m = 1 ∧ (K n = 3 ∨ K n = 4))) : zc_nx K F G (n, s) m = ((F n).toNatClampNeg, s) := by
  unfold zc_nx
  rw [if_neg h, if_neg h']
end
section
/-! ===== X: small walks of the solver ===== -/
theorem zi_5 (n s : Nat) : nI n * 5 + nI s = nI (n * 5 + s) := by
  rw [show (5 : Int32) = nI 5 from rfl, pk_mul, nI_add]
theorem zi_2 (n s : Nat) : nI n * 2 + nI s = nI (n * 2 + s) := by
  rw [show (2 : Int32) = nI 2 from rfl, pk_mul, nI_add]
theorem zi_c {n : Nat} (h : n < 1000) : (nI n).toNatClampNeg = n := nI_clamp (by omega)
theorem zi_in {n N : Nat} (h : n < N) (hN : N < 1000) : vp_in (nI n) N := vp_in_nI h (by omega)
theorem zi_lit (k : Nat) (n : Nat) : nI k + nI n = nI (k + n) := nI_add k n
section
variable {N S : Nat}
variable {f_room f_solved f_playMode f_pathLen f_forceBase f_outRow f_badRow f_reachRow : Int32} {a_linkSet a_atomSet a_kinds a_args a_parent a_kids a_first a_second a_depth a_pins a_win a_path a_mv a_choice a_ranks a_sets : Nat → Int32}
theorem zx_modal {post : Int32 → Prop} {n : Nat} (hn : n < 14) (h1 : (a_kinds n = 5 ∨ a_kinds n = 6) → post 1) (h0 : ¬ (a_kinds n = 5 ∨ a_kinds n = 6) → post 0) : wpX_isModal post ((nI S), f_room, (nI N), f_solved, f_playMode, f_pathLen, f_forceBase, f_outRow, f_badRow, f_reachRow, a_linkSet, a_atomSet, a_kinds, a_args, a_parent, a_kids, a_first, a_second, a_depth, a_pins, a_win, a_path, a_mv, a_choice, a_ranks, a_sets) (nI n) := by
  refine And.intro (zi_in hn (by omega)) ?_
  rw [zi_c (by omega)]
  refine br_c (fun z => h1 (Or.inl z)) (fun z => ⟨zi_in hn (by omega), ?_⟩)
  exact br_c (fun w => h1 (Or.inr w)) (fun w => h0 (fun u => u.elim z w))
theorem zx_binder {post : Int32 → Prop} {n : Nat} (hn : n < 14) (h1 : zc_bd a_kinds n → post 1) (h0 : ¬ zc_bd a_kinds n → post 0) : wpX_isBinder post ((nI S), f_room, (nI N), f_solved, f_playMode, f_pathLen, f_forceBase, f_outRow, f_badRow, f_reachRow, a_linkSet, a_atomSet, a_kinds, a_args, a_parent, a_kids, a_first, a_second, a_depth, a_pins, a_win, a_path, a_mv, a_choice, a_ranks, a_sets) (nI n) := by
  refine And.intro (zi_in hn (by omega)) ?_
  rw [zi_c (by omega)]
  refine br_c (fun z => h1 (Or.inl z)) (fun z => ⟨zi_in hn (by omega), ?_⟩)
  exact br_c (fun w => h1 (Or.inr w)) (fun w => h0 (fun u => u.elim z w))
theorem zx_own {post : Int32 → Prop} {n s : Nat} (C : zx_C N S a_kinds a_args a_first a_second a_depth) (hn : n < N) (hs : s < S) (h : post (nI (zc_own a_kinds a_args a_atomSet (n, s)))) : wpX_ownerOf post ((nI S), f_room, (nI N), f_solved, f_playMode, f_pathLen, f_forceBase, f_outRow, f_badRow, f_reachRow, a_linkSet, a_atomSet, a_kinds, a_args, a_parent, a_kids, a_first, a_second, a_depth, a_pins, a_win, a_path, a_mv, a_choice, a_ranks, a_sets) (nI s) (nI n) := by
  have hN := C.1.1
  have hS := C.1.2
  refine And.intro (zi_in (by omega) (by omega)) ?_
  rw [zi_c (by omega)]
  intro x hx
  subst hx
  unfold zc_own at h
  dsimp only at h
  by_cases k4 : a_kinds n = 4
  · rw [if_pos (Or.inl k4)] at h; exact br_t k4 h
  refine br_f k4 ?_
  by_cases k5 : a_kinds n = 5
  · rw [if_pos (Or.inr k5)] at h; exact br_t k5 h
  refine br_f k5 ?_
  rw [if_neg (fun z => z.elim k4 k5)] at h
  by_cases k3 : a_kinds n = 3
  · rw [if_pos (Or.inl k3)] at h; exact br_t k3 h
  refine br_f k3 ?_
  by_cases k6 : a_kinds n = 6
  · rw [if_pos (Or.inr k6)] at h; exact br_t k6 h
  refine br_f k6 ?_
  rw [if_neg (fun z => z.elim k3 k6)] at h
  by_cases k1 : a_kinds n = 1
  · rw [if_pos k1] at h
    refine br_t k1 ?_
    obtain ⟨a, ha, ea⟩ := C.2.2.2.1 n hn (Or.inl k1)
    refine And.intro (zi_in (by omega) (by omega)) ⟨zi_in (by omega) (by omega), ?_⟩
    rw [zi_c (by omega), zi_c (by omega), ea, zb_sh _ (by omega)]
    intro y hy
    refine br_t k1 ?_
    rw [hy]
    rw [ea, zi_c (by omega)] at h
    split at h
    · rename_i g; rw [if_pos g]; exact h
    · rename_i g; rw [if_neg g]; exact h
  refine br_f k1 ?_
  rw [if_neg k1] at h
  by_cases k2 : a_kinds n = 2
  · rw [if_pos k2] at h
    refine br_t k2 ?_
    obtain ⟨a, ha, ea⟩ := C.2.2.2.1 n hn (Or.inr k2)
    refine And.intro (zi_in (by omega) (by omega)) ⟨zi_in (by omega) (by omega), ?_⟩
    rw [zi_c (by omega), zi_c (by omega), ea, zb_sh _ (by omega)]
    intro y hy
    refine br_f k1 ?_
    rw [hy]
    rw [ea, zi_c (by omega)] at h
    split at h
    · rename_i g; rw [if_pos g]; exact h
    · rename_i g; rw [if_neg g]; exact h
  rw [if_neg k2] at h
  exact br_f k2 h
theorem zx_into {post : Int32 → Prop} {n s r : Nat} (C : zx_C N S a_kinds a_args a_first a_second a_depth) (HM : zx_M N S a_kinds a_mv) (hn : n < N) (hs : s < S) (hr : r + 14 ≤ 266)
    (h : ∀ x, (∀ b, b < 32 → (bt x b = true ↔ zc_mv a_mv (n, s) b ∧ zc_set a_sets r (zc_nx a_kinds a_first a_second (n, s) b))) → post x) : wpX_movesInto post ((nI S), f_room, (nI N), f_solved, f_playMode, f_pathLen, f_forceBase, f_outRow, f_badRow, f_reachRow, a_linkSet, a_atomSet, a_kinds, a_args, a_parent, a_kids, a_first, a_second, a_depth, a_pins, a_win, a_path, a_mv, a_choice, a_ranks, a_sets) (nI s) (nI n) (nI r) := by
  have hN := C.1.1
  have hS := C.1.2
  obtain ⟨c, hc, ec⟩ := C.2.1 n hn
  obtain ⟨g, hg, eg⟩ := C.2.2.1 n hn
  refine And.intro (by rw [zi_5]; exact zi_in (by omega) (by omega)) ?_
  rw [zi_5, zi_c (by omega), zi_c (by omega)]
  intro x hx
  subst hx
  refine zx_modal (by omega) (fun hm => ?_) (fun hm => ?_)
  · refine br_f (by decide) ⟨zi_in (by omega) (by omega), ?_⟩
    rw [ec, nI_add]
    refine ⟨zi_in (by omega) (by omega), h _ (fun b hb => ?_)⟩
    rw [zc_nx_d hm, ec, zi_c (by omega), zi_c (by omega), b_and, Bool.and_eq_true]
  · refine br_t rfl ⟨zi_in (by omega) (by omega), ?_⟩
    rw [ec, nI_add]
    refine ⟨zi_in (by omega) (by omega), ?_⟩
    intro x5 hx5
    refine ⟨zi_in (by omega) (by omega), ?_⟩
    rw [eg, nI_add]
    refine ⟨zi_in (by omega) (by omega), ?_⟩
    intro x6 hx6
    refine h _ (fun b hb => ?_)
    rw [zb_sh _ (by omega), zi_c (by omega)] at hx5
    rw [zb_sh _ (by omega), zi_c (by omega)] at hx6
    rw [b_and, Bool.and_eq_true]
    refine and_congr_right (fun hmv => ?_)
    have hb6 : bt x6 b = true ↔ (bt x5 b = true ∨ bt ((if bt (a_sets (r + g)) s = true then (1 : Int32) else 0) <<< ((1 : Int32) &&& 31)) b = true) := by
      rw [hx6, b_or, Bool.or_eq_true]
    have hsh : ∀ b, b < 32 → bt ((1 : Int32) <<< ((1 : Int32) &&& 31)) b = decide (b = 1) := by decide +kernel
    have hsh0 : ∀ b, b < 32 → bt ((0 : Int32) <<< ((1 : Int32) &&& 31)) b = false := by decide +kernel
    have h5 : bt x5 b = true ↔ (b = 0 ∧ bt (a_sets (r + c)) s = true) := by
      rw [hx5]
      split
      · rename_i z; rw [zb_1 b hb, decide_eq_true_iff]; exact ⟨fun w => ⟨w, z⟩, fun w => w.1⟩
      · rename_i z; rw [b_0]; exact ⟨fun w => absurd w Bool.false_ne_true, fun w => absurd w.2 z⟩
    have h6 : bt x6 b = true ↔ ((b = 0 ∧ bt (a_sets (r + c)) s = true) ∨ (b = 1 ∧ bt (a_sets (r + g)) s = true)) := by
      rw [hb6, h5]
      refine or_congr Iff.rfl ?_
      split
      · rename_i z; rw [hsh b hb, decide_eq_true_iff]; exact ⟨fun w => ⟨w, z⟩, fun w => w.1⟩
      · rename_i z; rw [hsh0 b hb]; exact ⟨fun w => absurd w Bool.false_ne_true, fun w => absurd w.2 z⟩
    rw [h6]
    have hk := HM n s b hn hs hmv
    rcases hk with z | z | z
    · exact absurd z.1 hm
    · have b2 : b = 0 ∨ b = 1 := by omega
      rcases b2 with e | e
      · subst e
        rw [zc_nx_0 hm (fun w => absurd w.1 (by decide)), ec, zi_c (by omega)]
        exact ⟨fun w => w.elim (fun u => u.2) (fun u => absurd u.1 (by decide)), fun w => Or.inl ⟨rfl, w⟩⟩
      · subst e
        rw [zc_nx_1 z.1 rfl, eg, zi_c (by omega)]
        exact ⟨fun w => w.elim (fun u => absurd u.1 (by decide)) (fun u => u.2), fun w => Or.inr ⟨rfl, w⟩⟩
    · have e := z.2
      subst e
      rw [zc_nx_0 hm (fun w => absurd w.1 (by decide)), ec, zi_c (by omega)]
      exact ⟨fun w => w.elim (fun u => u.2) (fun u => absurd u.1 (by decide)), fun w => Or.inl ⟨rfl, w⟩⟩
theorem zx_lb2 {post : Int32 → Prop} {x : Int32} (h : ∀ k, k < 5 → bt x k = true → (∀ j, j < k → ¬ bt x j = true) → post (nI k)) (h0 : (∀ j, j < 5 → ¬ bt x j = true) → post 0) : ∀ d i, i + d = 5 → (∀ j, j < i → ¬ bt x j = true) → wX_leastBit_2 post x (nI S) f_room (nI N) f_solved f_playMode f_pathLen f_forceBase f_outRow f_badRow f_reachRow a_linkSet a_atomSet a_kinds a_args a_parent a_kids a_first a_second a_depth a_pins a_win a_path a_mv a_choice a_ranks a_sets (d + 1) (nI i) := by
  intro d
  induction d with
  | zero =>
    intro i hi hj
    have e : i = 5 := by omega
    subst e
    exact br_t (by decide) (h0 hj)
  | succ d ih =>
    intro i hi hj
    refine br_f (nI_ge (b := 5) (by omega) (by decide)) ?_
    by_cases z : bt x i = true
    · exact br_f (fun w => (zb_sh0 x (by omega)).mp w z) (h i (by omega) z hj)
    · refine br_t ((zb_sh0 x (by omega)).mpr z) (nm_r (nI_1 i) (ih (i + 1) (by omega) (fun j hj' => ?_)))
      rcases Nat.lt_or_ge j i with w | w
      · exact hj j w
      · have e : j = i := by omega
        rw [e]; exact z
theorem zx_lb {post : Int32 → Prop} {x : Int32} (h : ∀ k, k < 5 → bt x k = true → (∀ j, j < k → ¬ bt x j = true) → post (nI k)) (h0 : (∀ j, j < 5 → ¬ bt x j = true) → post 0) : wpX_leastBit post ((nI S), f_room, (nI N), f_solved, f_playMode, f_pathLen, f_forceBase, f_outRow, f_badRow, f_reachRow, a_linkSet, a_atomSet, a_kinds, a_args, a_parent, a_kids, a_first, a_second, a_depth, a_pins, a_win, a_path, a_mv, a_choice, a_ranks, a_sets) x :=
  ⟨6, zx_lb2 h h0 5 0 rfl (fun j hj => absurd hj (by omega))⟩
/-- the moves have numbers below 5 -/
theorem zx_M5 {K M : Nat → Int32} (hS : S ≤ 5) (HM : zx_M N S K M) {n s m : Nat} (hn : n < N) (hs : s < S) (h : bt (M (n * 5 + s)) m = true) : m < 5 := by
  rcases HM n s m hn hs h with z | z | z
  · omega
  · omega
  · omega
/-- one position is looked at by the attractor -/
abbrev zx_ND (nx : pg_P → Nat → pg_P) (mv : pg_M) (own : pg_P → Nat) (Q : Nat) (A F : pg_S) (p : pg_P) : Prop :=
  (own p = Q → ∀ m, mv p m → ¬ F (nx p m)) ∧ (own p ≠ Q → (∃ m, mv p m ∧ F (nx p m)) → ∃ m, mv p m ∧ A (nx p m) ∧ ¬ F (nx p m))
theorem zx_drawn {post : Int32 → SX → Prop} {n s row game Q : Nat} (C : zx_C N S a_kinds a_args a_first a_second a_depth) (HM : zx_M N S a_kinds a_mv) (hn : n < N) (hs : s < S) (hr : row + 14 ≤ 266) (hg : game + 14 ≤ 266) (hQ : Q < 2)
    (hsub : ∀ m, zc_mv a_mv (n, s) m → zc_set a_sets row (zc_nx a_kinds a_first a_second (n, s) m) → zc_set a_sets game (zc_nx a_kinds a_first a_second (n, s) m))
    (h0 : zx_ND (zc_nx a_kinds a_first a_second) (zc_mv a_mv) (zc_own a_kinds a_args a_atomSet) Q (zc_set a_sets game) (zc_set a_sets row) (n, s) → post 0 ((nI S), f_room, (nI N), f_solved, f_playMode, f_pathLen, f_forceBase, f_outRow, f_badRow, f_reachRow, a_linkSet, a_atomSet, a_kinds, a_args, a_parent, a_kids, a_first, a_second, a_depth, a_pins, a_win, a_path, a_mv, a_choice, a_ranks, a_sets))
    (h1 : zc_own a_kinds a_args a_atomSet (n, s) = Q → ∀ k, k < 5 → zc_mv a_mv (n, s) k → zc_set a_sets row (zc_nx a_kinds a_first a_second (n, s) k) → post 1 ((nI S), f_room, (nI N), f_solved, f_playMode, f_pathLen, f_forceBase, f_outRow, f_badRow, f_reachRow, a_linkSet, a_atomSet, a_kinds, a_args, a_parent, a_kids, a_first, a_second, a_depth, a_pins, a_win, a_path, a_mv, (upd a_choice (n * 5 + s) (nI k)), a_ranks, a_sets))
    (h2 : zc_own a_kinds a_args a_atomSet (n, s) ≠ Q → (∀ m, zc_mv a_mv (n, s) m → zc_set a_sets game (zc_nx a_kinds a_first a_second (n, s) m) → zc_set a_sets row (zc_nx a_kinds a_first a_second (n, s) m)) → post 1 ((nI S), f_room, (nI N), f_solved, f_playMode, f_pathLen, f_forceBase, f_outRow, f_badRow, f_reachRow, a_linkSet, a_atomSet, a_kinds, a_args, a_parent, a_kids, a_first, a_second, a_depth, a_pins, a_win, a_path, a_mv, a_choice, a_ranks, a_sets)) :
    wpX_drawn post ((nI S), f_room, (nI N), f_solved, f_playMode, f_pathLen, f_forceBase, f_outRow, f_badRow, f_reachRow, a_linkSet, a_atomSet, a_kinds, a_args, a_parent, a_kids, a_first, a_second, a_depth, a_pins, a_win, a_path, a_mv, a_choice, a_ranks, a_sets) (nI s) (nI n) (nI row) (nI game) (nI Q) := by
  have hN := C.1.1
  have hS := C.1.2
  unfold wpX_drawn
  refine zx_into C HM hn hs hr (fun x hx => ?_)
  by_cases hz : x = 0
  · refine br_t hz (h0 ?_)
    have no : ∀ m, zc_mv a_mv (n, s) m → ¬ zc_set a_sets row (zc_nx a_kinds a_first a_second (n, s) m) := fun m hm hF => (zb_zero x).mp hz m (zb_lt hm) ((hx m (zb_lt hm)).mpr ⟨hm, hF⟩)
    exact ⟨fun _ => no, fun _ ⟨m, hm, hF⟩ => absurd hF (no m hm)⟩
  · refine br_f hz (zx_own C hn hs ?_)
    have ho : zc_own a_kinds a_args a_atomSet (n, s) < 2 ^ 31 := by
      unfold zc_own
      repeat' split
      all_goals decide
    by_cases hq : zc_own a_kinds a_args a_atomSet (n, s) = Q
    · refine br_t (by rw [hq]) (zx_lb (fun k hk hb _ => ?_) (fun hn' => ?_))
      · obtain ⟨g1, g2⟩ := (hx k (by omega)).mp hb
        refine And.intro (by rw [zi_5]; exact zi_in (by omega) (by omega)) ?_
        rw [zi_5, zi_c (by omega)]
        exact nm_e (h1 hq k hk g1 g2)
      · obtain ⟨i, hi, hb⟩ := zb_nz hz
        obtain ⟨g1, _⟩ := (hx i hi).mp hb
        exact absurd hb (hn' i (zx_M5 hS HM hn hs g1))
    · refine br_f (fun z => hq ((nI_eq ho (by omega)).mp z)) (zx_into C HM hn hs hg (fun y hy => ?_))
      by_cases he : x = y
      · refine br_t he (h2 hq (fun m hm hA => ?_))
        have := (hy m (zb_lt hm)).mpr ⟨hm, hA⟩
        rw [← he] at this
        exact ((hx m (zb_lt hm)).mp this).2
      · refine br_f he (h0 ⟨fun z => absurd z hq, fun _ _ => ?_⟩)
        refine Classical.byContradiction fun hno => he (zb_ext fun i hi => ?_)
        rw [hx i hi, hy i hi]
        refine and_congr_right (fun hm => ⟨fun z => hsub i hm z, fun z => Classical.byContradiction fun w => hno ⟨i, hm, z, w⟩⟩)
end
end
section
/-! ===== X: attract ===== -/
abbrev zc_R (N S : Nat) (a : Nat → Int32) (r : Nat) (p : pg_P) : Prop := pg_D N S p ∧ zc_set a r p
def zc_ch (c : Nat → Int32) (p : pg_P) : Nat := (c (p.1 * 5 + p.2)).toNatClampNeg
/-- ancestors: b is n or above it -/
abbrev zc_par (Pa : Nat → Int32) (x y : Nat) : Prop := y < x ∧ x < 14 ∧ Pa x = nI y
abbrev zc_anc (Pa : Nat → Int32) (b n : Nat) : Prop := b = n ∨ Relation.TransGen (zc_par Pa) n b
theorem zc_R_add {N S : Nat} {a : Nat → Int32} {r n s : Nat} (hn : n < N) (hs : s < S) (hS : S ≤ 5) (p : pg_P) : zc_R N S (upd a (r + n) (a (r + n) ||| ((1 : Int32) <<< (nI s &&& 31)))) r p ↔ (zc_R N S a r p ∨ p = (n, s)) := by
  obtain ⟨x, y⟩ := p
  by_cases hx : x = n
  · subst hx
    constructor
    · rintro ⟨hd, hb⟩
      have hy : y < 32 := by have := hd.2; dsimp only at this; omega
      have hb' : bt (upd a (r + x) (a (r + x) ||| ((1 : Int32) <<< (nI s &&& 31))) (r + x)) y = true := hb
      rw [pk_us, zb_or1 _ (by omega) hy] at hb'
      rcases hb' with z | z
      · exact Or.inl ⟨hd, z⟩
      · rw [z]; exact Or.inr rfl
    · intro h
      have hd : pg_D N S (x, y) := by
        rcases h with z | z
        · exact z.1
        · have e := congrArg Prod.snd z
          dsimp only at e
          exact ⟨hn, by show y < S; omega⟩
      refine ⟨hd, ?_⟩
      have hy : y < 32 := by have := hd.2; dsimp only at this; omega
      show bt (upd a (r + x) (a (r + x) ||| ((1 : Int32) <<< (nI s &&& 31))) (r + x)) y = true
      rw [pk_us, zb_or1 _ (by omega) hy]
      rcases h with z | z
      · exact Or.inl z.2
      · exact Or.inr (congrArg Prod.snd z)
  · have e : upd a (r + n) (a (r + n) ||| ((1 : Int32) <<< (nI s &&& 31))) (r + x) = a (r + x) := pk_un (by omega)
    constructor
    · rintro ⟨hd, hb⟩
      have hb' : bt (upd a (r + n) (a (r + n) ||| ((1 : Int32) <<< (nI s &&& 31))) (r + x)) y = true := hb
      rw [e] at hb'
      exact Or.inl ⟨hd, hb'⟩
    · intro h
      rcases h with z | z
      · refine ⟨z.1, ?_⟩
        show bt (upd a (r + n) (a (r + n) ||| ((1 : Int32) <<< (nI s &&& 31))) (r + x)) y = true
        rw [e]; exact z.2
      · exact absurd (congrArg Prod.fst z) hx
abbrev zx_AI (N S : Nat) (nx : pg_P → Nat → pg_P) (mv : pg_M) (own : pg_P → Nat) (Q row game : Nat) (sets0 ch0 sets ch : Nat → Int32) : Prop :=
  (∀ i, (i < row ∨ row + N ≤ i) → sets i = sets0 i) ∧
  (∀ n b, n < N → S ≤ b → ¬ bt (sets (row + n)) b = true) ∧
  pg_AttE nx mv own Q (zc_R N S sets0 game) (zc_R N S sets0 row) (zc_R N S sets row) (zc_ch ch) ∧
  (∀ i, (∀ p, zc_R N S sets0 game p → ¬ zc_R N S sets0 row p → i ≠ p.1 * 5 + p.2) → ch i = ch0 i) ∧
  (∀ i, ∃ k, k < 5 ∧ ch i = nI k)
abbrev zx_G (nx : pg_P → Nat → pg_P) (mv : pg_M) (own : pg_P → Nat) (Q : Nat) (A F Pr : pg_S) (c0 : Nat) (g : Int32) : Prop :=
  (g = 0 ∧ c0 ≤ pg_sz F ∧ ∀ p, A p → Pr p → ¬ F p → zx_ND nx mv own Q A F p) ∨ (g = 1 ∧ c0 < pg_sz F)
section
variable {N S : Nat}
variable {f_room f_solved f_playMode f_pathLen f_forceBase f_outRow f_badRow f_reachRow : Int32} {a_linkSet a_atomSet a_kinds a_args a_parent a_kids a_first a_second a_depth a_pins a_win a_path a_mv a_choice a_ranks a_sets : Nat → Int32}
variable {sets0 ch0 : Nat → Int32} {row game Q : Nat}
/-- a position is added -/
theorem zx_at_add {sets ch ch' : Nat → Int32} {n s c0 : Nat} (C : zx_C N S a_kinds a_args a_first a_second a_depth) (hn : n < N) (hs : s < S) (hA : zc_R N S sets0 game (n, s)) (hF : ¬ zc_R N S sets row (n, s)) (I : zx_AI N S (zc_nx a_kinds a_first a_second) (zc_mv a_mv) (zc_own a_kinds a_args a_atomSet) Q row game sets0 ch0 sets ch) (hc0 : c0 ≤ pg_sz (zc_R N S sets row))
    (hch : ∀ i, i ≠ n * 5 + s → ch' i = ch i) (hck : ∃ k, k < 5 ∧ ch' (n * 5 + s) = nI k) (h1 : (zc_own a_kinds a_args a_atomSet) (n, s) = Q → (zc_mv a_mv) (n, s) (zc_ch ch' (n, s)) ∧ zc_R N S sets row ((zc_nx a_kinds a_first a_second) (n, s) (zc_ch ch' (n, s)))) (h2 : (zc_own a_kinds a_args a_atomSet) (n, s) ≠ Q → ∀ m, (zc_mv a_mv) (n, s) m → zc_R N S sets0 game ((zc_nx a_kinds a_first a_second) (n, s) m) → zc_R N S sets row ((zc_nx a_kinds a_first a_second) (n, s) m)) :
    zx_AI N S (zc_nx a_kinds a_first a_second) (zc_mv a_mv) (zc_own a_kinds a_args a_atomSet) Q row game sets0 ch0 (upd sets (row + n) (sets (row + n) ||| ((1 : Int32) <<< (nI s &&& 31)))) ch' ∧ c0 < pg_sz (zc_R N S (upd sets (row + n) (sets (row + n) ||| ((1 : Int32) <<< (nI s &&& 31)))) row) := by
  have hN := C.1.1
  have hS := C.1.2
  obtain ⟨i1, i2, i3, i4, i5⟩ := I
  have hadd := zc_R_add (N := N) (S := S) (a := sets) (r := row) hn hs hS
  have hT : ¬ zc_R N S sets0 row (n, s) := fun z => hF (by obtain ⟨ρ, K, ⟨f1, _⟩, _⟩ := i3; exact f1 _ z)
  refine ⟨⟨fun i hi => ?_, fun a b ha hb => ?_, ?_, fun i hi => ?_, fun i => ?_⟩, ?_⟩
  · rw [pk_un (by omega)]; exact i1 i hi
  · by_cases e : a = n
    · subst e
      rw [pk_us]
      intro z
      have hb32 := zb_lt z
      rcases (zb_or1 _ (by omega) hb32).mp z with w | w
      · exact i2 a b ha hb w
      · omega
    · rw [pk_un (by omega)]; exact i2 a b ha hb
  · refine pg_att_add i3 hA hF hadd (fun p hp => ?_) h1 h2
    unfold zc_ch
    rw [hch]
    intro e
    have h2' := hp.1.2
    have e1 : p.1 = n := by omega
    have e2 : p.2 = s := by omega
    exact hF (by rw [← e1, ← e2]; exact hp)
  · rw [hch i (hi (n, s) hA hT)]; exact i4 i hi
  · by_cases e : i = n * 5 + s
    · rw [e]; exact hck
    · rw [hch i e]; exact i5 i
  · have := pg_sz_lt (A := zc_R N S sets row) (B := zc_R N S (upd sets (row + n) (sets (row + n) ||| ((1 : Int32) <<< (nI s &&& 31)))) row) (p := (n, s)) (fun q z => (hadd q).mpr (Or.inl z)) ((hadd _).mpr (Or.inr rfl)) hF (by show n < 14; omega) (by show s < 5; omega)
    omega
/-- facts on the rows that stay: what is asked where the attractor is computed -/
theorem zx_nd_conv {sets : Nat → Int32} (H : pg_St N S (zc_nx a_kinds a_first a_second) (zc_vr a_kinds) (zc_bd a_kinds) (zc_dep a_depth) (zc_anc a_parent) (zc_mv a_mv) (zc_own a_kinds a_args a_atomSet) (zc_bk a_kinds)) (hg : ∀ n, n < N → sets (game + n) = sets0 (game + n)) {n s : Nat} (hn : n < N) (hs : s < S) (h : zx_ND (zc_nx a_kinds a_first a_second) (zc_mv a_mv) (zc_own a_kinds a_args a_atomSet) Q (zc_set sets game) (zc_set sets row) (n, s)) : zx_ND (zc_nx a_kinds a_first a_second) (zc_mv a_mv) (zc_own a_kinds a_args a_atomSet) Q (zc_R N S sets0 game) (zc_R N S sets row) (n, s) := by
  refine ⟨fun o m hm z => h.1 o m hm z.2, fun o ⟨m, hm, z⟩ => ?_⟩
  obtain ⟨m', hm', a, b⟩ := h.2 o ⟨m, hm, z.2⟩
  have hd := H.1 (n, s) m' ⟨hn, hs⟩ hm'
  refine ⟨m', hm', ⟨hd, ?_⟩, fun w => b w.2⟩
  show bt (sets0 (game + _)) _ = true
  rw [← hg _ hd.1]; exact a
theorem zx_at60 {post : SX → Prop} {J6 J29 : Int32 → Int32 → Int32 → Int32 → Int32 → Int32 → Int32 → Int32 → Int32 → Int32 → Int32 → Int32 → (Nat → Int32) → (Nat → Int32) → (Nat → Int32) → (Nat → Int32) → (Nat → Int32) → (Nat → Int32) → (Nat → Int32) → (Nat → Int32) → (Nat → Int32) → (Nat → Int32) → (Nat → Int32) → (Nat → Int32) → (Nat → Int32) → (Nat → Int32) → (Nat → Int32) → (Nat → Int32) → Prop} {x5 x7 : Int32} {n c0 : Nat}
    (C : zx_C N S a_kinds a_args a_first a_second a_depth) (HM : zx_M N S a_kinds a_mv) (H : pg_St N S (zc_nx a_kinds a_first a_second) (zc_vr a_kinds) (zc_bd a_kinds) (zc_dep a_depth) (zc_anc a_parent) (zc_mv a_mv) (zc_own a_kinds a_args a_atomSet) (zc_bk a_kinds)) (hr : row + 14 ≤ 266) (hg : game + 14 ≤ 266) (hdj : game + 14 ≤ row ∨ row + 14 ≤ game) (hQ : Q < 2) (hn : n < N)
    (K : ∀ g ch sets, zx_AI N S (zc_nx a_kinds a_first a_second) (zc_mv a_mv) (zc_own a_kinds a_args a_atomSet) Q row game sets0 ch0 sets ch → zx_G (zc_nx a_kinds a_first a_second) (zc_mv a_mv) (zc_own a_kinds a_args a_atomSet) Q (zc_R N S sets0 game) (zc_R N S sets row) (fun p => n ≤ p.1) c0 g → J29 g (nI n + (-1)) (nI S) f_room (nI N) f_solved f_playMode f_pathLen f_forceBase f_outRow f_badRow f_reachRow a_linkSet a_atomSet a_kinds a_args a_parent a_kids a_first a_second a_depth a_pins a_win a_path a_mv ch a_ranks sets) :
    ∀ d s, s + d = S → ∀ g ch sets, zx_AI N S (zc_nx a_kinds a_first a_second) (zc_mv a_mv) (zc_own a_kinds a_args a_atomSet) Q row game sets0 ch0 sets ch → (∀ s', s ≤ s' → s' < S → (bt x7 s' = true ↔ (zc_R N S sets0 game (n, s') ∧ ¬ zc_R N S sets row (n, s')))) → zx_G (zc_nx a_kinds a_first a_second) (zc_mv a_mv) (zc_own a_kinds a_args a_atomSet) Q (zc_R N S sets0 game) (zc_R N S sets row) (fun p => n < p.1 ∨ (n = p.1 ∧ p.2 < s)) c0 g →
      wX_attract_60 post J6 J29 (nI row) (nI game) (nI Q) x5 (nI n) x7 (d + 1) g (nI s) (nI S) f_room (nI N) f_solved f_playMode f_pathLen f_forceBase f_outRow f_badRow f_reachRow a_linkSet a_atomSet a_kinds a_args a_parent a_kids a_first a_second a_depth a_pins a_win a_path a_mv ch a_ranks sets := by
  have hN := C.1.1
  have hS := C.1.2
  intro d
  induction d with
  | zero =>
    intro s hs g ch sets I hx G
    have e : s = S := by omega
    subst e
    refine br_t (nI_le (Nat.le_refl _) (by omega)) (nm_e (K g ch sets I ?_))
    rcases G with ⟨g1, g2, g3⟩ | G
    · refine Or.inl ⟨g1, g2, fun p hA hp hF => g3 p hA ?_ hF⟩
      have := hA.1.2
      omega
    · exact Or.inr G
  | succ d ih =>
    intro s hs g ch sets I hx G
    have hsS : s < S := by omega
    refine br_f (nI_ge hsS (by omega)) ?_
    have hgame : ∀ n, n < N → sets (game + n) = sets0 (game + n) := fun n hn => I.1 _ (by omega)
    by_cases hb : bt x7 s = true
    · refine br_f (fun z => (zb_sh0 x7 (by omega)).mp z hb) ?_
      obtain ⟨hA, hF⟩ := (hx s (Nat.le_refl _) hsS).mp hb
      have hsz : c0 ≤ pg_sz (zc_R N S sets row) := by
        rcases G with ⟨_, g2, _⟩ | ⟨_, g2⟩
        · exact g2
        · omega
      have hsub : ∀ p, zc_R N S sets row p → zc_R N S sets0 game p := by
        obtain ⟨ρ, K', ⟨_, f2, _⟩, _⟩ := I.2.2.1
        exact f2
      refine zx_drawn C HM hn hsS hr hg hQ (fun m hm z => ?_) (fun hnd => ?_) (fun ho k hk hmk hF' => ?_) (fun ho hall => ?_)
      · have hd := H.1 (n, s) m ⟨hn, hsS⟩ hm
        have w := hsub _ ⟨hd, z⟩
        show bt (sets (game + _)) _ = true
        rw [hgame _ hd.1]; exact w.2
      · refine br_t rfl (nm_r (nI_1 s) (ih (s + 1) (by omega) g ch sets I (fun s' h1 h2 => hx s' (by omega) h2) ?_))
        rcases G with ⟨g1, g2, g3⟩ | G
        · refine Or.inl ⟨g1, g2, fun p hA' hp hF' => ?_⟩
          by_cases e : n < p.1 ∨ (n = p.1 ∧ p.2 < s)
          · exact g3 p hA' e hF'
          · have e1 : p = (n, s) := Prod.ext (by dsimp only; omega) (by dsimp only; omega)
            rw [e1]
            exact zx_nd_conv H hgame hn hsS hnd
        · exact Or.inr G
      · refine br_f (by decide) ?_
        rw [nI_add, zi_c (by omega)]
        refine ⟨zi_in (by omega) (by omega), zi_in (by omega) (by omega), nm_e (nm_r (nI_1 s) ?_)⟩
        have hd := H.1 (n, s) k ⟨hn, hsS⟩ hmk
        have ek : zc_ch (upd ch (n * 5 + s) (nI k)) (n, s) = k := by
          show (upd ch (n * 5 + s) (nI k) (n * 5 + s)).toNatClampNeg = k
          rw [pk_us, zi_c (by omega)]
        have ad := zx_at_add (ch' := upd ch (n * 5 + s) (nI k)) C hn hsS hA hF I hsz (fun i hi => pk_un hi) ⟨k, hk, pk_us⟩ (fun _ => by rw [ek]; exact ⟨hmk, hd, hF'⟩) (fun z => absurd ho z)
        refine ih (s + 1) (by omega) 1 _ _ ad.1 (fun s' h1 h2 => ?_) (Or.inr ⟨rfl, ad.2⟩)
        rw [hx s' (by omega) h2, zc_R_add hn hsS hS]
        refine and_congr_right (fun _ => not_congr ⟨Or.inl, fun z => z.resolve_right (fun w => ?_)⟩)
        have := congrArg Prod.snd w
        dsimp only at this
        omega
      · refine br_f (by decide) ?_
        rw [nI_add, zi_c (by omega)]
        refine ⟨zi_in (by omega) (by omega), zi_in (by omega) (by omega), nm_e (nm_r (nI_1 s) ?_)⟩
        have ad := zx_at_add (ch' := ch) C hn hsS hA hF I hsz (fun i hi => rfl) (I.2.2.2.2 _) (fun z => absurd z ho) (fun _ m hm z => ⟨z.1, hall m hm (by show bt (sets (game + _)) _ = true; rw [hgame _ z.1.1]; exact z.2)⟩)
        refine ih (s + 1) (by omega) 1 _ _ ad.1 (fun s' h1 h2 => ?_) (Or.inr ⟨rfl, ad.2⟩)
        rw [hx s' (by omega) h2, zc_R_add hn hsS hS]
        refine and_congr_right (fun _ => not_congr ⟨Or.inl, fun z => z.resolve_right (fun w => ?_)⟩)
        have := congrArg Prod.snd w
        dsimp only at this
        omega
    · refine br_t ((zb_sh0 x7 (by omega)).mpr hb) (nm_r (nI_1 s) (ih (s + 1) (by omega) g ch sets I (fun s' h1 h2 => hx s' (by omega) h2) ?_))
      rcases G with ⟨g1, g2, g3⟩ | G
      · refine Or.inl ⟨g1, g2, fun p hA hp hF => ?_⟩
        by_cases e : n < p.1 ∨ (n = p.1 ∧ p.2 < s)
        · exact g3 p hA e hF
        · have e1 : p = (n, s) := Prod.ext (by dsimp only; omega) (by dsimp only; omega)
          rw [e1] at hA hF
          exact absurd ((hx s (Nat.le_refl _) hsS).mpr ⟨hA, hF⟩) hb
      · exact Or.inr G
theorem zi_dm (k : Nat) : nI k + (-1) = nI k - 1 := by rw [Int32.sub_eq_add_neg]
theorem zx_at29 {post : SX → Prop} {J6 : Int32 → Int32 → Int32 → Int32 → Int32 → Int32 → Int32 → Int32 → Int32 → Int32 → Int32 → Int32 → (Nat → Int32) → (Nat → Int32) → (Nat → Int32) → (Nat → Int32) → (Nat → Int32) → (Nat → Int32) → (Nat → Int32) → (Nat → Int32) → (Nat → Int32) → (Nat → Int32) → (Nat → Int32) → (Nat → Int32) → (Nat → Int32) → (Nat → Int32) → (Nat → Int32) → (Nat → Int32) → Prop} {x5 : Int32} {c0 : Nat}
    (C : zx_C N S a_kinds a_args a_first a_second a_depth) (HM : zx_M N S a_kinds a_mv) (H : pg_St N S (zc_nx a_kinds a_first a_second) (zc_vr a_kinds) (zc_bd a_kinds) (zc_dep a_depth) (zc_anc a_parent) (zc_mv a_mv) (zc_own a_kinds a_args a_atomSet) (zc_bk a_kinds)) (hr : row + 14 ≤ 266) (hg : game + 14 ≤ 266) (hdj : game + 14 ≤ row ∨ row + 14 ≤ game) (hQ : Q < 2)
    (K : ∀ g ch sets, zx_AI N S (zc_nx a_kinds a_first a_second) (zc_mv a_mv) (zc_own a_kinds a_args a_atomSet) Q row game sets0 ch0 sets ch → zx_G (zc_nx a_kinds a_first a_second) (zc_mv a_mv) (zc_own a_kinds a_args a_atomSet) Q (zc_R N S sets0 game) (zc_R N S sets row) (fun _ => True) c0 g → J6 g (x5 + 1) (nI S) f_room (nI N) f_solved f_playMode f_pathLen f_forceBase f_outRow f_badRow f_reachRow a_linkSet a_atomSet a_kinds a_args a_parent a_kids a_first a_second a_depth a_pins a_win a_path a_mv ch a_ranks sets) :
    ∀ k, k ≤ N → ∀ g ch sets, zx_AI N S (zc_nx a_kinds a_first a_second) (zc_mv a_mv) (zc_own a_kinds a_args a_atomSet) Q row game sets0 ch0 sets ch → zx_G (zc_nx a_kinds a_first a_second) (zc_mv a_mv) (zc_own a_kinds a_args a_atomSet) Q (zc_R N S sets0 game) (zc_R N S sets row) (fun p => k ≤ p.1) c0 g →
      wX_attract_29 post J6 (nI row) (nI game) (nI Q) x5 (k + 1) g (nI k - 1) (nI S) f_room (nI N) f_solved f_playMode f_pathLen f_forceBase f_outRow f_badRow f_reachRow a_linkSet a_atomSet a_kinds a_args a_parent a_kids a_first a_second a_depth a_pins a_win a_path a_mv ch a_ranks sets := by
  have hN := C.1.1
  have hS := C.1.2
  intro k
  induction k with
  | zero =>
    intro _ g ch sets I G
    refine br_t (by decide) (nm_e (K g ch sets I ?_))
    rcases G with ⟨g1, g2, g3⟩ | G
    · exact Or.inl ⟨g1, g2, fun p hA _ hF => g3 p hA (Nat.zero_le _) hF⟩
    · exact Or.inr G
  | succ k ih =>
    intro hk g ch sets I G
    rw [nI_pred]
    refine br_f (nI_pos (by omega)) ?_
    rw [nI_add, nI_add, zi_c (by omega), zi_c (by omega)]
    refine ⟨zi_in (by omega) (by omega), zi_in (by omega) (by omega), nm_e ⟨S + 1, ?_⟩⟩
    refine zx_at60 C HM H hr hg hdj hQ (by omega) (c0 := c0) (fun g' ch' sets' I' G' => ?_) S 0 (by omega) g ch sets I (fun s' _ hs' => ?_) ?_
    · rw [zi_dm]; exact ih (by omega) g' ch' sets' I' G'
    · rw [zb_diff _ _ (by omega)]
      have e : sets (game + k) = sets0 (game + k) := I.1 _ (by omega)
      rw [e]
      have hd : pg_D N S (k, s') := ⟨by show k < N; omega, hs'⟩
      exact ⟨fun z => ⟨⟨hd, z.1⟩, fun w => z.2 w.2⟩, fun z => ⟨z.1.2, fun w => z.2 ⟨hd, w⟩⟩⟩
    · rcases G with ⟨g1, g2, g3⟩ | G
      · exact Or.inl ⟨g1, g2, fun p hA hp hF => g3 p hA (by omega) hF⟩
      · exact Or.inr G
theorem zx_at6 {post : SX → Prop} (C : zx_C N S a_kinds a_args a_first a_second a_depth) (HM : zx_M N S a_kinds a_mv) (H : pg_St N S (zc_nx a_kinds a_first a_second) (zc_vr a_kinds) (zc_bd a_kinds) (zc_dep a_depth) (zc_anc a_parent) (zc_mv a_mv) (zc_own a_kinds a_args a_atomSet) (zc_bk a_kinds)) (hr : row + 14 ≤ 266) (hg : game + 14 ≤ 266) (hdj : game + 14 ≤ row ∨ row + 14 ≤ game) (hQ : Q < 2)
    (K : ∀ ch sets, zx_AI N S (zc_nx a_kinds a_first a_second) (zc_mv a_mv) (zc_own a_kinds a_args a_atomSet) Q row game sets0 ch0 sets ch → pg_AttC (zc_nx a_kinds a_first a_second) (zc_mv a_mv) (zc_own a_kinds a_args a_atomSet) Q (zc_R N S sets0 game) (zc_R N S sets row) → post ((nI S), f_room, (nI N), f_solved, f_playMode, f_pathLen, f_forceBase, f_outRow, f_badRow, f_reachRow, a_linkSet, a_atomSet, a_kinds, a_args, a_parent, a_kids, a_first, a_second, a_depth, a_pins, a_win, a_path, a_mv, ch, a_ranks, sets)) :
    ∀ d r, r + d = 71 → ∀ g ch sets, zx_AI N S (zc_nx a_kinds a_first a_second) (zc_mv a_mv) (zc_own a_kinds a_args a_atomSet) Q row game sets0 ch0 sets ch → ((g = 0 ∧ pg_AttC (zc_nx a_kinds a_first a_second) (zc_mv a_mv) (zc_own a_kinds a_args a_atomSet) Q (zc_R N S sets0 game) (zc_R N S sets row)) ∨ (g = 1 ∧ r ≤ pg_sz (zc_R N S sets row))) →
      wX_attract_6 post (nI row) (nI game) (nI Q) (d + 1) g (nI r) (nI S) f_room (nI N) f_solved f_playMode f_pathLen f_forceBase f_outRow f_badRow f_reachRow a_linkSet a_atomSet a_kinds a_args a_parent a_kids a_first a_second a_depth a_pins a_win a_path a_mv ch a_ranks sets := by
  intro d
  induction d with
  | zero =>
    intro r hr' g ch sets I G
    have e : r = 71 := by omega
    subst e
    rcases G with ⟨g1, g2⟩ | ⟨g1, g2⟩
    · exact br_t (by decide) (K ch sets I g2)
    · have := pg_sz_le (zc_R N S sets row)
      omega
  | succ d ih =>
    intro r hr' g ch sets I G
    refine br_f (nI_nlt (b := r) (a := 70) (by omega) (by decide)) ?_
    rcases G with ⟨g1, g2⟩ | ⟨g1, g2⟩
    · exact br_t g1 (K ch sets I g2)
    · refine br_f (by rw [g1]; decide) (nm_e ⟨N + 1, ?_⟩)
      refine zx_at29 (c0 := pg_sz (zc_R N S sets row)) C HM H hr hg hdj hQ (fun g' ch' sets' I' G' => ?_) N (Nat.le_refl _) 0 ch sets I (Or.inl ⟨rfl, Nat.le_refl _, fun p hA hp _ => ?_⟩)
      · rw [nI_1]
        refine ih (r + 1) (by omega) g' ch' sets' I' ?_
        rcases G' with ⟨a1, a2, a3⟩ | ⟨a1, a2⟩
        · exact Or.inl ⟨a1, fun p hA hF => (a3 p hA trivial hF).1, fun p hA hF => (a3 p hA trivial hF).2⟩
        · exact Or.inr ⟨a1, by omega⟩
      · have := hA.1.1
        omega
theorem zx_attract {post : SX → Prop} (C : zx_C N S a_kinds a_args a_first a_second a_depth) (HM : zx_M N S a_kinds a_mv) (H : pg_St N S (zc_nx a_kinds a_first a_second) (zc_vr a_kinds) (zc_bd a_kinds) (zc_dep a_depth) (zc_anc a_parent) (zc_mv a_mv) (zc_own a_kinds a_args a_atomSet) (zc_bk a_kinds)) (hr : row + 14 ≤ 266) (hg : game + 14 ≤ 266) (hdj : game + 14 ≤ row ∨ row + 14 ≤ game) (hQ : Q < 2)
    (hsub : ∀ p, zc_R N S a_sets row p → zc_R N S a_sets game p) (hrow : ∀ n b, n < N → S ≤ b → ¬ bt (a_sets (row + n)) b = true) (hch : ∀ i, ∃ k, k < 5 ∧ a_choice i = nI k)
    (K : ∀ ch sets, zx_AI N S (zc_nx a_kinds a_first a_second) (zc_mv a_mv) (zc_own a_kinds a_args a_atomSet) Q row game a_sets a_choice sets ch → pg_AttC (zc_nx a_kinds a_first a_second) (zc_mv a_mv) (zc_own a_kinds a_args a_atomSet) Q (zc_R N S a_sets game) (zc_R N S sets row) → post ((nI S), f_room, (nI N), f_solved, f_playMode, f_pathLen, f_forceBase, f_outRow, f_badRow, f_reachRow, a_linkSet, a_atomSet, a_kinds, a_args, a_parent, a_kids, a_first, a_second, a_depth, a_pins, a_win, a_path, a_mv, ch, a_ranks, sets)) :
    wpX_attract post ((nI S), f_room, (nI N), f_solved, f_playMode, f_pathLen, f_forceBase, f_outRow, f_badRow, f_reachRow, a_linkSet, a_atomSet, a_kinds, a_args, a_parent, a_kids, a_first, a_second, a_depth, a_pins, a_win, a_path, a_mv, a_choice, a_ranks, a_sets) (nI row) (nI game) (nI Q) :=
  ⟨72, zx_at6 C HM H hr hg hdj hQ K 71 0 rfl 1 a_choice a_sets ⟨fun _ _ => rfl, hrow, pg_att0 hsub _, fun _ _ => rfl, hch⟩ (Or.inr ⟨rfl, Nat.zero_le _⟩)⟩
end
end
section
/-! ===== rows written one cell after another; masks built one bit after another ===== -/
def zu (a : Nat → Int32) (b j : Nat) (f : Nat → Int32) : Nat → Int32 := fun i => if b ≤ i ∧ i < b + j then f (i - b) else a i
theorem zu_0 (a : Nat → Int32) (b : Nat) (f : Nat → Int32) : zu a b 0 f = a := by
  funext i
  exact if_neg (by omega)
theorem zu_out {a : Nat → Int32} {b j : Nat} {f : Nat → Int32} {i : Nat} (h : i < b ∨ b + j ≤ i) : zu a b j f i = a i := if_neg (by omega)
theorem zu_in {a : Nat → Int32} {b j : Nat} {f : Nat → Int32} {n : Nat} (h : n < j) : zu a b j f (b + n) = f n := by
  unfold zu
  rw [if_pos (by omega), Nat.add_sub_cancel_left]
theorem zu_s (a : Nat → Int32) (b j : Nat) (f : Nat → Int32) : upd (zu a b j f) (b + j) (f j) = zu a b (j + 1) f := by
  funext i
  unfold upd zu
  by_cases h : i = b + j
  · rw [if_pos h, if_pos (by omega), h, Nat.add_sub_cancel_left]
  · rw [if_neg h]
    by_cases g : b ≤ i ∧ i < b + j
    · rw [if_pos g, if_pos (by omega)]
    · rw [if_neg g, if_neg (by omega)]
noncomputable def zs_m (p : Nat → Prop) : Nat → Int32
  | 0 => 0
  | j + 1 => @ite Int32 (p j) (Classical.propDecidable _) (zs_m p j ||| ((1 : Int32) <<< (nI j &&& 31))) (zs_m p j)
theorem zs_t {p : Nat → Prop} {j : Nat} (h : p j) : zs_m p (j + 1) = zs_m p j ||| ((1 : Int32) <<< (nI j &&& 31)) := @if_pos _ (Classical.propDecidable _) h _ _ _
theorem zs_f {p : Nat → Prop} {j : Nat} (h : ¬ p j) : zs_m p (j + 1) = zs_m p j := @if_neg _ (Classical.propDecidable _) h _ _ _
theorem zs_b (p : Nat → Prop) : ∀ j, j ≤ 32 → ∀ b, bt (zs_m p j) b = true ↔ (b < j ∧ p b)
  | 0, _, b => by
    show bt 0 b = true ↔ _
    rw [b_0]
    exact ⟨fun z => absurd z Bool.false_ne_true, fun z => absurd z.1 (by omega)⟩
  | j + 1, hj, b => by
    have ih := zs_b p j (by omega) b
    rcases Nat.lt_or_ge b 32 with hb | hb
    · rcases Classical.em (p j) with h | h
      · rw [zs_t h, zb_or1 _ (by omega) hb, ih]
        constructor
        · rintro (z | z)
          · exact ⟨by omega, z.2⟩
          · rw [z]; exact ⟨by omega, h⟩
        · rintro ⟨z1, z2⟩
          rcases Nat.lt_or_ge b j with w | w
          · exact Or.inl ⟨w, z2⟩
          · exact Or.inr (by omega)
      · rw [zs_f h, ih]
        constructor
        · rintro ⟨z1, z2⟩
          exact ⟨by omega, z2⟩
        · rintro ⟨z1, z2⟩
          rcases Nat.lt_or_ge b j with w | w
          · exact ⟨w, z2⟩
          · have e : b = j := by omega
            rw [e] at z2; exact absurd z2 h
    · rw [b_big hb]
      exact ⟨fun z => absurd z Bool.false_ne_true, fun z => absurd z.1 (by omega)⟩
theorem zs_ext {p q : Nat → Prop} {j : Nat} (hj : j ≤ 32) (h : ∀ b, b < j → (p b ↔ q b)) : zs_m p j = zs_m q j :=
  zb_ext fun i _ => by
    rw [zs_b p j hj, zs_b q j hj]
    exact and_congr_right (fun z => h i z)
/-- a row's masks hold states only -/
abbrev zc_ok (N S : Nat) (a : Nat → Int32) (r : Nat) : Prop := ∀ n b, n < N → S ≤ b → ¬ bt (a (r + n)) b = true
section
variable {N S : Nat}
variable {f_room f_solved f_playMode f_pathLen f_forceBase f_outRow f_badRow f_reachRow : Int32} {a_linkSet a_atomSet a_kinds a_args a_parent a_kids a_first a_second a_depth a_pins a_win a_path a_mv a_choice a_ranks a_sets : Nat → Int32}
theorem zx_award2 {post : SX → Prop} {row Q : Nat} {f : Nat → Int32} (hN : N ≤ 14) (hr : row + 14 ≤ 224) (hQ : Q < 2)
    (hf : ∀ n, n < N → f n = if Q = 0 then a_sets (224 + n) ||| a_sets (row + n) else a_sets (224 + n) &&& (a_sets (row + n) ^^^ (-1)))
    (K : post ((nI S), f_room, (nI N), f_solved, f_playMode, f_pathLen, f_forceBase, f_outRow, f_badRow, f_reachRow, a_linkSet, a_atomSet, a_kinds, a_args, a_parent, a_kids, a_first, a_second, a_depth, a_pins, a_win, a_path, a_mv, a_choice, a_ranks, (zu a_sets 224 N f))) : ∀ d j, j + d = N → wX_award_2 post (nI row) (nI Q) (nI S) f_room (nI N) f_solved f_playMode f_pathLen f_forceBase f_outRow f_badRow f_reachRow (d + 1) (nI j) a_linkSet a_atomSet a_kinds a_args a_parent a_kids a_first a_second a_depth a_pins a_win a_path a_mv a_choice a_ranks (zu a_sets 224 j f) := by
  intro d
  induction d with
  | zero =>
    intro j hj
    have e : j = N := by omega
    subst e
    exact br_t (nI_le (Nat.le_refl _) (by omega)) K
  | succ d ih =>
    intro j hj
    refine br_f (nI_ge (by omega) (by omega)) ?_
    have e1 : zu a_sets 224 j f (224 + j) = a_sets (224 + j) := zu_out (by omega)
    have e2 : zu a_sets 224 j f (row + j) = a_sets (row + j) := zu_out (by omega)
    have hfj := hf j (by omega)
    have q : (224 : Int32) + nI j = nI (224 + j) := nI_add 224 j
    rw [q, nI_add, zi_c (by omega), zi_c (by omega), e1, e2]
    have i1 : vp_in (nI (224 + j)) 266 := zi_in (by omega) (by omega)
    have i2 : vp_in (nI (row + j)) 266 := zi_in (by omega) (by omega)
    have fin := ih (j + 1) (by omega)
    rw [← zu_s, hfj] at fin
    have hq : Q = 0 ∨ Q = 1 := by omega
    rcases hq with hq | hq
    · subst hq
      exact br_t rfl ⟨i1, i2, i1, nm_e (nm_r (nI_1 j) fin)⟩
    · subst hq
      exact br_f (by decide) ⟨i1, i2, i1, nm_e (nm_r (nI_1 j) fin)⟩
theorem zx_award {post : SX → Prop} {row Q : Nat} {f : Nat → Int32} (hN : N ≤ 14) (hr : row + 14 ≤ 224) (hQ : Q < 2)
    (hf : ∀ n, n < N → f n = if Q = 0 then a_sets (224 + n) ||| a_sets (row + n) else a_sets (224 + n) &&& (a_sets (row + n) ^^^ (-1)))
    (K : post ((nI S), f_room, (nI N), f_solved, f_playMode, f_pathLen, f_forceBase, f_outRow, f_badRow, f_reachRow, a_linkSet, a_atomSet, a_kinds, a_args, a_parent, a_kids, a_first, a_second, a_depth, a_pins, a_win, a_path, a_mv, a_choice, a_ranks, (zu a_sets 224 N f))) : wpX_award post ((nI S), f_room, (nI N), f_solved, f_playMode, f_pathLen, f_forceBase, f_outRow, f_badRow, f_reachRow, a_linkSet, a_atomSet, a_kinds, a_args, a_parent, a_kids, a_first, a_second, a_depth, a_pins, a_win, a_path, a_mv, a_choice, a_ranks, a_sets) (nI row) (nI Q) := by
  have := zx_award2 hN hr hQ hf K N 0 (by omega)
  rw [zu_0] at this
  exact ⟨N + 1, this⟩
theorem zx_take2 {post : SX → Prop} {row game : Nat} {f : Nat → Int32} (hN : N ≤ 14) (hr : row + 14 ≤ 266) (hg : game + 14 ≤ 266) (hdj : game + 14 ≤ row ∨ row + 14 ≤ game)
    (hf : ∀ n, n < N → f n = a_sets (game + n) &&& (a_sets (row + n) ^^^ (-1)))
    (K : post ((nI S), f_room, (nI N), f_solved, f_playMode, f_pathLen, f_forceBase, f_outRow, f_badRow, f_reachRow, a_linkSet, a_atomSet, a_kinds, a_args, a_parent, a_kids, a_first, a_second, a_depth, a_pins, a_win, a_path, a_mv, a_choice, a_ranks, (zu a_sets game N f))) : ∀ d j, j + d = N → wX_takeAway_2 post (nI game) (nI row) (nI S) f_room (nI N) f_solved f_playMode f_pathLen f_forceBase f_outRow f_badRow f_reachRow (d + 1) (nI j) a_linkSet a_atomSet a_kinds a_args a_parent a_kids a_first a_second a_depth a_pins a_win a_path a_mv a_choice a_ranks (zu a_sets game j f) := by
  intro d
  induction d with
  | zero =>
    intro j hj
    have e : j = N := by omega
    subst e
    exact br_t (nI_le (Nat.le_refl _) (by omega)) K
  | succ d ih =>
    intro j hj
    refine br_f (nI_ge (by omega) (by omega)) ?_
    have e1 : zu a_sets game j f (game + j) = a_sets (game + j) := zu_out (by omega)
    have e2 : zu a_sets game j f (row + j) = a_sets (row + j) := zu_out (by omega)
    have hfj := hf j (by omega)
    rw [nI_add, nI_add, zi_c (by omega), zi_c (by omega), e1, e2]
    have i1 : vp_in (nI (game + j)) 266 := zi_in (by omega) (by omega)
    have i2 : vp_in (nI (row + j)) 266 := zi_in (by omega) (by omega)
    have fin := ih (j + 1) (by omega)
    rw [← zu_s, hfj] at fin
    exact ⟨i1, i2, i1, nm_e (nm_r (nI_1 j) fin)⟩
theorem zx_take {post : SX → Prop} {row game : Nat} {f : Nat → Int32} (hN : N ≤ 14) (hr : row + 14 ≤ 266) (hg : game + 14 ≤ 266) (hdj : game + 14 ≤ row ∨ row + 14 ≤ game)
    (hf : ∀ n, n < N → f n = a_sets (game + n) &&& (a_sets (row + n) ^^^ (-1)))
    (K : post ((nI S), f_room, (nI N), f_solved, f_playMode, f_pathLen, f_forceBase, f_outRow, f_badRow, f_reachRow, a_linkSet, a_atomSet, a_kinds, a_args, a_parent, a_kids, a_first, a_second, a_depth, a_pins, a_win, a_path, a_mv, a_choice, a_ranks, (zu a_sets game N f))) : wpX_takeAway post ((nI S), f_room, (nI N), f_solved, f_playMode, f_pathLen, f_forceBase, f_outRow, f_badRow, f_reachRow, a_linkSet, a_atomSet, a_kinds, a_args, a_parent, a_kids, a_first, a_second, a_depth, a_pins, a_win, a_path, a_mv, a_choice, a_ranks, a_sets) (nI game) (nI row) := by
  have := zx_take2 hN hr hg hdj hf K N 0 (by omega)
  rw [zu_0] at this
  exact ⟨N + 1, this⟩
abbrev zx_fa (a : Nat → Int32) (row Q : Nat) (n : Nat) : Int32 := if Q = 0 then a (224 + n) ||| a (row + n) else a (224 + n) &&& (a (row + n) ^^^ (-1))
abbrev zx_ft (a : Nat → Int32) (game row : Nat) (n : Nat) : Int32 := a (game + n) &&& (a (row + n) ^^^ (-1))
end
/-- 'award' then 'takeAway', as sets -/
theorem zx_awtk {N S : Nat} {a_sets sets : Nat → Int32} {row game Q : Nat} (hS : S ≤ 5) (hN : N ≤ 14) (hr : row + 14 ≤ 224) (hg : game + 14 ≤ 112) (hr1 : 112 ≤ row) (ok1 : zc_ok N S a_sets game) (ok2 : zc_ok N S a_sets row) (ok3 : zc_ok N S a_sets 224)
    (hs : sets = zu (zu a_sets 224 N (zx_fa a_sets row Q)) game N (zx_ft a_sets game row)) :
    (∀ i, (i < game ∨ game + N ≤ i) → (i < 224 ∨ 224 + N ≤ i) → sets i = a_sets i) ∧ zc_ok N S sets game ∧ zc_ok N S sets 224 ∧
      (∀ p, zc_R N S sets game p ↔ (zc_R N S a_sets game p ∧ ¬ zc_R N S a_sets row p)) ∧
      (∀ p, pg_D N S p → ((zc_R N S a_sets row p → (zc_R N S sets 224 p ↔ Q = 0)) ∧ (¬ zc_R N S a_sets row p → (zc_R N S sets 224 p ↔ zc_R N S a_sets 224 p)))) := by
  subst hs
  have o1 : ∀ n, n < N → zu (zu a_sets 224 N (zx_fa a_sets row Q)) game N (zx_ft a_sets game row) (game + n) = a_sets (game + n) &&& (a_sets (row + n) ^^^ (-1)) := fun n hn => zu_in hn
  have o2 : ∀ n, n < N → zu (zu a_sets 224 N (zx_fa a_sets row Q)) game N (zx_ft a_sets game row) (224 + n) = if Q = 0 then a_sets (224 + n) ||| a_sets (row + n) else a_sets (224 + n) &&& (a_sets (row + n) ^^^ (-1)) := fun n hn => by
    rw [zu_out (by omega)]; exact zu_in hn
  refine ⟨fun i h1 h2 => by rw [zu_out h1, zu_out h2], fun n b hn hb z => ?_, fun n b hn hb z => ?_, fun p => ?_, fun p hp => ?_⟩
  · rw [o1 n hn] at z
    exact ok1 n b hn hb ((zb_diff _ _ (zb_lt z)).mp z).1
  · rw [o2 n hn] at z
    split at z
    · rw [b_or, Bool.or_eq_true] at z
      exact z.elim (ok3 n b hn hb) (ok2 n b hn hb)
    · exact ok3 n b hn hb ((zb_diff _ _ (zb_lt z)).mp z).1
  · constructor
    · rintro ⟨hd, z⟩
      have z' := z
      unfold zc_set at z'
      rw [o1 p.1 hd.1, zb_diff _ _ (by have := hd.2; omega)] at z'
      exact ⟨⟨hd, z'.1⟩, fun w => z'.2 w.2⟩
    · rintro ⟨⟨hd, z⟩, w⟩
      refine ⟨hd, ?_⟩
      unfold zc_set
      rw [o1 p.1 hd.1, zb_diff _ _ (by have := hd.2; omega)]
      exact ⟨z, fun u => w ⟨hd, u⟩⟩
  · have hb : p.2 < 32 := by have := hp.2; omega
    have e : zc_R N S (zu (zu a_sets 224 N (zx_fa a_sets row Q)) game N (zx_ft a_sets game row)) 224 p ↔ bt (if Q = 0 then a_sets (224 + p.1) ||| a_sets (row + p.1) else a_sets (224 + p.1) &&& (a_sets (row + p.1) ^^^ (-1))) p.2 = true := by
      rw [← o2 p.1 hp.1]
      exact ⟨fun z => z.2, fun z => ⟨hp, z⟩⟩
    by_cases hq : Q = 0
    · rw [if_pos hq, b_or, Bool.or_eq_true] at e
      refine ⟨fun z => ⟨fun _ => hq, fun _ => e.mpr (Or.inr z.2)⟩, fun z => ⟨fun w => ⟨hp, (e.mp w).resolve_right (fun u => z ⟨hp, u⟩)⟩, fun w => e.mpr (Or.inl w.2)⟩⟩
    · rw [if_neg hq, zb_diff _ _ hb] at e
      refine ⟨fun z => ⟨fun w => absurd z.2 (e.mp w).2, fun w => absurd w hq⟩, fun z => ⟨fun w => ⟨hp, (e.mp w).1⟩, fun w => e.mpr ⟨w.2, fun u => z ⟨hp, u⟩⟩⟩⟩
end
section
/-! ===== X: strip ===== -/
theorem zx_mv0 {M : Nat → Int32} {n s : Nat} : M (n * 5 + s) = 0 ↔ ∀ m, ¬ zc_mv M (n, s) m := by
  rw [zb_zero]
  exact ⟨fun h m hm => h m (zb_lt hm) hm, fun h i _ => h i⟩
section
variable {N S : Nat}
variable {f_room f_solved f_playMode f_pathLen f_forceBase f_outRow f_badRow f_reachRow : Int32} {a_linkSet a_atomSet a_kinds a_args a_parent a_kids a_first a_second a_depth a_pins a_win a_path a_mv a_choice a_ranks a_sets : Nat → Int32}
theorem zx_own_lt (K Ar At : Nat → Int32) (p : pg_P) : zc_own K Ar At p < 3 := by
  unfold zc_own
  repeat' split
  all_goals decide
theorem zx_strip20 {post : SX → Prop} {J6 : Int32 → (Nat → Int32) → (Nat → Int32) → (Nat → Int32) → (Nat → Int32) → (Nat → Int32) → (Nat → Int32) → (Nat → Int32) → (Nat → Int32) → (Nat → Int32) → (Nat → Int32) → (Nat → Int32) → (Nat → Int32) → (Nat → Int32) → (Nat → Int32) → (Nat → Int32) → (Nat → Int32) → Prop} {x1 : Int32} {n Q : Nat} (C : zx_C N S a_kinds a_args a_first a_second a_depth) (hn : n < N) (hQ : Q < 2)
    (K : J6 (nI (n + 1)) a_linkSet a_atomSet a_kinds a_args a_parent a_kids a_first a_second a_depth a_pins a_win a_path a_mv a_choice a_ranks (upd a_sets (112 + n) (zs_m (fun s => bt (a_sets n) s = true ∧ (∀ m, ¬ (zc_mv a_mv) (n, s) m) ∧ (zc_own a_kinds a_args a_atomSet) (n, s) = Q) S))) :
    ∀ d s, s + d = S → wX_strip_20 post J6 x1 (nI Q) (nI n) (nI S) f_room (nI N) f_solved f_playMode f_pathLen f_forceBase f_outRow f_badRow f_reachRow a_linkSet a_atomSet a_kinds a_args a_parent a_kids a_first a_second a_depth a_pins a_win a_path a_mv a_choice a_ranks a_sets (d + 1) (zs_m (fun s => bt (a_sets n) s = true ∧ (∀ m, ¬ (zc_mv a_mv) (n, s) m) ∧ (zc_own a_kinds a_args a_atomSet) (n, s) = Q) s) (nI s) := by
  have hN := C.1.1
  have hS := C.1.2
  intro d
  induction d with
  | zero =>
    intro s hs
    have e : s = S := by omega
    subst e
    refine br_t (nI_le (Nat.le_refl _) (by omega)) ?_
    rw [show (112 : Int32) + nI n = nI (112 + n) from nI_add 112 n, zi_c (by omega)]
    exact ⟨zi_in (by omega) (by omega), nm_e (nm_r (nI_1 n) K)⟩
  | succ d ih =>
    intro s hs
    have nx := ih (s + 1) (by omega)
    refine br_f (nI_ge (by omega) (by omega)) ⟨zi_in (by omega) (by omega), ?_⟩
    rw [zi_c (by omega)]
    by_cases hb : bt (a_sets n) s = true
    · refine br_f (fun z => (zb_sh0 _ (by omega)).mp z hb) (br_f (by decide) ?_)
      rw [zi_5, zi_c (by omega)]
      refine ⟨zi_in (by omega) (by omega), ?_⟩
      by_cases hm : a_mv (n * 5 + s) = 0
      · refine br_t hm (zx_own C hn (by omega) ?_)
        have ho := zx_own_lt a_kinds a_args a_atomSet (n, s)
        by_cases hq : (zc_own a_kinds a_args a_atomSet) (n, s) = Q
        · rw [zs_t ⟨hb, zx_mv0.mp hm, hq⟩] at nx
          exact br_t (by rw [hq]) (nm_e (nm_r (nI_1 s) nx))
        · rw [zs_f (fun z => hq z.2.2)] at nx
          exact br_f (fun z => hq ((nI_eq (by omega) (by omega)).mp z)) (nm_r (nI_1 s) nx)
      · rw [zs_f (fun z => hm (zx_mv0.mpr z.2.1))] at nx
        exact br_f hm (nm_r (nI_1 s) nx)
    · rw [zs_f (fun z => hb z.1)] at nx
      exact br_t ((zb_sh0 _ (by omega)).mpr hb) (br_t rfl (nm_r (nI_1 s) nx))
/-- what strip leaves -/
abbrev zx_SP (N S : Nat) (nx : pg_P → Nat → pg_P) (mv : pg_M) (own : pg_P → Nat) (P : Nat) (A T : pg_S) (a_sets a_choice sets ch : Nat → Int32) (F : pg_S) : Prop :=
  pg_AttE nx mv own P A T F (zc_ch ch) ∧ pg_AttC nx mv own P A F ∧ (∀ i, (∀ p, A p → i ≠ p.1 * 5 + p.2) → ch i = a_choice i) ∧ (∀ i, ∃ k, k < 5 ∧ ch i = nI k) ∧
  zc_ok N S sets 0 ∧ zc_ok N S sets 224 ∧ (∀ p, zc_R N S sets 0 p ↔ (A p ∧ ¬ F p)) ∧
  (∀ p, pg_D N S p → ((F p → (zc_R N S sets 224 p ↔ P = 0)) ∧ (¬ F p → (zc_R N S sets 224 p ↔ zc_R N S a_sets 224 p))))
theorem zx_strip {post : SX → Prop} {P : Nat} (C : zx_C N S a_kinds a_args a_first a_second a_depth) (HM : zx_M N S a_kinds a_mv) (H : pg_St N S (zc_nx a_kinds a_first a_second) (zc_vr a_kinds) (zc_bd a_kinds) (zc_dep a_depth) (zc_anc a_parent) (zc_mv a_mv) (zc_own a_kinds a_args a_atomSet) (zc_bk a_kinds)) (hP : P < 2) (ok0 : zc_ok N S a_sets 0) (ok3 : zc_ok N S a_sets 224) (hch : ∀ i, ∃ k, k < 5 ∧ a_choice i = nI k)
    (K : ∀ ch sets F, zx_SP N S (zc_nx a_kinds a_first a_second) (zc_mv a_mv) (zc_own a_kinds a_args a_atomSet) P (zc_R N S a_sets 0) (fun p => zc_R N S a_sets 0 p ∧ (zc_own a_kinds a_args a_atomSet) p = 1 - P ∧ ∀ m, ¬ (zc_mv a_mv) p m) a_sets a_choice sets ch F → post ((nI S), f_room, (nI N), f_solved, f_playMode, f_pathLen, f_forceBase, f_outRow, f_badRow, f_reachRow, a_linkSet, a_atomSet, a_kinds, a_args, a_parent, a_kids, a_first, a_second, a_depth, a_pins, a_win, a_path, a_mv, ch, a_ranks, sets)) :
    wpX_strip post ((nI S), f_room, (nI N), f_solved, f_playMode, f_pathLen, f_forceBase, f_outRow, f_badRow, f_reachRow, a_linkSet, a_atomSet, a_kinds, a_args, a_parent, a_kids, a_first, a_second, a_depth, a_pins, a_win, a_path, a_mv, a_choice, a_ranks, a_sets) (nI P) := by
  have hN := C.1.1
  have hS := C.1.2
  have eq1 : (1 : Int32) - nI P = nI (1 - P) := by
    have : P = 0 ∨ P = 1 := by omega
    rcases this with rfl | rfl <;> decide
  refine nm_r eq1 ⟨N + 1, ?_⟩
  have T0 : ∀ n s, n < N → s < S → ((bt (a_sets n) s = true ∧ (∀ m, ¬ (zc_mv a_mv) (n, s) m) ∧ (zc_own a_kinds a_args a_atomSet) (n, s) = 1 - P) ↔ (zc_R N S a_sets 0 (n, s) ∧ (zc_own a_kinds a_args a_atomSet) (n, s) = 1 - P ∧ ∀ m, ¬ (zc_mv a_mv) (n, s) m)) := by
    intro n s hn hs
    constructor
    · rintro ⟨a, b, c⟩
      exact ⟨⟨⟨hn, hs⟩, by show bt (a_sets (0 + n)) s = true; rw [Nat.zero_add]; exact a⟩, c, b⟩
    · rintro ⟨⟨_, a⟩, c, b⟩
      have a' : bt (a_sets (0 + n)) s = true := a
      rw [Nat.zero_add] at a'
      exact ⟨a', b, c⟩
  have main : ∀ d j, j + d = N → wX_strip_6 post (nI P) (nI (1 - P)) (nI S) f_room (nI N) f_solved f_playMode f_pathLen f_forceBase f_outRow f_badRow f_reachRow (d + 1) (nI j) a_linkSet a_atomSet a_kinds a_args a_parent a_kids a_first a_second a_depth a_pins a_win a_path a_mv a_choice a_ranks (zu a_sets 112 j (fun n => zs_m (fun s => bt (a_sets n) s = true ∧ (∀ m, ¬ (zc_mv a_mv) (n, s) m) ∧ (zc_own a_kinds a_args a_atomSet) (n, s) = 1 - P) S)) := by
    intro d
    induction d with
    | zero =>
      intro j hj
      have e : j = N := by omega
      subst e
      refine br_t (nI_le (Nat.le_refl _) (by omega)) ?_
      obtain ⟨s1, hs1⟩ : ∃ s1, s1 = zu a_sets 112 j (fun n => zs_m (fun s => bt (a_sets n) s = true ∧ (∀ m, ¬ (zc_mv a_mv) (n, s) m) ∧ (zc_own a_kinds a_args a_atomSet) (n, s) = 1 - P) S) := ⟨_, rfl⟩
      rw [← hs1]
      have r0 : ∀ i, i < 112 ∨ 112 + j ≤ i → s1 i = a_sets i := fun i hi => by rw [hs1]; exact zu_out hi
      have r1 : ∀ n, n < j → s1 (112 + n) = zs_m (fun s => bt (a_sets n) s = true ∧ (∀ m, ¬ (zc_mv a_mv) (n, s) m) ∧ (zc_own a_kinds a_args a_atomSet) (n, s) = 1 - P) S := fun n hn => by rw [hs1]; exact zu_in hn
      have g0 : ∀ p, zc_R j S s1 0 p ↔ zc_R j S a_sets 0 p := by
        intro p
        refine and_congr_right (fun hd => ?_)
        show bt (s1 (0 + p.1)) p.2 = true ↔ bt (a_sets (0 + p.1)) p.2 = true
        rw [r0 _ (by have := hd.1; omega)]
      have t0 : ∀ p, zc_R j S s1 112 p ↔ (zc_R j S a_sets 0 p ∧ (zc_own a_kinds a_args a_atomSet) p = 1 - P ∧ ∀ m, ¬ (zc_mv a_mv) p m) := by
        rintro ⟨n, s⟩
        constructor
        · rintro ⟨hd, hb⟩
          have hb' : bt (s1 (112 + n)) s = true := hb
          rw [r1 n hd.1, zs_b _ S (by omega)] at hb'
          exact (T0 n s hd.1 hd.2).mp hb'.2
        · intro z
          have hd := z.1.1
          refine ⟨hd, ?_⟩
          show bt (s1 (112 + n)) s = true
          rw [r1 n hd.1, zs_b _ S (by omega)]
          exact ⟨hd.2, (T0 n s hd.1 hd.2).mpr z⟩
      have eT : (fun p => zc_R j S a_sets 0 p ∧ (zc_own a_kinds a_args a_atomSet) p = 1 - P ∧ ∀ m, ¬ (zc_mv a_mv) p m) = zc_R j S s1 112 := funext fun p => propext (t0 p).symm
      have eA : zc_R j S a_sets 0 = zc_R j S s1 0 := funext fun p => propext (g0 p).symm
      refine zx_attract (row := 112) (game := 0) (Q := P) C HM H (by omega) (by omega) (by omega) hP (fun p z => (g0 p).mpr ((t0 p).mp z).1) ?_ hch (fun ch sets I AC => ?_)
      · intro n b hn hb z
        rw [r1 n hn, zs_b _ S (by omega)] at z
        omega
      · obtain ⟨i1, i2, i3, i4, i5⟩ := I
        have k0 : zc_ok j S sets 0 := fun n b hn hb z => by
          rw [i1 _ (by omega), r0 _ (by omega)] at z
          exact ok0 n b hn hb z
        have k3 : zc_ok j S sets 224 := fun n b hn hb z => by
          rw [i1 _ (by omega), r0 _ (by omega)] at z
          exact ok3 n b hn hb z
        refine zx_award (row := 112) (Q := P) (f := zx_fa sets 112 P) hN (by omega) hP (fun n _ => rfl) ?_
        refine zx_take (game := 0) (row := 112) (f := zx_ft sets 0 112) hN (by omega) (by omega) (by omega) (fun n hn => ?_) ?_
        · rw [zu_out (by omega), zu_out (by omega)]
        · obtain ⟨q1, q2, q3, q4, q5⟩ := zx_awtk (N := j) (S := S) (a_sets := sets) (row := 112) (game := 0) (Q := P) hS hN (by omega) (by omega) (by omega) k0 i2 k3 rfl
          have gs : ∀ p, zc_R j S sets 0 p ↔ zc_R j S s1 0 p := fun p => by
            refine and_congr_right (fun hd => ?_)
            show bt (sets (0 + p.1)) p.2 = true ↔ bt (s1 (0 + p.1)) p.2 = true
            rw [i1 _ (by have := hd.1; omega)]
          have os : ∀ p, zc_R j S sets 224 p ↔ zc_R j S a_sets 224 p := fun p => by
            refine and_congr_right (fun hd => ?_)
            show bt (sets (224 + p.1)) p.2 = true ↔ bt (a_sets (224 + p.1)) p.2 = true
            rw [i1 _ (by have := hd.1; omega), r0 _ (by have := hd.1; omega)]
          refine K ch _ (zc_R j S sets 112) ⟨?_, ?_, fun i hi => ?_, i5, q2, q3, fun p => ?_, fun p hp => ⟨fun z => (q5 p hp).1 z, fun z => ((q5 p hp).2 z).trans (os p)⟩⟩
          · rw [eT, eA]; exact i3
          · rw [eA]; exact AC
          · exact i4 i (fun p hp _ => hi p ((g0 p).mp hp))
          · rw [q4 p, gs p, g0 p]
    | succ d ih =>
      intro j hj
      refine br_f (nI_ge (by omega) (by omega)) ⟨S + 1, ?_⟩
      have fin := ih (j + 1) (by omega)
      rw [← zu_s] at fin
      have e0 : zu a_sets 112 j (fun n => zs_m (fun s => bt (a_sets n) s = true ∧ (∀ m, ¬ (zc_mv a_mv) (n, s) m) ∧ (zc_own a_kinds a_args a_atomSet) (n, s) = 1 - P) S) j = a_sets j := zu_out (by omega)
      refine zx_strip20 (a_sets := zu a_sets 112 j (fun n => zs_m (fun s => bt (a_sets n) s = true ∧ (∀ m, ¬ (zc_mv a_mv) (n, s) m) ∧ (zc_own a_kinds a_args a_atomSet) (n, s) = 1 - P) S)) C (by omega) (by omega) ?_ S 0 (by omega)
      rw [e0]
      exact fin
  have := main N 0 (by omega)
  rw [zu_0] at this
  exact this
end
end
section
/-! ===== X: leastRank, openLevel, closeLevel ===== -/
def zc_rk (K Dp : Nat → Int32) (n : Nat) : Nat := 2 * (Dp n).toNatClampNeg + (if K n = 7 then 1 else 0)
theorem zi_14 (L : Nat) : nI L * 14 = nI (L * 14) := by
  rw [show (14 : Int32) = nI 14 from rfl, pk_mul]
section
variable {N S : Nat}
variable {f_room f_solved f_playMode f_pathLen f_forceBase f_outRow f_badRow f_reachRow : Int32} {a_linkSet a_atomSet a_kinds a_args a_parent a_kids a_first a_second a_depth a_pins a_win a_path a_mv a_choice a_ranks a_sets : Nat → Int32}
theorem zx_rank {post : Int32 → Prop} {n : Nat} (C : zx_C N S a_kinds a_args a_first a_second a_depth) (hn : n < N) (h0 : ¬ (zc_bd a_kinds) n → post (-1)) (h1 : (zc_bd a_kinds) n → zc_rk a_kinds a_depth n < 8 → post (nI (zc_rk a_kinds a_depth n))) : wpX_rankOf post ((nI S), f_room, (nI N), f_solved, f_playMode, f_pathLen, f_forceBase, f_outRow, f_badRow, f_reachRow, a_linkSet, a_atomSet, a_kinds, a_args, a_parent, a_kids, a_first, a_second, a_depth, a_pins, a_win, a_path, a_mv, a_choice, a_ranks, a_sets) (nI n) := by
  have hN := C.1.1
  obtain ⟨d, hd, ed⟩ := C.2.2.2.2 n hn
  unfold wpX_rankOf
  refine zx_binder (by omega) (fun hb => ?_) (fun hb => br_t rfl (h0 hb))
  refine br_f (by decide) ⟨zi_in (by omega) (by omega), zi_in (by omega) (by omega), ?_⟩
  rw [zi_c (by omega), ed, show (2 : Int32) * nI d = nI (2 * d) from pk_mul 2 d]
  have hd' : zc_dep a_depth n = d := by show (a_depth n).toNatClampNeg = d; rw [ed, zi_c (by omega)]
  have h1' := h1 hb
  unfold zc_rk at h1'
  rw [ed, zi_c (by omega)] at h1'
  by_cases k7 : a_kinds n = 7
  · rw [if_pos k7] at h1'
    refine br_t k7 ?_
    rw [nI_1]
    exact h1' (by omega)
  · rw [if_neg k7] at h1'
    refine br_f k7 ?_
    rw [show (0 : Int32) = nI 0 from rfl, nI_add]
    exact h1' (by omega)
theorem zx_lrank {post : Int32 → Prop} {game : Nat} (C : zx_C N S a_kinds a_args a_first a_second a_depth) (hg : game + 14 ≤ 266) (ok : zc_ok N S a_sets game)
    (h0 : (∀ p, zc_R N S a_sets game p → ¬ (zc_bd a_kinds) p.1) → post (-1))
    (h1 : ∀ d, d < 8 → (∃ p, zc_R N S a_sets game p ∧ (zc_bd a_kinds) p.1 ∧ zc_rk a_kinds a_depth p.1 = d) → (∀ p, zc_R N S a_sets game p → (zc_bd a_kinds) p.1 → d ≤ zc_rk a_kinds a_depth p.1) → post (nI d)) : wpX_leastRank post ((nI S), f_room, (nI N), f_solved, f_playMode, f_pathLen, f_forceBase, f_outRow, f_badRow, f_reachRow, a_linkSet, a_atomSet, a_kinds, a_args, a_parent, a_kids, a_first, a_second, a_depth, a_pins, a_win, a_path, a_mv, a_choice, a_ranks, a_sets) (nI game) := by
  have hN := C.1.1
  have hS := C.1.2
  have main : ∀ e j, j + e = N → ∀ x2, ((x2 = -1 ∧ ∀ p, zc_R N S a_sets game p → p.1 < j → ¬ (zc_bd a_kinds) p.1) ∨ (∃ b, x2 = nI b ∧ b < 8 ∧ (∃ p, zc_R N S a_sets game p ∧ (zc_bd a_kinds) p.1 ∧ zc_rk a_kinds a_depth p.1 = b) ∧ ∀ p, zc_R N S a_sets game p → p.1 < j → (zc_bd a_kinds) p.1 → b ≤ zc_rk a_kinds a_depth p.1)) →
      wX_leastRank_4 post (nI game) (nI S) f_room (nI N) f_solved f_playMode f_pathLen f_forceBase f_outRow f_badRow f_reachRow a_linkSet a_atomSet a_kinds a_args a_parent a_kids a_first a_second a_depth a_pins a_win a_path a_mv a_choice a_ranks a_sets (e + 1) x2 (nI j) := by
    intro e
    induction e with
    | zero =>
      intro j hj x2 I
      have ej : j = N := by omega
      subst ej
      refine br_t (nI_le (Nat.le_refl _) (by omega)) ?_
      rcases I with ⟨rfl, I⟩ | ⟨b, rfl, hb, I1, I2⟩
      · exact h0 (fun p hp => I p hp hp.1.1)
      · exact h1 b hb I1 (fun p hp => I2 p hp hp.1.1)
    | succ e ih =>
      intro j hj x2 I
      have lt1 : ∀ p : pg_P, p.1 < j + 1 → p.1 < j ∨ p.1 = j := fun p h => by omega
      refine br_f (nI_ge (by omega) (by omega)) (zx_rank C (by omega) (fun hb => ?_) (fun hb hr8 => ?_))
      · refine br_t (by decide) (nm_r (nI_1 j) (ih (j + 1) (by omega) x2 ?_))
        rcases I with ⟨e1, I⟩ | ⟨b, e1, hb8, I1, I2⟩
        · refine Or.inl ⟨e1, fun p hp hlt => ?_⟩
          rcases lt1 p hlt with z | z
          · exact I p hp z
          · rw [z]; exact hb
        · refine Or.inr ⟨b, e1, hb8, I1, fun p hp hlt hbp => ?_⟩
          rcases lt1 p hlt with z | z
          · exact I2 p hp z hbp
          · rw [z] at hbp; exact absurd hbp hb
      · refine br_f (nI_pos (by omega)) ?_
        rw [nI_add, zi_c (by omega)]
        refine ⟨zi_in (by omega) (by omega), ?_⟩
        by_cases hz : a_sets (game + j) = 0
        · refine br_t hz (nm_r (nI_1 j) (ih (j + 1) (by omega) x2 ?_))
          have no : ∀ p, zc_R N S a_sets game p → p.1 ≠ j := by
            intro p hp e1
            have hb' : bt (a_sets (game + p.1)) p.2 = true := hp.2
            rw [e1, hz, b_0] at hb'
            exact absurd hb' Bool.false_ne_true
          rcases I with ⟨e1, I⟩ | ⟨b, e1, hb8, I1, I2⟩
          · refine Or.inl ⟨e1, fun p hp hlt => I p hp ((lt1 p hlt).resolve_right (no p hp))⟩
          · refine Or.inr ⟨b, e1, hb8, I1, fun p hp hlt => I2 p hp ((lt1 p hlt).resolve_right (no p hp))⟩
        · refine br_f hz ?_
          obtain ⟨s, hs, hbs⟩ := zb_nz hz
          have hsS : s < S := by
            rcases Nat.lt_or_ge s S with z | z
            · exact z
            · exact absurd hbs (ok j s (by omega) z)
          have hp0 : zc_R N S a_sets game (j, s) := ⟨⟨by show j < N; omega, hsS⟩, hbs⟩
          rcases I with ⟨e1, I⟩ | ⟨b, e1, hb8, I1, I2⟩
          · refine br_t (by rw [e1]; decide) (nm_r (nI_1 j) (ih (j + 1) (by omega) _ (Or.inr ⟨_, rfl, hr8, ⟨(j, s), hp0, hb, rfl⟩, fun p hp hlt hbp => ?_⟩)))
            rcases lt1 p hlt with z | z
            · exact absurd hbp (I p hp z)
            · rw [z]; exact Nat.le_refl _
          · subst e1
            refine br_f (nI_pos (by omega)) ?_
            by_cases hle : b ≤ zc_rk a_kinds a_depth j
            · refine br_t (nI_le hle (by omega)) (nm_r (nI_1 j) (ih (j + 1) (by omega) _ (Or.inr ⟨b, rfl, hb8, I1, fun p hp hlt hbp => ?_⟩)))
              rcases lt1 p hlt with z | z
              · exact I2 p hp z hbp
              · rw [z]; exact hle
            · refine br_f (nI_ge (by omega) (by omega)) (nm_r (nI_1 j) (ih (j + 1) (by omega) _ (Or.inr ⟨_, rfl, hr8, ⟨(j, s), hp0, hb, rfl⟩, fun p hp hlt hbp => ?_⟩)))
              rcases lt1 p hlt with z | z
              · have := I2 p hp z hbp
                omega
              · rw [z]; exact Nat.le_refl _
  exact ⟨N + 1, main N 0 (by omega) (-1) (Or.inl ⟨rfl, fun p _ z => absurd z (by omega)⟩)⟩
/-- what openLevel leaves if there is something -/
abbrev zx_OP (N S : Nat) (nx : pg_P → Nat → pg_P) (mv : pg_M) (own : pg_P → Nat) (L P : Nat) (A T : pg_S) (a_sets a_choice sets ch : Nat → Int32) : Prop :=
  pg_AttE nx mv own P A T (zc_R N S sets (112 + L * 14)) (zc_ch ch) ∧ pg_AttC nx mv own P A (zc_R N S sets (112 + L * 14)) ∧
  (∀ i, (∀ p, A p → i ≠ p.1 * 5 + p.2) → ch i = a_choice i) ∧ (∀ i, ∃ k, k < 5 ∧ ch i = nI k) ∧
  zc_ok N S sets (112 + L * 14) ∧ zc_ok N S sets ((L + 1) * 14) ∧
  (∀ p, zc_R N S sets ((L + 1) * 14) p ↔ (A p ∧ ¬ zc_R N S sets (112 + L * 14) p)) ∧
  (∀ i, (i < 112 + L * 14 ∨ 112 + L * 14 + N ≤ i) → (i < (L + 1) * 14 ∨ (L + 1) * 14 + N ≤ i) → sets i = a_sets i)
theorem zx_open {post : Int32 → SX → Prop} {L : Nat} (C : zx_C N S a_kinds a_args a_first a_second a_depth) (HM : zx_M N S a_kinds a_mv) (H : pg_St N S (zc_nx a_kinds a_first a_second) (zc_vr a_kinds) (zc_bd a_kinds) (zc_dep a_depth) (zc_anc a_parent) (zc_mv a_mv) (zc_own a_kinds a_args a_atomSet) (zc_bk a_kinds)) (hL : L ≤ 6) (ok : zc_ok N S a_sets (L * 14)) (hch : ∀ i, ∃ k, k < 5 ∧ a_choice i = nI k)
    (h0 : (∀ p, zc_R N S a_sets (L * 14) p → ¬ (zc_bd a_kinds) p.1) → post 0 ((nI S), f_room, (nI N), f_solved, f_playMode, f_pathLen, f_forceBase, f_outRow, f_badRow, f_reachRow, a_linkSet, a_atomSet, a_kinds, a_args, a_parent, a_kids, a_first, a_second, a_depth, a_pins, a_win, a_path, a_mv, a_choice, a_ranks, a_sets))
    (h1 : ∀ d, d < 8 → (∃ p, zc_R N S a_sets (L * 14) p ∧ (zc_bd a_kinds) p.1 ∧ zc_rk a_kinds a_depth p.1 = d) → (∀ p, zc_R N S a_sets (L * 14) p → (zc_bd a_kinds) p.1 → d ≤ zc_rk a_kinds a_depth p.1) → ∀ ch sets, zx_OP N S (zc_nx a_kinds a_first a_second) (zc_mv a_mv) (zc_own a_kinds a_args a_atomSet) L (d % 2) (zc_R N S a_sets (L * 14)) (fun p => zc_R N S a_sets (L * 14) p ∧ (zc_bd a_kinds) p.1 ∧ zc_rk a_kinds a_depth p.1 = d) a_sets a_choice sets ch → post 1 ((nI S), f_room, (nI N), f_solved, f_playMode, f_pathLen, f_forceBase, f_outRow, f_badRow, f_reachRow, a_linkSet, a_atomSet, a_kinds, a_args, a_parent, a_kids, a_first, a_second, a_depth, a_pins, a_win, a_path, a_mv, ch, (upd a_ranks L (nI d)), sets)) :
    wpX_openLevel post ((nI S), f_room, (nI N), f_solved, f_playMode, f_pathLen, f_forceBase, f_outRow, f_badRow, f_reachRow, a_linkSet, a_atomSet, a_kinds, a_args, a_parent, a_kids, a_first, a_second, a_depth, a_pins, a_win, a_path, a_mv, a_choice, a_ranks, a_sets) (nI L) := by
  have hN := C.1.1
  have hS := C.1.2
  refine nm_r (zi_14 L) (zx_lrank C (by omega) ok (fun hz => br_t (by decide) (h0 hz)) (fun d hd hex hmin => ?_))
  refine br_f (nI_pos (by omega)) (br_t (nI_le (b := 6) hL (by decide)) ⟨zi_in (by omega) (by omega), ?_⟩)
  rw [zi_c (by omega)]
  refine nm_e (nm_r (show (112 : Int32) + nI (L * 14) = nI (112 + L * 14) from nI_add 112 _) ⟨N + 1, ?_⟩)
  have main : ∀ e j, j + e = N → wX_openLevel_39 post (nI (L * 14)) (nI d) (nI (112 + L * 14)) (nI S) f_room (nI N) f_solved f_playMode f_pathLen f_forceBase f_outRow f_badRow f_reachRow (e + 1) (nI j) a_linkSet a_atomSet a_kinds a_args a_parent a_kids a_first a_second a_depth a_pins a_win a_path a_mv a_choice (upd a_ranks L (nI d)) (zu a_sets (112 + L * 14) j (fun n => zs_m (fun s => zc_R N S a_sets (L * 14) (n, s) ∧ (zc_bd a_kinds) n ∧ zc_rk a_kinds a_depth n = d) S)) := by
    intro e
    induction e with
    | zero =>
      intro j hj
      have ej : j = N := by omega
      subst ej
      refine br_t (nI_le (Nat.le_refl _) (by omega)) ?_
      obtain ⟨s1, hs1⟩ : ∃ s1, s1 = zu a_sets (112 + L * 14) j (fun n => zs_m (fun s => zc_R j S a_sets (L * 14) (n, s) ∧ (zc_bd a_kinds) n ∧ zc_rk a_kinds a_depth n = d) S) := ⟨_, rfl⟩
      rw [← hs1]
      have r0 : ∀ i, i < 112 + L * 14 ∨ 112 + L * 14 + j ≤ i → s1 i = a_sets i := fun i hi => by rw [hs1]; exact zu_out hi
      have r1 : ∀ n, n < j → s1 (112 + L * 14 + n) = zs_m (fun s => zc_R j S a_sets (L * 14) (n, s) ∧ (zc_bd a_kinds) n ∧ zc_rk a_kinds a_depth n = d) S := fun n hn => by rw [hs1]; exact zu_in hn
      have g0 : ∀ p, zc_R j S s1 (L * 14) p ↔ zc_R j S a_sets (L * 14) p := by
        intro p
        refine and_congr_right (fun hd => ?_)
        show bt (s1 (L * 14 + p.1)) p.2 = true ↔ bt (a_sets (L * 14 + p.1)) p.2 = true
        rw [r0 _ (by have := hd.1; omega)]
      have t0 : ∀ p, zc_R j S s1 (112 + L * 14) p ↔ (zc_R j S a_sets (L * 14) p ∧ (zc_bd a_kinds) p.1 ∧ zc_rk a_kinds a_depth p.1 = d) := by
        rintro ⟨n, s⟩
        constructor
        · rintro ⟨hd, hb⟩
          have hb' : bt (s1 (112 + L * 14 + n)) s = true := hb
          rw [r1 n hd.1, zs_b _ S (by omega)] at hb'
          exact hb'.2
        · intro z
          have hd := z.1.1
          refine ⟨hd, ?_⟩
          show bt (s1 (112 + L * 14 + n)) s = true
          rw [r1 n hd.1, zs_b _ S (by omega)]
          exact ⟨hd.2, z⟩
      have eT : (fun p => zc_R j S a_sets (L * 14) p ∧ (zc_bd a_kinds) p.1 ∧ zc_rk a_kinds a_depth p.1 = d) = zc_R j S s1 (112 + L * 14) := funext fun p => propext (t0 p).symm
      have eA : zc_R j S a_sets (L * 14) = zc_R j S s1 (L * 14) := funext fun p => propext (g0 p).symm
      have e2 : nI d &&& 1 = nI (d % 2) := pk_andN (by omega) 1 (by decide)
      rw [e2]
      refine zx_attract (row := 112 + L * 14) (game := L * 14) (Q := d % 2) C HM H (by omega) (by omega) (by omega) (by omega) (fun p z => (g0 p).mpr ((t0 p).mp z).1) ?_ hch (fun ch sets I AC => ?_)
      · intro n b hn hb z
        rw [r1 n hn, zs_b _ S (by omega)] at z
        omega
      · obtain ⟨i1, i2, i3, i4, i5⟩ := I
        refine ⟨j + 1, ?_⟩
        have lp : ∀ e' j', j' + e' = j → wX_openLevel_100 post (nI (L * 14)) (nI (112 + L * 14)) (nI S) f_room (nI j) f_solved f_playMode f_pathLen f_forceBase f_outRow f_badRow f_reachRow (e' + 1) (nI j') a_linkSet a_atomSet a_kinds a_args a_parent a_kids a_first a_second a_depth a_pins a_win a_path a_mv ch (upd a_ranks L (nI d)) (zu sets ((L + 1) * 14) j' (zx_ft sets (L * 14) (112 + L * 14))) := by
          intro e'
          induction e' with
          | zero =>
            intro j' hj'
            have e1 : j' = j := by omega
            subst e1
            refine br_t (nI_le (Nat.le_refl _) (by omega)) (h1 d hd hex hmin ch _ ?_)
            have fr : ∀ i, i < (L + 1) * 14 ∨ (L + 1) * 14 + j' ≤ i → zu sets ((L + 1) * 14) j' (zx_ft sets (L * 14) (112 + L * 14)) i = sets i := fun i hi => zu_out hi
            have fi : ∀ n, n < j' → zu sets ((L + 1) * 14) j' (zx_ft sets (L * 14) (112 + L * 14)) ((L + 1) * 14 + n) = sets (L * 14 + n) &&& (sets (112 + L * 14 + n) ^^^ (-1)) := fun n hn => zu_in hn
            have fF : zc_R j' S (zu sets ((L + 1) * 14) j' (zx_ft sets (L * 14) (112 + L * 14))) (112 + L * 14) = zc_R j' S sets (112 + L * 14) := funext fun p => propext (and_congr_right (fun hd => by
              show bt (zu sets ((L + 1) * 14) j' (zx_ft sets (L * 14) (112 + L * 14)) (112 + L * 14 + p.1)) p.2 = true ↔ bt (sets (112 + L * 14 + p.1)) p.2 = true
              rw [fr _ (by have := hd.1; omega)]))
            have gg : ∀ n, n < j' → sets (L * 14 + n) = a_sets (L * 14 + n) := fun n hn => by rw [i1 _ (by omega), r0 _ (by omega)]
            unfold zx_OP
            rw [fF, eT, eA]
            refine ⟨i3, AC, fun i hi => i4 i (fun p hp _ => hi p hp), i5, fun n b hn hb z => ?_, fun n b hn hb z => ?_, fun p => ?_, fun i a b => ?_⟩
            · rw [fr _ (by omega)] at z; exact i2 n b hn hb z
            · rw [fi n hn] at z
              have := ((zb_diff _ _ (zb_lt z)).mp z).1
              rw [gg n hn] at this
              exact ok n b hn hb this
            · rw [← eA]
              constructor
              · rintro ⟨hd, z⟩
                have z' : bt (zu sets ((L + 1) * 14) j' (zx_ft sets (L * 14) (112 + L * 14)) ((L + 1) * 14 + p.1)) p.2 = true := z
                rw [fi p.1 hd.1, zb_diff _ _ (by have := hd.2; omega), gg p.1 hd.1] at z'
                exact ⟨⟨hd, z'.1⟩, fun w => z'.2 w.2⟩
              · rintro ⟨⟨hd, z⟩, w⟩
                refine ⟨hd, ?_⟩
                show bt (zu sets ((L + 1) * 14) j' (zx_ft sets (L * 14) (112 + L * 14)) ((L + 1) * 14 + p.1)) p.2 = true
                rw [fi p.1 hd.1, zb_diff _ _ (by have := hd.2; omega), gg p.1 hd.1]
                exact ⟨z, fun u => w ⟨hd, u⟩⟩
            · rw [fr i b, i1 i a, r0 i a]
          | succ e' ih' =>
            intro j' hj'
            refine br_f (nI_ge (by omega) (by omega)) ?_
            have fin := ih' (j' + 1) (by omega)
            rw [← zu_s] at fin
            have o1 : zu sets ((L + 1) * 14) j' (zx_ft sets (L * 14) (112 + L * 14)) (L * 14 + j') = sets (L * 14 + j') := zu_out (by omega)
            have o2 : zu sets ((L + 1) * 14) j' (zx_ft sets (L * 14) (112 + L * 14)) (112 + L * 14 + j') = sets (112 + L * 14 + j') := zu_out (by omega)
            rw [show nI (L * 14) + 14 + nI j' = nI ((L + 1) * 14 + j') by rw [show (14 : Int32) = nI 14 from rfl, nI_add, nI_add]; exact congrArg nI (by omega), nI_add, nI_add, zi_c (by omega), zi_c (by omega), zi_c (by omega), o1, o2]
            exact ⟨zi_in (by omega) (by omega), zi_in (by omega) (by omega), zi_in (by omega) (by omega), nm_e (nm_r (nI_1 j') fin)⟩
        have := lp j 0 (by omega)
        rw [zu_0] at this
        exact this
    | succ e ih =>
      intro j hj
      have fin := ih (j + 1) (by omega)
      rw [← zu_s] at fin
      have o1 : zu a_sets (112 + L * 14) j (fun n => zs_m (fun s => zc_R N S a_sets (L * 14) (n, s) ∧ (zc_bd a_kinds) n ∧ zc_rk a_kinds a_depth n = d) S) (L * 14 + j) = a_sets (L * 14 + j) := zu_out (by omega)
      refine br_f (nI_ge (by omega) (by omega)) (zx_rank C (by omega) (fun hb => ?_) (fun hb hr8 => ?_))
      · refine br_f (fun z => absurd (z ▸ nI_pos (n := d) (by omega) : ¬ (-1 : Int32) < 0) (by decide)) ?_
        rw [nI_add, zi_c (by omega)]
        have e0 : zs_m (fun s => zc_R N S a_sets (L * 14) (j, s) ∧ (zc_bd a_kinds) j ∧ zc_rk a_kinds a_depth j = d) S = 0 := (zb_zero _).mpr fun i hi z => hb ((zs_b _ S (by omega) i).mp z).2.2.1
        rw [e0] at fin
        exact ⟨zi_in (by omega) (by omega), nm_e (nm_r (nI_1 j) fin)⟩
      · by_cases hr : zc_rk a_kinds a_depth j = d
        · refine br_t (by rw [hr]) ?_
          rw [nI_add, nI_add, zi_c (by omega), zi_c (by omega), o1]
          have e0 : zs_m (fun s => zc_R N S a_sets (L * 14) (j, s) ∧ (zc_bd a_kinds) j ∧ zc_rk a_kinds a_depth j = d) S = a_sets (L * 14 + j) := zb_ext fun i hi => by
            rw [zs_b _ S (by omega)]
            constructor
            · intro z; exact z.2.1.2
            · intro z
              have hiS : i < S := by
                rcases Nat.lt_or_ge i S with w | w
                · exact w
                · exact absurd z (ok j i (by omega) w)
              exact ⟨hiS, ⟨⟨by show j < N; omega, hiS⟩, z⟩, hb, hr⟩
          rw [e0] at fin
          exact ⟨zi_in (by omega) (by omega), zi_in (by omega) (by omega), nm_e (nm_r (nI_1 j) fin)⟩
        · refine br_f (fun z => hr ((nI_eq (by omega) (by omega)).mp z)) ?_
          rw [nI_add, zi_c (by omega)]
          have e0 : zs_m (fun s => zc_R N S a_sets (L * 14) (j, s) ∧ (zc_bd a_kinds) j ∧ zc_rk a_kinds a_depth j = d) S = 0 := (zb_zero _).mpr fun i hi z => hr ((zs_b _ S (by omega) i).mp z).2.2.2
          rw [e0] at fin
          exact ⟨zi_in (by omega) (by omega), nm_e (nm_r (nI_1 j) fin)⟩
  have := main N 0 (by omega)
  rw [zu_0] at this
  exact this
end
end
section
/-! ===== X: closeLevel ===== -/
section
variable {N S : Nat}
variable {f_room f_solved f_playMode f_pathLen f_forceBase f_outRow f_badRow f_reachRow : Int32} {a_linkSet a_atomSet a_kinds a_args a_parent a_kids a_first a_second a_depth a_pins a_win a_path a_mv a_choice a_ranks a_sets : Nat → Int32}
/-- the lost positions -/
abbrev zx_lost (N S : Nat) (a : Nat → Int32) (L Q : Nat) (p : pg_P) : Prop := (zc_R N S a (L * 14) p ∧ ¬ zc_R N S a (112 + L * 14) p) ∧ (Q = 0 ↔ zc_R N S a 224 p)
abbrev zx_fl (a : Nat → Int32) (L Q : Nat) (n : Nat) : Int32 := if Q = 0 then (a (L * 14 + n) &&& (a (112 + L * 14 + n) ^^^ (-1))) &&& a (224 + n) else (a (L * 14 + n) &&& (a (112 + L * 14 + n) ^^^ (-1))) &&& (a (224 + n) ^^^ (-1))
theorem zx_fl_b (hS : S ≤ 5) {a : Nat → Int32} {L Q : Nat} (ok : zc_ok N S a (L * 14)) {n s : Nat} (hn : n < N) : bt (zx_fl a L Q n) s = true ↔ (s < S ∧ zx_lost N S a L Q (n, s)) := by
  constructor
  · intro z
    have hs32 := zb_lt z
    have h1 : bt (a (L * 14 + n)) s = true ∧ ¬ bt (a (112 + L * 14 + n)) s = true ∧ (Q = 0 ↔ bt (a (224 + n)) s = true) := by
      unfold zx_fl at z
      split at z
      · rename_i hq
        rw [b_and, Bool.and_eq_true, zb_diff _ _ hs32] at z
        exact ⟨z.1.1, z.1.2, ⟨fun _ => z.2, fun _ => hq⟩⟩
      · rename_i hq
        rw [zb_diff _ _ hs32, zb_diff _ _ hs32] at z
        exact ⟨z.1.1, z.1.2, ⟨fun w => absurd w hq, fun w => absurd w z.2⟩⟩
    have hsS : s < S := by
      rcases Nat.lt_or_ge s S with w | w
      · exact w
      · exact absurd h1.1 (ok n s hn w)
    refine ⟨hsS, ⟨⟨⟨hn, hsS⟩, h1.1⟩, fun w => h1.2.1 w.2⟩, h1.2.2.trans ⟨fun w => ⟨⟨hn, hsS⟩, w⟩, fun w => w.2⟩⟩
  · rintro ⟨hsS, ⟨⟨hd, h1⟩, h2⟩, h3⟩
    have hs32 : s < 32 := by omega
    have h1' : bt (a (L * 14 + n)) s = true := h1
    have h2' : ¬ bt (a (112 + L * 14 + n)) s = true := fun w => h2 ⟨hd, w⟩
    unfold zx_fl
    split
    · rename_i hq
      rw [b_and, Bool.and_eq_true, zb_diff _ _ hs32]
      exact ⟨⟨h1', h2'⟩, (h3.mp hq).2⟩
    · rename_i hq
      rw [zb_diff _ _ hs32, zb_diff _ _ hs32]
      exact ⟨⟨h1', h2'⟩, fun w => hq (h3.mpr ⟨hd, w⟩)⟩
theorem zi_or0 (x y : Int32) : x ||| y = 0 ↔ (x = 0 ∧ y = 0) := by
  rw [zb_zero, zb_zero, zb_zero]
  constructor
  · intro h
    refine ⟨fun i hi z => h i hi ?_, fun i hi z => h i hi ?_⟩
    · rw [b_or, z]; rfl
    · rw [b_or, z, Bool.or_true]
  · intro h i hi z
    rw [b_or, Bool.or_eq_true] at z
    exact z.elim (h.1 i hi) (h.2 i hi)
/-- what closeLevel leaves if something is lost -/
abbrev zx_CP (N S : Nat) (nx : pg_P → Nat → pg_P) (mv : pg_M) (own : pg_P → Nat) (L Q : Nat) (A T : pg_S) (a_sets a_choice sets ch : Nat → Int32) (F : pg_S) : Prop :=
  pg_AttE nx mv own Q A T F (zc_ch ch) ∧ pg_AttC nx mv own Q A F ∧
  (∀ i, (∀ p, A p → ¬ T p → i ≠ p.1 * 5 + p.2) → ch i = a_choice i) ∧ (∀ i, ∃ k, k < 5 ∧ ch i = nI k) ∧
  zc_ok N S sets (L * 14) ∧ zc_ok N S sets 224 ∧
  (∀ p, zc_R N S sets (L * 14) p ↔ (A p ∧ ¬ F p)) ∧
  (∀ p, pg_D N S p → ((F p → (zc_R N S sets 224 p ↔ Q = 0)) ∧ (¬ F p → (zc_R N S sets 224 p ↔ zc_R N S a_sets 224 p)))) ∧
  (∀ i, (i < 112 + L * 14 ∨ 112 + L * 14 + N ≤ i) → (i < L * 14 ∨ L * 14 + N ≤ i) → (i < 224 ∨ 224 + N ≤ i) → sets i = a_sets i)
theorem zx_close {post : Int32 → SX → Prop} {L d : Nat} (C : zx_C N S a_kinds a_args a_first a_second a_depth) (HM : zx_M N S a_kinds a_mv) (H : pg_St N S (zc_nx a_kinds a_first a_second) (zc_vr a_kinds) (zc_bd a_kinds) (zc_dep a_depth) (zc_anc a_parent) (zc_mv a_mv) (zc_own a_kinds a_args a_atomSet) (zc_bk a_kinds)) (hL : L ≤ 6) (hd : d < 8) (hrk : a_ranks L = nI d) (ok : zc_ok N S a_sets (L * 14)) (ok3 : zc_ok N S a_sets 224) (hch : ∀ i, ∃ k, k < 5 ∧ a_choice i = nI k)
    (h1 : (∀ p, ¬ zx_lost N S a_sets L (1 - d % 2) p) → ∀ sets, (∀ i, (i < 112 + L * 14 ∨ 112 + L * 14 + N ≤ i) → (i < 224 ∨ 224 + N ≤ i) → sets i = a_sets i) → zc_ok N S sets 224 → (∀ p, pg_D N S p → ((zc_R N S a_sets (L * 14) p → (zc_R N S sets 224 p ↔ d % 2 = 0)) ∧ (¬ zc_R N S a_sets (L * 14) p → (zc_R N S sets 224 p ↔ zc_R N S a_sets 224 p)))) → post 1 ((nI S), f_room, (nI N), f_solved, f_playMode, f_pathLen, f_forceBase, f_outRow, f_badRow, f_reachRow, a_linkSet, a_atomSet, a_kinds, a_args, a_parent, a_kids, a_first, a_second, a_depth, a_pins, a_win, a_path, a_mv, a_choice, a_ranks, sets))
    (h0 : (∃ p, zx_lost N S a_sets L (1 - d % 2) p) → ∀ ch sets F, zx_CP N S (zc_nx a_kinds a_first a_second) (zc_mv a_mv) (zc_own a_kinds a_args a_atomSet) L (1 - d % 2) (zc_R N S a_sets (L * 14)) (zx_lost N S a_sets L (1 - d % 2)) a_sets a_choice sets ch F → post 0 ((nI S), f_room, (nI N), f_solved, f_playMode, f_pathLen, f_forceBase, f_outRow, f_badRow, f_reachRow, a_linkSet, a_atomSet, a_kinds, a_args, a_parent, a_kids, a_first, a_second, a_depth, a_pins, a_win, a_path, a_mv, ch, a_ranks, sets)) :
    wpX_closeLevel post ((nI S), f_room, (nI N), f_solved, f_playMode, f_pathLen, f_forceBase, f_outRow, f_badRow, f_reachRow, a_linkSet, a_atomSet, a_kinds, a_args, a_parent, a_kids, a_first, a_second, a_depth, a_pins, a_win, a_path, a_mv, a_choice, a_ranks, a_sets) (nI L) := by
  have hN := C.1.1
  have hS := C.1.2
  have e2 : nI d &&& 1 = nI (d % 2) := pk_andN (by omega) 1 (by decide)
  have e3 : (1 : Int32) - nI (d % 2) = nI (1 - d % 2) := by
    have : d % 2 = 0 ∨ d % 2 = 1 := by omega
    rcases this with w | w <;> rw [w] <;> decide
  refine nm_r (zi_14 L) (nm_r (show (112 : Int32) + nI (L * 14) = nI (112 + L * 14) from nI_add 112 _) ⟨zi_in (by omega) (by omega), ?_⟩)
  rw [zi_c (by omega), hrk]
  refine nm_r e2 (nm_r e3 ⟨N + 1, ?_⟩)
  have main : ∀ e j, j + e = N → ∀ x6 : Int32, (x6 = 0 ↔ ∀ n, n < j → zx_fl a_sets L (1 - d % 2) n = 0) → wX_closeLevel_32 post (nI (L * 14)) (nI (112 + L * 14)) (nI (d % 2)) (nI (1 - d % 2)) (nI S) f_room (nI N) f_solved f_playMode f_pathLen f_forceBase f_outRow f_badRow f_reachRow (e + 1) x6 (nI j) a_linkSet a_atomSet a_kinds a_args a_parent a_kids a_first a_second a_depth a_pins a_win a_path a_mv a_choice a_ranks (zu a_sets (112 + L * 14) j (zx_fl a_sets L (1 - d % 2))) := by
    intro e
    induction e with
    | zero =>
      intro j hj x6 hx6
      have ej : j = N := by omega
      subst ej
      refine br_t (nI_le (Nat.le_refl _) (by omega)) ?_
      obtain ⟨s1, hs1⟩ : ∃ s1, s1 = zu a_sets (112 + L * 14) j (zx_fl a_sets L (1 - d % 2)) := ⟨_, rfl⟩
      rw [← hs1]
      have r0 : ∀ i, i < 112 + L * 14 ∨ 112 + L * 14 + j ≤ i → s1 i = a_sets i := fun i hi => by rw [hs1]; exact zu_out hi
      have r1 : ∀ n, n < j → s1 (112 + L * 14 + n) = zx_fl a_sets L (1 - d % 2) n := fun n hn => by rw [hs1]; exact zu_in hn
      have g0 : ∀ p, zc_R j S s1 (L * 14) p ↔ zc_R j S a_sets (L * 14) p := by
        intro p
        refine and_congr_right (fun hd => ?_)
        show bt (s1 (L * 14 + p.1)) p.2 = true ↔ bt (a_sets (L * 14 + p.1)) p.2 = true
        rw [r0 _ (by have := hd.1; omega)]
      have w0 : ∀ p, zc_R j S s1 224 p ↔ zc_R j S a_sets 224 p := by
        intro p
        refine and_congr_right (fun hd => ?_)
        show bt (s1 (224 + p.1)) p.2 = true ↔ bt (a_sets (224 + p.1)) p.2 = true
        rw [r0 _ (by have := hd.1; omega)]
      have t0 : ∀ p, zc_R j S s1 (112 + L * 14) p ↔ zx_lost j S a_sets L (1 - d % 2) p := by
        rintro ⟨n, s⟩
        constructor
        · rintro ⟨hd, hb⟩
          have hb' : bt (s1 (112 + L * 14 + n)) s = true := hb
          rw [r1 n hd.1, zx_fl_b hS ok hd.1] at hb'
          exact hb'.2
        · intro z
          have hd := z.1.1.1
          refine ⟨hd, ?_⟩
          show bt (s1 (112 + L * 14 + n)) s = true
          rw [r1 n hd.1, zx_fl_b hS ok hd.1]
          exact ⟨hd.2, z⟩
      have s1ok : zc_ok j S s1 224 := fun n b hn hb z => by
        rw [r0 _ (by omega)] at z
        exact ok3 n b hn hb z
      by_cases hz : x6 = 0
      · refine br_t hz ?_
        have nol : ∀ p, ¬ zx_lost j S a_sets L (1 - d % 2) p := by
          rintro ⟨n, s⟩ z
          have hd := z.1.1.1
          have := (zx_fl_b hS ok hd.1).mpr ⟨hd.2, z⟩
          rw [hx6.mp hz n hd.1, b_0] at this
          exact absurd this Bool.false_ne_true
        refine zx_award (row := L * 14) (Q := d % 2) (f := zx_fa s1 (L * 14) (d % 2)) hN (by omega) (by omega) (fun n _ => rfl) ?_
        have oo : ∀ n, n < j → zu s1 224 j (zx_fa s1 (L * 14) (d % 2)) (224 + n) = if d % 2 = 0 then s1 (224 + n) ||| s1 (L * 14 + n) else s1 (224 + n) &&& (s1 (L * 14 + n) ^^^ (-1)) := fun n hn => zu_in hn
        have gok : zc_ok j S s1 (L * 14) := fun n b hn hb z => by
          rw [r0 _ (by omega)] at z
          exact ok n b hn hb z
        refine h1 nol _ (fun i a b => by rw [zu_out b, r0 i a]) (fun n b hn hb z => ?_) (fun p hp => ?_)
        · rw [oo n hn] at z
          split at z
          · rw [b_or, Bool.or_eq_true] at z
            exact z.elim (s1ok n b hn hb) (gok n b hn hb)
          · exact s1ok n b hn hb ((zb_diff _ _ (zb_lt z)).mp z).1
        · have hb : p.2 < 32 := by have := hp.2; omega
          have e : zc_R j S (zu s1 224 j (zx_fa s1 (L * 14) (d % 2))) 224 p ↔ bt (if d % 2 = 0 then s1 (224 + p.1) ||| s1 (L * 14 + p.1) else s1 (224 + p.1) &&& (s1 (L * 14 + p.1) ^^^ (-1))) p.2 = true := by
            rw [← oo p.1 hp.1]
            exact ⟨fun z => z.2, fun z => ⟨hp, z⟩⟩
          rw [← w0 p, ← g0 p]
          by_cases hq : d % 2 = 0
          · rw [if_pos hq, b_or, Bool.or_eq_true] at e
            refine ⟨fun z => ⟨fun _ => hq, fun _ => e.mpr (Or.inr z.2)⟩, fun z => ⟨fun w => ⟨hp, (e.mp w).resolve_right (fun u => z ⟨hp, u⟩)⟩, fun w => e.mpr (Or.inl w.2)⟩⟩
          · rw [if_neg hq, zb_diff _ _ hb] at e
            refine ⟨fun z => ⟨fun w => absurd z.2 (e.mp w).2, fun w => absurd w hq⟩, fun z => ⟨fun w => ⟨hp, (e.mp w).1⟩, fun w => e.mpr ⟨w.2, fun u => z ⟨hp, u⟩⟩⟩⟩
      · refine br_f hz ?_
        have exl : ∃ p, zx_lost j S a_sets L (1 - d % 2) p := by
          refine Classical.byContradiction fun hno => hz (hx6.mpr fun n hn => (zb_zero _).mpr fun i _ hb => hno ⟨(n, i), ((zx_fl_b hS ok hn).mp hb).2⟩)
        have eT : zx_lost j S a_sets L (1 - d % 2) = zc_R j S s1 (112 + L * 14) := funext fun p => propext (t0 p).symm
        have eA : zc_R j S a_sets (L * 14) = zc_R j S s1 (L * 14) := funext fun p => propext (g0 p).symm
        refine zx_attract (row := 112 + L * 14) (game := L * 14) (Q := 1 - d % 2) C HM H (by omega) (by omega) (by omega) (by omega) (fun p z => (g0 p).mpr ((t0 p).mp z).1.1) ?_ hch (fun ch sets I AC => ?_)
        · intro n b hn hb z
          rw [r1 n hn, zx_fl_b hS ok hn] at z
          omega
        · obtain ⟨i1, i2, i3, i4, i5⟩ := I
          have k0 : zc_ok j S sets (L * 14) := fun n b hn hb z => by
            rw [i1 _ (by omega), r0 _ (by omega)] at z
            exact ok n b hn hb z
          have k3 : zc_ok j S sets 224 := fun n b hn hb z => by
            rw [i1 _ (by omega)] at z
            exact s1ok n b hn hb z
          refine zx_award (row := 112 + L * 14) (Q := 1 - d % 2) (f := zx_fa sets (112 + L * 14) (1 - d % 2)) hN (by omega) (by omega) (fun n _ => rfl) ?_
          refine zx_take (game := L * 14) (row := 112 + L * 14) (f := zx_ft sets (L * 14) (112 + L * 14)) hN (by omega) (by omega) (by omega) (fun n hn => ?_) ?_
          · rw [zu_out (by omega), zu_out (by omega)]
          · obtain ⟨q1, q2, q3, q4, q5⟩ := zx_awtk (N := j) (S := S) (a_sets := sets) (row := 112 + L * 14) (game := L * 14) (Q := 1 - d % 2) hS hN (by omega) (by omega) (by omega) k0 i2 k3 rfl
            have gs : ∀ p, zc_R j S sets (L * 14) p ↔ zc_R j S s1 (L * 14) p := fun p => by
              refine and_congr_right (fun hd => ?_)
              show bt (sets (L * 14 + p.1)) p.2 = true ↔ bt (s1 (L * 14 + p.1)) p.2 = true
              rw [i1 _ (by have := hd.1; omega)]
            have os : ∀ p, zc_R j S sets 224 p ↔ zc_R j S a_sets 224 p := fun p => by
              rw [← w0 p]
              refine and_congr_right (fun hd => ?_)
              show bt (sets (224 + p.1)) p.2 = true ↔ bt (s1 (224 + p.1)) p.2 = true
              rw [i1 _ (by have := hd.1; omega)]
            refine h0 exl ch _ (zc_R j S sets (112 + L * 14)) ⟨?_, ?_, fun i hi => ?_, i5, q2, q3, fun p => ?_, fun p hp => ⟨fun z => (q5 p hp).1 z, fun z => ((q5 p hp).2 z).trans (os p)⟩, fun i a b c => ?_⟩
            · rw [eT, eA]; exact i3
            · rw [eA]; exact AC
            · refine i4 i (fun p hp hT => hi p ((g0 p).mp hp) (fun w => hT ((t0 p).mpr w)))
            · rw [q4 p, gs p, g0 p]
            · rw [q1 i b c, i1 i a, r0 i a]
    | succ e ih =>
      intro j hj x6 hx6
      have fin := ih (j + 1) (by omega) (x6 ||| zx_fl a_sets L (1 - d % 2) j) (by
        rw [zi_or0, hx6]
        constructor
        · rintro ⟨a, b⟩ n hn
          rcases Nat.lt_or_ge n j with w | w
          · exact a n w
          · have e : n = j := by omega
            rw [e]; exact b
        · intro a
          exact ⟨fun n hn => a n (by omega), a j (by omega)⟩)
      rw [← zu_s] at fin
      have o1 : zu a_sets (112 + L * 14) j (zx_fl a_sets L (1 - d % 2)) (L * 14 + j) = a_sets (L * 14 + j) := zu_out (by omega)
      have o2 : zu a_sets (112 + L * 14) j (zx_fl a_sets L (1 - d % 2)) (112 + L * 14 + j) = a_sets (112 + L * 14 + j) := zu_out (by omega)
      have o3 : zu a_sets (112 + L * 14) j (zx_fl a_sets L (1 - d % 2)) (224 + j) = a_sets (224 + j) := zu_out (by omega)
      refine br_f (nI_ge (by omega) (by omega)) ?_
      rw [show (224 : Int32) + nI j = nI (224 + j) from nI_add 224 j, nI_add, nI_add, zi_c (by omega), zi_c (by omega), zi_c (by omega), o1, o2, o3]
      refine ⟨zi_in (by omega) (by omega), zi_in (by omega) (by omega), nm_e ⟨zi_in (by omega) (by omega), nm_e ?_⟩⟩
      by_cases hq : 1 - d % 2 = 0
      · refine br_t (by rw [hq]; rfl) ?_
        have ef : zx_fl a_sets L (1 - d % 2) j = (a_sets (L * 14 + j) &&& (a_sets (112 + L * 14 + j) ^^^ (-1))) &&& a_sets (224 + j) := if_pos hq
        rw [ef] at fin
        refine And.intro (by rw [nI_add]; exact zi_in (by omega) (by omega)) ?_
        rw [nI_add, zi_c (by omega)]
        exact nm_e (nm_e (nm_r (nI_1 j) fin))
      · refine br_f (nI_ne0 (by omega) (by omega)) ?_
        have ef : zx_fl a_sets L (1 - d % 2) j = (a_sets (L * 14 + j) &&& (a_sets (112 + L * 14 + j) ^^^ (-1))) &&& (a_sets (224 + j) ^^^ (-1)) := if_neg hq
        rw [ef] at fin
        refine And.intro (by rw [nI_add]; exact zi_in (by omega) (by omega)) ?_
        rw [nI_add, zi_c (by omega)]
        exact nm_e (nm_e (nm_r (nI_1 j) fin))
  have := main N 0 (by omega) 0 ⟨fun _ n hn => absurd hn (by omega), fun _ => rfl⟩
  rw [zu_0] at this
  exact this
end
end
section
/-! ===== the count of the rounds ===== -/
def zt_a (f : Nat → Nat) (a : Nat) : Nat → Nat
  | 0 => a
  | n + 1 => zt_a f a n + 2 + f n
def zt : Nat → Nat → Nat
  | 0 => fun _ => 1
  | k + 1 => zt_a (zt k) 1
theorem zt_s (k n : Nat) : zt (k + 1) (n + 1) = zt (k + 1) n + 2 + zt k n := rfl
def zt_l : Nat → List Nat → List Nat
  | a, [] => [a]
  | a, x :: l => a :: zt_l (a + 2 + x) l
theorem zt_sh (f : Nat → Nat) : ∀ n a, zt_a f a (n + 1) = zt_a (fun i => f (i + 1)) (a + 2 + f 0) n
  | 0, _ => rfl
  | n + 1, a => by
    show zt_a f a (n + 1) + 2 + f (n + 1) = zt_a (fun i => f (i + 1)) (a + 2 + f 0) n + 2 + f (n + 1)
    rw [zt_sh f n a]
theorem zt_tab : ∀ (l : List Nat) (f : Nat → Nat) (a : Nat), (∀ i, i < l.length → l.getD i 0 = f i) → ∀ n, n ≤ l.length → (zt_l a l).getD n 0 = zt_a f a n
  | [], f, a, _, n, hn => by
    have e : n = 0 := Nat.le_zero.mp hn
    subst e; rfl
  | x :: l, f, a, h, 0, _ => rfl
  | x :: l, f, a, h, n + 1, hn => by
    have h0 : x = f 0 := h 0 (Nat.succ_pos _)
    have ih := zt_tab l (fun i => f (i + 1)) (a + 2 + x) (fun i hi => h (i + 1) (Nat.succ_lt_succ hi)) n (Nat.le_of_succ_le_succ hn)
    rw [zt_sh, ← h0]
    exact ih
theorem zt_len : ∀ (l : List Nat) (a : Nat), (zt_l a l).length = l.length + 1
  | [], _ => rfl
  | x :: l, a => congrArg (· + 1) (zt_len l _)
def zt_r : Nat → List Nat
  | 0 => List.replicate 80 1
  | k + 1 => zt_l 1 (zt_r k)
theorem zt_rl : ∀ k, (zt_r k).length = 80 + k
  | 0 => List.length_replicate
  | k + 1 => (zt_len _ _).trans (congrArg (· + 1) (zt_rl k))
theorem zt_rf : ∀ k n, n < 80 → (zt_r k).getD n 0 = zt k n
  | 0, n, hn => by
    show (List.replicate 80 1).getD n 0 = 1
    rw [List.getD_eq_getElem?_getD, List.getElem?_replicate, if_pos hn]; rfl
  | k + 1, n, hn => by
    have hl : (zt_r k).length = 80 + k := zt_rl k
    -- beyond 80 the table is its own function
    have h := zt_tab (zt_r k) (fun i => (zt_r k).getD i 0) 1 (fun _ _ => rfl) n (by omega)
    show (zt_l 1 (zt_r k)).getD n 0 = zt_a (zt k) 1 n
    rw [h]
    have cg : ∀ m, m ≤ n → zt_a (fun i => (zt_r k).getD i 0) 1 m = zt_a (zt k) 1 m := by
      intro m
      induction m with
      | zero => intro _; rfl
      | succ m ih =>
        intro hm
        show zt_a (fun i => (zt_r k).getD i 0) 1 m + 2 + (zt_r k).getD m 0 = zt_a (zt k) 1 m + 2 + zt k m
        rw [ih (by omega), zt_rf k m (by omega)]
    exact cg n (Nat.le_refl _)
theorem zt_val : zt 6 70 = 432579358 := by
  rw [← zt_rf 6 70 (by omega)]
  decide +kernel
theorem zt_pos : ∀ k n, 1 ≤ zt k n
  | 0, _ => Nat.le_refl _
  | k + 1, n => by
    induction n with
    | zero => exact Nat.le_refl _
    | succ n ih => rw [zt_s]; omega
/-! ===== X: decompose ===== -/
theorem zx_idx {N S : Nat} (hS : S ≤ 5) {p q : pg_P} (hp : pg_D N S p) (hq : pg_D N S q) (h : p.1 * 5 + p.2 = q.1 * 5 + q.2) : p = q := by
  have a := hp.2
  have b := hq.2
  exact Prod.ext (by omega) (by omega)
theorem zi_bil : (1000000000 : Int32) = nI 1000000000 := rfl
abbrev zx_LP (N S : Nat) (nx : pg_P → Nat → pg_P) (mv : pg_M) (own : pg_P → Nat) (bk : Nat → Nat → Prop) (L : Nat) (A : pg_S) (sets ch ranks sets' ch' ranks' : Nat → Int32) : Prop :=
  pg_LC N S nx mv own bk A (zc_R N S sets' 224) (zc_ch ch') ∧ (∀ p, pg_D N S p → ¬ A p → (zc_R N S sets' 224 p ↔ zc_R N S sets 224 p)) ∧ zc_ok N S sets' 224 ∧
  (∀ i, (∀ p, A p → i ≠ p.1 * 5 + p.2) → ch' i = ch i) ∧ (∀ i, ∃ k, k < 5 ∧ ch' i = nI k) ∧ (∀ i, i < L → ranks' i = ranks i) ∧
  (∀ i, (i < L * 14 ∨ (112 ≤ i ∧ i < 112 + L * 14)) → sets' i = sets i)
section
variable {N S : Nat}
variable {f_room f_solved f_playMode f_pathLen f_forceBase f_outRow f_badRow f_reachRow : Int32} {a_linkSet a_atomSet a_kinds a_args a_parent a_kids a_first a_second a_depth a_pins a_win a_path a_mv a_choice a_ranks a_sets : Nat → Int32}
theorem zx_rk_mod {K Dp : Nat → Int32} {n : Nat} (hb : zc_bd K n) : ¬ zc_bk K (zc_rk K Dp n % 2) n := by
  unfold zc_rk
  rintro (⟨z, w⟩ | ⟨z, w⟩)
  · rw [if_pos w] at z; omega
  · have : ¬ K n = 7 := by rw [w]; decide
    rw [if_neg this] at z; omega
theorem zx_rk_dep {K Dp : Nat → Int32} {a b : Nat} (h : zc_rk K Dp a ≤ zc_rk K Dp b) : zc_dep Dp a ≤ zc_dep Dp b := by
  unfold zc_rk at h
  unfold zc_dep
  split at h <;> split at h <;> omega
theorem zx_R_congr {a b : Nat → Int32} {r : Nat} (h : ∀ n, n < N → a (r + n) = b (r + n)) : zc_R N S a r = zc_R N S b r :=
  funext fun p => propext (and_congr_right fun hd => by
    show bt (a (r + p.1)) p.2 = true ↔ bt (b (r + p.1)) p.2 = true
    rw [h p.1 hd.1])
theorem zx_level {post : SX → Prop} (C : zx_C N S a_kinds a_args a_first a_second a_depth) (HM : zx_M N S a_kinds a_mv) (H : pg_St N S (zc_nx a_kinds a_first a_second) (zc_vr a_kinds) (zc_bd a_kinds) (zc_dep a_depth) (zc_anc a_parent) (zc_mv a_mv) (zc_own a_kinds a_args a_atomSet) (zc_bk a_kinds)) :
    ∀ (n k L : Nat) (sets ch ranks : Nat → Int32) (f c : Nat), f + c = 1000000000 → c + zt k n < 1000000000 → L + k ≤ 6 → pg_sz (zc_R N S sets (L * 14)) ≤ n →
      (∀ p, zc_R N S sets (L * 14) p → (zc_bd a_kinds) p.1 → 6 ≤ zc_rk a_kinds a_depth p.1 + k) → pg_Sub (zc_nx a_kinds a_first a_second) (zc_mv a_mv) (zc_R N S sets (L * 14)) → zc_ok N S sets (L * 14) → zc_ok N S sets 224 → (∀ i, ∃ k, k < 5 ∧ ch i = nI k) →
      (∀ (f' c' : Nat) (sets' ch' ranks' : Nat → Int32), f' + c' = 1000000000 → c' ≤ c + zt k n → zx_LP N S (zc_nx a_kinds a_first a_second) (zc_mv a_mv) (zc_own a_kinds a_args a_atomSet) (zc_bk a_kinds) L (zc_R N S sets (L * 14)) sets ch ranks sets' ch' ranks' → wX_decompose_60 post (f' + 1) (nI L - 1) 0 (nI c') (nI S) f_room (nI N) f_solved f_playMode f_pathLen f_forceBase f_outRow f_badRow f_reachRow a_linkSet a_atomSet a_kinds a_args a_parent a_kids a_first a_second a_depth a_pins a_win a_path a_mv ch' ranks' sets') →
      wX_decompose_60 post (f + 1) (nI L) 1 (nI c) (nI S) f_room (nI N) f_solved f_playMode f_pathLen f_forceBase f_outRow f_badRow f_reachRow a_linkSet a_atomSet a_kinds a_args a_parent a_kids a_first a_second a_depth a_pins a_win a_path a_mv ch ranks sets := by
  have hN := C.1.1
  have hS := C.1.2
  have H' := H
  obtain ⟨s1, s2, s3, s4, s5, s6, s7, s8, s9, s10, s11⟩ := H'
  intro n
  induction n with
  | zero =>
    intro k L sets ch ranks f c hf hc hL hsz hrk hsub ok ok3 hch K
    have hemp : ∀ p, ¬ zc_R N S sets (L * 14) p := by
      intro p hp
      have := pg_sz_lt (A := fun _ => False) (B := zc_R N S sets (L * 14)) (p := p) (fun _ z => absurd z id) hp id (by have := hp.1.1; omega) (by have := hp.1.2; omega)
      omega
    have hz := zt_pos k 0
    refine br_f (by rw [zi_bil]; exact nI_ge (by omega) (by omega)) (br_f (nI_pos (by omega)) (br_f (by decide) ?_))
    refine zx_open C HM H (by omega) ok hch (fun _ => ?_) (fun d _ ⟨p, hp, _⟩ => absurd hp (hemp p))
    obtain ⟨f1, rfl⟩ : ∃ f1, f = f1 + 1 := ⟨f - 1, by omega⟩
    refine br_t rfl (nm_r (zi_dm L) (nm_r (nI_1 c) (K f1 (c + 1) sets ch ranks (by omega) (by omega) ⟨pg_LC_emp hemp, fun _ _ _ => Iff.rfl, ok3, fun _ _ => rfl, hch, fun _ _ => rfl, fun _ _ => rfl⟩)))
  | succ n ih =>
    intro k L sets ch ranks f c hf hc hL hsz hrk hsub ok ok3 hch K
    have hz := zt_pos k (n + 1)
    refine br_f (by rw [zi_bil]; exact nI_ge (by omega) (by omega)) (br_f (nI_pos (by omega)) (br_f (by decide) ?_))
    obtain ⟨f1, rfl⟩ : ∃ f1, f = f1 + 1 := ⟨f - 1, by omega⟩
    refine zx_open C HM H (by omega) ok hch (fun hno => ?_) (fun d hd hex hmin ch1 sets1 OP => ?_)
    · have hemp : ∀ p, ¬ zc_R N S sets (L * 14) p := by
        intro p hp
        obtain ⟨q, hq, hb⟩ := pg_bex H (A := zc_R N S sets (L * 14)) (fun p z => z.1) hsub (N - p.1 + 1) p hp (by omega)
        exact hno q hq hb
      refine br_t rfl (nm_r (zi_dm L) (nm_r (nI_1 c) (K f1 (c + 1) sets ch ranks (by omega) (by omega) ⟨pg_LC_emp hemp, fun _ _ _ => Iff.rfl, ok3, fun _ _ => rfl, hch, fun _ _ => rfl, fun _ _ => rfl⟩)))
    · obtain ⟨o1, o2, o3, o4, o5, o6, o7, o8⟩ := OP
      obtain ⟨t0, ht0, ht0b, ht0d⟩ := hex
      have hk6 : d ≤ 5 := by
        have := s6 t0.1 ht0.1.1 ht0b
        unfold zc_rk at ht0d
        unfold zc_dep at this
        split at ht0d <;> omega
      have hk1 := hrk t0 ht0 ht0b
      obtain ⟨k', rfl⟩ : ∃ k', k = k' + 1 := ⟨k - 1, by omega⟩
      rw [zt_s] at hc K
      -- names
      obtain ⟨A, hA⟩ : ∃ A, A = zc_R N S sets (L * 14) := ⟨_, rfl⟩
      rw [← hA] at hsz hrk hsub hmin o1 o2 o3 o7 K ht0
      have hAD : ∀ p, A p → pg_D N S p := fun p hp => by rw [hA] at hp; exact hp.1
      obtain ⟨F, hF⟩ : ∃ F, F = zc_R N S sets1 (112 + L * 14) := ⟨_, rfl⟩
      rw [← hF] at o1 o2 o7
      have fTF : ∀ p, (A p ∧ (zc_bd a_kinds) p.1 ∧ zc_rk a_kinds a_depth p.1 = d) → F p := by
        obtain ⟨ρ, K', ⟨g1, _⟩, _⟩ := o1
        exact g1
      have fFA : ∀ p, F p → A p := by
        obtain ⟨ρ, K', ⟨_, g2, _⟩, _⟩ := o1
        exact g2
      have eA1 : zc_R N S sets1 ((L + 1) * 14) = fun p => A p ∧ ¬ F p := funext fun p => propext (o7 p)
      have hsz1 : pg_sz (zc_R N S sets1 ((L + 1) * 14)) ≤ n := by
        rw [eA1]
        have hF0 : F t0 := fTF t0 ⟨ht0, ht0b, ht0d⟩
        have := pg_sz_lt (A := fun p => A p ∧ ¬ F p) (B := A) (p := t0) (fun _ z => z.1) ht0 (fun z => z.2 hF0) (by have := (hAD t0 ht0).1; omega) (by have := (hAD t0 ht0).2; omega)
        omega
      have hsub1 : pg_Sub (zc_nx a_kinds a_first a_second) (zc_mv a_mv) (zc_R N S sets1 ((L + 1) * 14)) := by
        rw [eA1]
        intro p hp
        obtain ⟨m, a, b, cc⟩ := pg_sub_pt o2 hp.1 hp.2 (hsub p hp.1)
        exact ⟨m, a, b, cc⟩
      have ok31 : zc_ok N S sets1 224 := fun a b ha hb z => by
        rw [o8 _ (by omega) (by omega)] at z
        exact ok3 a b ha hb z
      refine br_f (by decide) (nm_r (nI_1 L) (nm_r (nI_1 c) ?_))
      obtain ⟨f2, rfl⟩ : ∃ f2, f1 = f2 + 1 := ⟨f1 - 1, by omega⟩
      refine ih k' (L + 1) sets1 ch1 (upd ranks L (nI d)) (f2 + 1) (c + 1) (by omega) (by omega) (by omega) hsz1 ?_ hsub1 o6 ok31 o4 (fun f3 c3 sets2 ch2 ranks2 hf3 hc3 LP => ?_)
      · intro p hp hb
        rw [eA1] at hp
        have h1 := hmin p hp.1 hb
        have h2 : zc_rk a_kinds a_depth p.1 ≠ d := fun e => hp.2 (fTF p ⟨hp.1, hb, e⟩)
        omega
      rw [nI_pred]
      rw [eA1] at LP
      obtain ⟨l1, l2, l3, l4, l5, l6, l7⟩ := LP
      have gA : zc_R N S sets2 (L * 14) = A := by
        rw [hA]
        exact zx_R_congr (fun a ha => by rw [l7 _ (by omega), o8 _ (by omega) (by omega)])
      have gF : zc_R N S sets2 (112 + L * 14) = F := by
        rw [hF]
        exact zx_R_congr (fun a ha => by rw [l7 _ (by omega)])
      have ok2 : zc_ok N S sets2 (L * 14) := fun a b ha hb z => by
        rw [l7 _ (by omega), o8 _ (by omega) (by omega)] at z
        exact ok a b ha hb z
      have hrk2 : ranks2 L = nI d := by rw [l6 L (by omega), pk_us]
      have chF : ∀ p, F p → zc_ch ch2 p = zc_ch ch1 p := by
        intro p hp
        unfold zc_ch
        rw [l4]
        intro q hq e
        have := zx_idx hS (hAD p (fFA p hp)) (hAD q hq.1) e
        rw [← this] at hq
        exact hq.2 hp
      have o1' : pg_AttE (zc_nx a_kinds a_first a_second) (zc_mv a_mv) (zc_own a_kinds a_args a_atomSet) (d % 2) A (fun p => A p ∧ (zc_bd a_kinds) p.1 ∧ zc_rk a_kinds a_depth p.1 = d) F (zc_ch ch2) := pg_attE_congr (fun p z _ => chF p z) (by rw [hA] at o1 ⊢; exact o1)
      obtain ⟨f4, rfl⟩ : ∃ f4, f3 = f4 + 1 := ⟨f3 - 1, by omega⟩
      refine br_f (by rw [zi_bil]; exact nI_ge (by omega) (by omega)) (br_f (nI_pos (by omega)) (br_t rfl ?_))
      refine zx_close (L := L) (d := d) C HM H (by omega) hd hrk2 ok2 l3 l5 (fun hno sets3 e1 e2 e3 => ?_) (fun hex2 ch3 sets3 F2 CP => ?_)
      · -- nothing is lost
        rw [gA] at e3
        refine br_f (by decide) (nm_r (zi_dm L) (nm_r (nI_1 c3) (K f4 (c3 + 1) sets3 ch2 ranks2 (by omega) (by omega) ⟨?_, fun p hp hnA => ?_, e2, fun i hi => ?_, l5, fun i hi => ?_, fun i hi => ?_⟩)))
        · refine pg_LC_all H (P := d % 2) (by omega) (T := fun p => A p ∧ (zc_bd a_kinds) p.1 ∧ zc_rk a_kinds a_depth p.1 = d) (F := F) (W' := zc_R N S sets2 224) hAD (fun t ht => ⟨ht.2.1, ?_⟩) (fun v t hv ht hb => ?_) o1' l1 (fun p hp hnF => ?_) (fun p hp => (e3 p (hAD p hp)).1 hp)
          · have := zx_rk_mod (Dp := a_depth) ht.2.1
            rw [ht.2.2] at this
            exact this
          · refine zx_rk_dep (K := a_kinds) ?_
            rw [ht.2.2]
            exact hmin v hv hb
          · have hnl := hno p
            unfold zx_lost at hnl
            rw [gA, gF] at hnl
            have : ¬ (1 - d % 2 = 0 ↔ zc_R N S sets2 224 p) := fun z => hnl ⟨⟨hp, hnF⟩, z⟩
            refine Classical.byContradiction fun w => this ((pg_flip (P := d % 2) (by omega) _).mp w)
        · rw [(e3 p hp).2 hnA, l2 p hp (fun z => hnA z.1)]
          exact and_congr_right fun hd => by
            show bt (sets1 (224 + p.1)) p.2 = true ↔ bt (sets (224 + p.1)) p.2 = true
            rw [o8 _ (by have := hd.1; omega) (by have := hd.1; omega)]
        · rw [l4 i (fun p hp => hi p hp.1), o3 i hi]
        · rw [l6 i (by omega), pk_un (by omega)]
        · rw [e1 i (by omega) (by omega), l7 i (by omega), o8 i (by omega) (by omega)]
      · -- something is lost
        unfold zx_CP at CP
        rw [gA] at CP
        have eT : zx_lost N S sets2 L (1 - d % 2) = fun p => (A p ∧ ¬ F p) ∧ (1 - d % 2 = 0 ↔ zc_R N S sets2 224 p) := by
          funext p
          unfold zx_lost
          rw [gA, gF]
        rw [eT] at CP hex2
        obtain ⟨p1, p2, p3, p4, p5, p6, p7, p8, p9⟩ := CP
        obtain ⟨l0, hl0⟩ := hex2
        have tF2 : ∀ p, ((A p ∧ ¬ F p) ∧ (1 - d % 2 = 0 ↔ zc_R N S sets2 224 p)) → F2 p := by
          obtain ⟨ρ, K', ⟨g1, _⟩, _⟩ := p1
          exact g1
        have fF2A : ∀ p, F2 p → A p := by
          obtain ⟨ρ, K', ⟨_, g2, _⟩, _⟩ := p1
          exact g2
        have eA3 : zc_R N S sets3 (L * 14) = fun p => A p ∧ ¬ F2 p := funext fun p => propext (p7 p)
        have hsz3 : pg_sz (zc_R N S sets3 (L * 14)) ≤ n := by
          rw [eA3]
          have := pg_sz_lt (A := fun p => A p ∧ ¬ F2 p) (B := A) (p := l0) (fun _ z => z.1) hl0.1.1 (fun z => z.2 (tF2 l0 hl0)) (by have := (hAD l0 hl0.1.1).1; omega) (by have := (hAD l0 hl0.1.1).2; omega)
          omega
        have hsub3 : pg_Sub (zc_nx a_kinds a_first a_second) (zc_mv a_mv) (zc_R N S sets3 (L * 14)) := by
          rw [eA3]
          intro p hp
          obtain ⟨m, a, b, cc⟩ := pg_sub_pt p2 hp.1 hp.2 (hsub p hp.1)
          exact ⟨m, a, b, cc⟩
        refine br_t rfl (nm_r (nI_1 c3) ?_)
        refine ih (k' + 1) L sets3 ch3 ranks2 f4 (c3 + 1) (by omega) (by omega) (by omega) hsz3 (fun p hp hb => ?_) hsub3 p5 p6 p4 (fun f5 c5 sets4 ch4 ranks4 hf5 hc5 LP => ?_)
        · rw [eA3] at hp
          exact hrk p hp.1 hb
        rw [eA3] at LP
        obtain ⟨m1, m2, m3, m4, m5, m6, m7⟩ := LP
        have chF2 : ∀ p, F2 p → zc_ch ch4 p = zc_ch ch3 p := by
          intro p hp
          unfold zc_ch
          rw [m4]
          intro q hq e
          have := zx_idx hS (hAD p (fF2A p hp)) (hAD q hq.1) e
          rw [← this] at hq
          exact hq.2 hp
        have chL : ∀ p, ((A p ∧ ¬ F p) ∧ (1 - d % 2 = 0 ↔ zc_R N S sets2 224 p)) → zc_ch ch3 p = zc_ch ch2 p := by
          intro p hp
          unfold zc_ch
          rw [p3]
          intro q hq hqT e
          have := zx_idx hS (hAD p hp.1.1) (hAD q hq) e
          rw [← this] at hqT
          exact hqT hp
        refine K f5 c5 sets4 ch4 ranks4 hf5 (by omega) ⟨?_, fun p hp hnA => ?_, m3, fun i hi => ?_, m5, fun i hi => ?_, fun i hi => ?_⟩
        · refine pg_LC_comb H (Q := 1 - d % 2) (by omega) (T := fun p => (A p ∧ ¬ F p) ∧ (1 - d % 2 = 0 ↔ zc_R N S sets2 224 p)) (F := F2) (W'' := zc_R N S sets4 224) hAD ?_ (pg_attE_congr (fun p z _ => chF2 p z) p1) p2 m1 (fun p hp => ?_) (fun _ _ _ => Iff.rfl)
          · refine pg_Cert_congr (fun p hp => (chF2 p (tF2 p hp)).trans (chL p hp)) (pg_LC_base H (P := d % 2) (by omega) hAD o2 l1)
          · exact (m2 p (hAD p (fF2A p hp)) (fun z => z.2 hp)).trans ((p8 p (hAD p (fF2A p hp))).1 hp)
        · rw [m2 p hp (fun z => hnA z.1), (p8 p hp).2 (fun z => hnA (fF2A p z)), l2 p hp (fun z => hnA z.1)]
          exact and_congr_right fun hd => by
            show bt (sets1 (224 + p.1)) p.2 = true ↔ bt (sets (224 + p.1)) p.2 = true
            rw [o8 _ (by have := hd.1; omega) (by have := hd.1; omega)]
        · rw [m4 i (fun p hp => hi p hp.1), p3 i (fun p hp _ => hi p hp), l4 i (fun p hp => hi p hp.1), o3 i hi]
        · rw [m6 i hi, l6 i (by omega), pk_un (by omega)]
        · rw [m7 i hi, p9 i (by omega) (by omega) (by omega), l7 i (by omega), o8 i (by omega) (by omega)]
end
end
section
/-! ===== X: decompose, whole ===== -/
theorem zu_upd {a : Nat → Int32} {b j i : Nat} {f : Nat → Int32} {v : Int32} (h : i < b ∨ b + j ≤ i) : zu (upd a i v) b j f = upd (zu a b j f) i v := by
  funext x
  unfold zu upd
  by_cases hx : x = i
  · rw [if_pos hx, if_neg (by omega), if_pos hx]
  · rw [if_neg hx, if_neg hx]
section
variable {N S : Nat}
variable {f_room f_solved f_playMode f_pathLen f_forceBase f_outRow f_badRow f_reachRow : Int32} {a_linkSet a_atomSet a_kinds a_args a_parent a_kids a_first a_second a_depth a_pins a_win a_path a_mv a_choice a_ranks a_sets : Nat → Int32}
theorem zx_dec_end {post : SX → Prop} (C : zx_C N S a_kinds a_args a_first a_second a_depth) (HM : zx_M N S a_kinds a_mv) (H : pg_St N S (zc_nx a_kinds a_first a_second) (zc_vr a_kinds) (zc_bd a_kinds) (zc_dep a_depth) (zc_anc a_parent) (zc_mv a_mv) (zc_own a_kinds a_args a_atomSet) (zc_bk a_kinds)) (hch : ∀ i, ∃ k, k < 5 ∧ a_choice i = nI k)
    (g0 : ∀ p, zc_R N S a_sets 0 p ↔ pg_D N S p) (ok0 : zc_ok N S a_sets 0) (ok3 : zc_ok N S a_sets 224)
    (K : ∀ ch ranks sets, pg_FC N S (zc_nx a_kinds a_first a_second) (zc_mv a_mv) (zc_own a_kinds a_args a_atomSet) (zc_bk a_kinds) (zc_R N S sets 224) (zc_ch ch) → zc_ok N S sets 224 → (∀ i, ∃ k, k < 5 ∧ ch i = nI k) → post ((nI S), f_room, (nI N), f_solved, f_playMode, f_pathLen, f_forceBase, f_outRow, f_badRow, f_reachRow, a_linkSet, a_atomSet, a_kinds, a_args, a_parent, a_kids, a_first, a_second, a_depth, a_pins, a_win, a_path, a_mv, ch, ranks, sets)) :
    wpX_strip (fun u => wpX_strip (fun u => match u with | (f_size, f_room, f_count, f_solved, f_playMode, f_pathLen, f_forceBase, f_outRow, f_badRow, f_reachRow, a_linkSet, a_atomSet, a_kinds, a_args, a_parent, a_kids, a_first, a_second, a_depth, a_pins, a_win, a_path, a_mv, a_choice, a_ranks, a_sets) => (∃ n60 : Nat, wX_decompose_60 post n60 0 1 0 f_size f_room f_count f_solved f_playMode f_pathLen f_forceBase f_outRow f_badRow f_reachRow a_linkSet a_atomSet a_kinds a_args a_parent a_kids a_first a_second a_depth a_pins a_win a_path a_mv a_choice a_ranks a_sets)) u 0) ((nI S), f_room, (nI N), f_solved, f_playMode, f_pathLen, f_forceBase, f_outRow, f_badRow, f_reachRow, a_linkSet, a_atomSet, a_kinds, a_args, a_parent, a_kids, a_first, a_second, a_depth, a_pins, a_win, a_path, a_mv, a_choice, a_ranks, a_sets) 1 := by
  have hN := C.1.1
  have hS := C.1.2
  have H' := H
  obtain ⟨h1, h2, h3, h4, h5, h6, h7, h8, h9, h10, h11⟩ := H'
  have eA : zc_R N S a_sets 0 = pg_D N S := funext fun p => propext (g0 p)
  refine zx_strip (P := 1) C HM H (by omega) ok0 ok3 hch (fun ch1 sets1 F1 SP1 => ?_)
  rw [eA] at SP1
  obtain ⟨a1, a2, a3, a4, a5, a6, a7, a8⟩ := SP1
  refine zx_strip (P := 0) C HM H (by omega) a5 a6 a4 (fun ch2 sets2 F0 SP0 => ?_)
  have eA1 : zc_R N S sets1 0 = fun p => pg_D N S p ∧ ¬ F1 p := funext fun p => propext (a7 p)
  rw [eA1] at SP0
  obtain ⟨b1, b2, b3, b4, b5, b6, b7, b8⟩ := SP0
  have eA2 : zc_R N S sets2 0 = fun p => (pg_D N S p ∧ ¬ F1 p) ∧ ¬ F0 p := funext fun p => propext (b7 p)
  have t1 : ∀ p, (pg_D N S p ∧ (zc_own a_kinds a_args a_atomSet) p = 1 - 1 ∧ ∀ m, ¬ (zc_mv a_mv) p m) → F1 p := by
    obtain ⟨ρ, K', ⟨g1, _⟩, _⟩ := a1
    exact g1
  have f1D : ∀ p, F1 p → pg_D N S p := by
    obtain ⟨ρ, K', ⟨_, g2, _⟩, _⟩ := a1
    exact g2
  have t0 : ∀ p, ((pg_D N S p ∧ ¬ F1 p) ∧ (zc_own a_kinds a_args a_atomSet) p = 1 - 0 ∧ ∀ m, ¬ (zc_mv a_mv) p m) → F0 p := by
    obtain ⟨ρ, K', ⟨g1, _⟩, _⟩ := b1
    exact g1
  have f0D : ∀ p, F0 p → pg_D N S p ∧ ¬ F1 p := by
    obtain ⟨ρ, K', ⟨_, g2, _⟩, _⟩ := b1
    exact g2
  have hs : pg_Sub (zc_nx a_kinds a_first a_second) (zc_mv a_mv) (zc_R N S sets2 0) := by
    rw [eA2]
    intro p z
    have mvp : ∃ m, (zc_mv a_mv) p m := by
      refine Classical.byContradiction fun w => ?_
      have w' : ∀ m, ¬ (zc_mv a_mv) p m := fun m hm => w ⟨m, hm⟩
      have ho := h11 p z.1.1
      have o3 : (zc_own a_kinds a_args a_atomSet) p = 0 ∨ (zc_own a_kinds a_args a_atomSet) p = 1 ∨ (zc_own a_kinds a_args a_atomSet) p = 2 := by omega
      rcases o3 with o | o | o
      · exact z.1.2 (t1 p ⟨z.1.1, o, w'⟩)
      · exact z.2 (t0 p ⟨z.1, o, w'⟩)
      · exact w' 0 ((h7 p z.1.1 o 0).mpr rfl)
    obtain ⟨m, hm⟩ := mvp
    obtain ⟨m1, q1, q2, q3⟩ := pg_sub_pt a2 z.1.1 z.1.2 ⟨m, hm, h1 p m z.1.1 hm⟩
    obtain ⟨m2, r1, r2, r3⟩ := pg_sub_pt b2 z.1 z.2 ⟨m1, q1, q2, q3⟩
    exact ⟨m2, r1, r2, r3⟩
  obtain ⟨f, hf⟩ : ∃ f : Nat, f = 1000000000 := ⟨_, rfl⟩
  refine ⟨f + 1, ?_⟩
  have hzt := zt_val
  refine zx_level C HM H 70 6 0 sets2 ch2 a_ranks f 0 (by omega) (by omega) (by omega) (pg_sz_le _) (fun p _ _ => by omega) (by rw [Nat.zero_mul]; exact hs) (by rw [Nat.zero_mul]; exact b5) b6 b4 (fun f' c' sets3 ch3 ranks3 hf' hc' LP => ?_)
  rw [Nat.zero_mul, eA2] at LP
  obtain ⟨l1, l2, l3, l4, l5, l6, l7⟩ := LP
  have c1 : ∀ p, F1 p → zc_ch ch3 p = zc_ch ch1 p := by
    intro p hp
    unfold zc_ch
    rw [l4, b3]
    · intro q hq e
      have := zx_idx hS (f1D p hp) hq.1 e
      rw [← this] at hq
      exact hq.2 hp
    · intro q hq e
      have := zx_idx hS (f1D p hp) hq.1.1 e
      rw [← this] at hq
      exact hq.1.2 hp
  have c0 : ∀ p, F0 p → zc_ch ch3 p = zc_ch ch2 p := by
    intro p hp
    unfold zc_ch
    rw [l4]
    intro q hq e
    have := zx_idx hS (f0D p hp).1 hq.1.1 e
    rw [← this] at hq
    exact hq.2 hp
  have L0 : pg_LC N S (zc_nx a_kinds a_first a_second) (zc_mv a_mv) (zc_own a_kinds a_args a_atomSet) (zc_bk a_kinds) (fun p => pg_D N S p ∧ ¬ F1 p) (zc_R N S sets3 224) (zc_ch ch3) :=
    pg_LC_comb H (Q := 0) (by omega) (T := fun p => (pg_D N S p ∧ ¬ F1 p) ∧ (zc_own a_kinds a_args a_atomSet) p = 1 - 0 ∧ ∀ m, ¬ (zc_mv a_mv) p m) (F := F0) (W'' := zc_R N S sets3 224) (fun _ z => z.1) (pg_dead (fun _ z => z.1) (fun p z => ⟨z.1, by have := z.2.1; omega, z.2.2⟩))
      (pg_attE_congr (fun p z _ => c0 p z) b1) b2 l1 (fun p z => (l2 p (f0D p z).1 (fun w => w.2 z)).trans ((b8 p (f0D p z).1).1 z)) (fun _ _ _ => Iff.rfl)
  have L1 : pg_LC N S (zc_nx a_kinds a_first a_second) (zc_mv a_mv) (zc_own a_kinds a_args a_atomSet) (zc_bk a_kinds) (pg_D N S) (zc_R N S sets3 224) (zc_ch ch3) :=
    pg_LC_comb H (Q := 1) (by omega) (T := fun p => pg_D N S p ∧ (zc_own a_kinds a_args a_atomSet) p = 1 - 1 ∧ ∀ m, ¬ (zc_mv a_mv) p m) (F := F1) (W'' := zc_R N S sets3 224) (fun _ z => z) (pg_dead (fun _ z => z) (fun p z => ⟨z.1, by have := z.2.1; omega, z.2.2⟩))
      (pg_attE_congr (fun p z _ => c1 p z) a1) a2 L0 (fun p z => ((l2 p (f1D p z) (fun w => w.1.2 z)).trans ((b8 p (f1D p z)).2 (fun w => (f0D p w).2 z))).trans ((a8 p (f1D p z)).1 z)) (fun _ _ _ => Iff.rfl)
  have fin := K ch3 ranks3 sets3 (pg_FC_of H L1) l3 l5
  exact br_c (fun _ => fin) (fun _ => br_t (by decide) fin)
theorem zx_decompose {post : SX → Prop} (C : zx_C N S a_kinds a_args a_first a_second a_depth) (HM : zx_M N S a_kinds a_mv) (H : pg_St N S (zc_nx a_kinds a_first a_second) (zc_vr a_kinds) (zc_bd a_kinds) (zc_dep a_depth) (zc_anc a_parent) (zc_mv a_mv) (zc_own a_kinds a_args a_atomSet) (zc_bk a_kinds)) (hch : ∀ i, ∃ k, k < 5 ∧ a_choice i = nI k)
    (K : ∀ ch ranks sets, pg_FC N S (zc_nx a_kinds a_first a_second) (zc_mv a_mv) (zc_own a_kinds a_args a_atomSet) (zc_bk a_kinds) (zc_R N S sets 224) (zc_ch ch) → zc_ok N S sets 224 → (∀ i, ∃ k, k < 5 ∧ ch i = nI k) → post ((nI S), f_room, (nI N), f_solved, f_playMode, f_pathLen, f_forceBase, f_outRow, f_badRow, f_reachRow, a_linkSet, a_atomSet, a_kinds, a_args, a_parent, a_kids, a_first, a_second, a_depth, a_pins, a_win, a_path, a_mv, ch, ranks, sets)) :
    wpX_decompose post ((nI S), f_room, (nI N), f_solved, f_playMode, f_pathLen, f_forceBase, f_outRow, f_badRow, f_reachRow, a_linkSet, a_atomSet, a_kinds, a_args, a_parent, a_kids, a_first, a_second, a_depth, a_pins, a_win, a_path, a_mv, a_choice, a_ranks, a_sets) := by
  have hN := C.1.1
  have hS := C.1.2
  refine nm_e ⟨N + 1, ?_⟩
  have main : ∀ d j, j + d = N → wX_decompose_11 post (((1 : Int32) <<< (nI S &&& 31)) - 1) (nI S) f_room (nI N) f_solved f_playMode f_pathLen f_forceBase f_outRow f_badRow f_reachRow (d + 1) (nI j) a_linkSet a_atomSet a_kinds a_args a_parent a_kids a_first a_second a_depth a_pins a_win a_path a_mv a_choice a_ranks (zu (zu a_sets 0 j (fun _ => ((1 : Int32) <<< (nI S &&& 31)) - 1)) 224 j (fun _ => 0)) := by
    intro d
    induction d with
    | zero =>
      intro j hj
      have e : j = N := by omega
      subst e
      refine br_t (nI_le (Nat.le_refl _) (by omega)) ?_
      have r0 : ∀ n, n < j → zu (zu a_sets 0 j (fun _ => ((1 : Int32) <<< (nI S &&& 31)) - 1)) 224 j (fun _ => 0) (0 + n) = ((1 : Int32) <<< (nI S &&& 31)) - 1 := fun n hn => by
        rw [zu_out (by omega)]; exact zu_in hn
      have r3 : ∀ n, n < j → zu (zu a_sets 0 j (fun _ => ((1 : Int32) <<< (nI S &&& 31)) - 1)) 224 j (fun _ => 0) (224 + n) = 0 := fun n hn => zu_in hn
      refine zx_dec_end C HM H hch (fun p => ?_) (fun n b hn hb z => ?_) (fun n b hn hb z => ?_) K
      · refine ⟨fun z => z.1, fun z => ⟨z, ?_⟩⟩
        unfold zc_set
        rw [r0 p.1 z.1, zb_full S (by omega) p.2 (by have := z.2; omega)]
        exact decide_eq_true z.2
      · rw [r0 n hn, zb_full S (by omega) b (zb_lt z)] at z
        have := of_decide_eq_true z
        omega
      · rw [r3 n hn, b_0] at z
        exact absurd z Bool.false_ne_true
    | succ d ih =>
      intro j hj
      refine br_f (nI_ge (by omega) (by omega)) ?_
      have fin := ih (j + 1) (by omega)
      rw [← zu_s _ 224, ← zu_s _ 0, zu_upd (by omega), Nat.zero_add] at fin
      rw [show (224 : Int32) + nI j = nI (224 + j) from nI_add 224 j, zi_c (by omega), zi_c (by omega)]
      exact ⟨zi_in (by omega) (by omega), nm_e ⟨zi_in (by omega) (by omega), nm_e (nm_r (nI_1 j) fin)⟩⟩
  have := main N 0 (by omega)
  rw [zu_0, zu_0] at this
  exact this
end
end
section
/-! ===== X: growBack, onCycle, markLosing ===== -/
theorem zx_head {α : Type} {r : α → α → Prop} {a c : α} (h : Relation.TransGen r a c) : ∃ b, r a b ∧ (b = c ∨ Relation.TransGen r b c) := by
  induction h with
  | single e => exact ⟨_, e, Or.inl rfl⟩
  | tail _ e ih =>
    obtain ⟨b, hb, h⟩ := ih
    refine ⟨b, hb, Or.inr ?_⟩
    rcases h with h | h
    · rw [h]; exact .single e
    · exact .tail h e
theorem zx_back {α : Type} {r : α → α → Prop} {F : α → Prop} (f : ∀ a b, r a b → F b → F a) {a c : α} (h : Relation.TransGen r a c) : F c → F a := by
  induction h with
  | single e => exact f _ _ e
  | tail _ e ih => exact fun z => ih (f _ _ e z)
/-- what growBack has found, what it has looked at -/
abbrev zx_GI (N S : Nat) (nx : pg_P → Nat → pg_P) (mv : pg_M) (row low : Nat) (sets0 sets : Nat → Int32) : Prop :=
  (∀ i, (i < row ∨ row + N ≤ i) → sets i = sets0 i) ∧ zc_ok N S sets row ∧ (∀ p, zc_R N S sets0 row p → zc_R N S sets row p) ∧
  (∀ p, zc_R N S sets row p → low ≤ p.1 ∧ ∃ t, zc_R N S sets0 row t ∧ (t = p ∨ Relation.TransGen (pg_ge low (pg_E0 N S nx mv)) p t))
abbrev zx_GG (N S : Nat) (nx : pg_P → Nat → pg_P) (mv : pg_M) (low : Nat) (F Pr : pg_S) (c0 : Nat) (g : Int32) : Prop :=
  (g = 0 ∧ c0 ≤ pg_sz F ∧ ∀ p, pg_D N S p → low ≤ p.1 → Pr p → ¬ F p → ∀ m, mv p m → ¬ F (nx p m)) ∨ (g = 1 ∧ c0 < pg_sz F)
section
variable {N S : Nat}
variable {f_room f_solved f_playMode f_pathLen f_forceBase f_outRow f_badRow f_reachRow : Int32} {a_linkSet a_atomSet a_kinds a_args a_parent a_kids a_first a_second a_depth a_pins a_win a_path a_mv a_choice a_ranks a_sets : Nat → Int32}
variable {sets0 : Nat → Int32} {row low : Nat}
theorem zx_gb_add {sets : Nat → Int32} {n s c0 m : Nat} (C : zx_C N S a_kinds a_args a_first a_second a_depth) (hn : n < N) (hs : s < S) (hl : low ≤ n) (hF : ¬ zc_R N S sets row (n, s)) (I : zx_GI N S (zc_nx a_kinds a_first a_second) (zc_mv a_mv) row low sets0 sets) (hc0 : c0 ≤ pg_sz (zc_R N S sets row)) (hm : (zc_mv a_mv) (n, s) m) (hFm : zc_R N S sets row ((zc_nx a_kinds a_first a_second) (n, s) m)) :
    zx_GI N S (zc_nx a_kinds a_first a_second) (zc_mv a_mv) row low sets0 (upd sets (row + n) (sets (row + n) ||| ((1 : Int32) <<< (nI s &&& 31)))) ∧ c0 < pg_sz (zc_R N S (upd sets (row + n) (sets (row + n) ||| ((1 : Int32) <<< (nI s &&& 31)))) row) := by
  have hN := C.1.1
  have hS := C.1.2
  obtain ⟨i1, i2, i3, i4⟩ := I
  have hadd := zc_R_add (N := N) (S := S) (a := sets) (r := row) hn hs hS
  refine ⟨⟨fun i hi => ?_, fun a b ha hb => ?_, fun p hp => (hadd p).mpr (Or.inl (i3 p hp)), fun p hp => ?_⟩, ?_⟩
  · rw [pk_un (by omega)]; exact i1 i hi
  · by_cases e : a = n
    · subst e
      rw [pk_us]
      intro z
      have hb32 := zb_lt z
      rcases (zb_or1 _ (by omega) hb32).mp z with w | w
      · exact i2 a b ha hb w
      · omega
    · rw [pk_un (by omega)]; exact i2 a b ha hb
  · rcases (hadd p).mp hp with z | z
    · exact i4 p z
    · rw [z]
      obtain ⟨g1, t, ht, g2⟩ := i4 _ hFm
      have e : pg_ge low (pg_E0 N S (zc_nx a_kinds a_first a_second) (zc_mv a_mv)) (n, s) ((zc_nx a_kinds a_first a_second) (n, s) m) := ⟨⟨⟨hn, hs⟩, m, hm, rfl⟩, hl, g1⟩
      refine ⟨hl, t, ht, Or.inr ?_⟩
      rcases g2 with g2 | g2
      · rw [g2]; exact .single e
      · exact (Relation.TransGen.single e).trans g2
  · have := pg_sz_lt (A := zc_R N S sets row) (B := zc_R N S (upd sets (row + n) (sets (row + n) ||| ((1 : Int32) <<< (nI s &&& 31)))) row) (p := (n, s)) (fun q z => (hadd q).mpr (Or.inl z)) ((hadd _).mpr (Or.inr rfl)) hF (by show n < 14; omega) (by show s < 5; omega)
    omega
theorem zx_gb35 {post : SX → Prop} {J5 J26 : Int32 → Int32 → (Nat → Int32) → (Nat → Int32) → (Nat → Int32) → (Nat → Int32) → (Nat → Int32) → (Nat → Int32) → (Nat → Int32) → (Nat → Int32) → (Nat → Int32) → (Nat → Int32) → (Nat → Int32) → (Nat → Int32) → (Nat → Int32) → (Nat → Int32) → (Nat → Int32) → (Nat → Int32) → Prop} {x4 : Int32} {n c0 : Nat}
    (C : zx_C N S a_kinds a_args a_first a_second a_depth) (HM : zx_M N S a_kinds a_mv) (H : pg_St N S (zc_nx a_kinds a_first a_second) (zc_vr a_kinds) (zc_bd a_kinds) (zc_dep a_depth) (zc_anc a_parent) (zc_mv a_mv) (zc_own a_kinds a_args a_atomSet) (zc_bk a_kinds)) (hr : row + 14 ≤ 266) (hn : n < N) (hl : low ≤ n)
    (K : ∀ g sets, zx_GI N S (zc_nx a_kinds a_first a_second) (zc_mv a_mv) row low sets0 sets → zx_GG N S (zc_nx a_kinds a_first a_second) (zc_mv a_mv) low (zc_R N S sets row) (fun p => n ≤ p.1) c0 g → J26 g (nI n + (-1)) a_linkSet a_atomSet a_kinds a_args a_parent a_kids a_first a_second a_depth a_pins a_win a_path a_mv a_choice a_ranks sets) :
    ∀ d s, s + d = S → ∀ g sets, zx_GI N S (zc_nx a_kinds a_first a_second) (zc_mv a_mv) row low sets0 sets → zx_GG N S (zc_nx a_kinds a_first a_second) (zc_mv a_mv) low (zc_R N S sets row) (fun p => n < p.1 ∨ (n = p.1 ∧ p.2 < s)) c0 g →
      wX_growBack_35 post J5 J26 (nI row) (nI low) x4 (nI n) (nI S) f_room (nI N) f_solved f_playMode f_pathLen f_forceBase f_outRow f_badRow f_reachRow (d + 1) g (nI s) a_linkSet a_atomSet a_kinds a_args a_parent a_kids a_first a_second a_depth a_pins a_win a_path a_mv a_choice a_ranks sets := by
  have hN := C.1.1
  have hS := C.1.2
  intro d
  induction d with
  | zero =>
    intro s hs g sets I G
    have e : s = S := by omega
    subst e
    refine br_t (nI_le (Nat.le_refl _) (by omega)) (nm_e (K g sets I ?_))
    rcases G with ⟨g1, g2, g3⟩ | G
    · refine Or.inl ⟨g1, g2, fun p hd hlp hp hF => g3 p hd hlp ?_ hF⟩
      have := hd.2
      omega
    · exact Or.inr G
  | succ d ih =>
    intro s hs g sets I G
    have hsS : s < S := by omega
    refine br_f (nI_ge hsS (by omega)) ?_
    rw [nI_add, zi_c (by omega)]
    refine ⟨zi_in (by omega) (by omega), ?_⟩
    have pe : ∀ p : pg_P, (n < p.1 ∨ (n = p.1 ∧ p.2 < s + 1)) → (n < p.1 ∨ (n = p.1 ∧ p.2 < s)) ∨ p = (n, s) := by
      intro p hp
      by_cases e : n < p.1 ∨ (n = p.1 ∧ p.2 < s)
      · exact Or.inl e
      · exact Or.inr (Prod.ext (by dsimp only; omega) (by dsimp only; omega))
    by_cases hb : bt (sets (row + n)) s = true
    · refine br_f (fun z => (zb_sh0 _ (by omega)).mp z hb) (br_f (by decide) (nm_r (nI_1 s) (ih (s + 1) (by omega) g sets I ?_)))
      rcases G with ⟨g1, g2, g3⟩ | G
      · refine Or.inl ⟨g1, g2, fun p hd hlp hp hF => ?_⟩
        rcases pe p hp with e | e
        · exact g3 p hd hlp e hF
        · rw [e] at hF; exact absurd ⟨⟨hn, hsS⟩, hb⟩ hF
      · exact Or.inr G
    · refine br_t ((zb_sh0 _ (by omega)).mpr hb) (br_t rfl (zx_into C HM hn hsS hr (fun x hx => ?_)))
      have hF : ¬ zc_R N S sets row (n, s) := fun z => hb z.2
      by_cases hz : x = 0
      · refine br_t hz (nm_r (nI_1 s) (ih (s + 1) (by omega) g sets I ?_))
        rcases G with ⟨g1, g2, g3⟩ | G
        · refine Or.inl ⟨g1, g2, fun p hd hlp hp hF => ?_⟩
          rcases pe p hp with e | e
          · exact g3 p hd hlp e hF
          · subst e
            intro m hm z
            exact (zb_zero x).mp hz m (zb_lt hm) ((hx m (zb_lt hm)).mpr ⟨hm, z.2⟩)
        · exact Or.inr G
      · refine br_f hz ?_
        rw [nI_add, zi_c (by omega)]
        obtain ⟨m, hm32, hbm⟩ := zb_nz hz
        obtain ⟨hm, hFm⟩ := (hx m hm32).mp hbm
        have hsz : c0 ≤ pg_sz (zc_R N S sets row) := by
          rcases G with ⟨_, g2, _⟩ | ⟨_, g2⟩
          · exact g2
          · omega
        have ad := zx_gb_add C hn hsS hl hF I hsz hm ⟨H.1 (n, s) m ⟨hn, hsS⟩ hm, hFm⟩
        exact ⟨zi_in (by omega) (by omega), zi_in (by omega) (by omega), nm_e (nm_r (nI_1 s) (ih (s + 1) (by omega) 1 _ ad.1 (Or.inr ⟨rfl, ad.2⟩)))⟩
theorem zi_ltd {l : Nat} (h : l < 1000) : nI l - 1 < nI l := by
  rcases Nat.eq_zero_or_pos l with e | e
  · subst e; decide
  · obtain ⟨k, rfl⟩ : ∃ k, l = k + 1 := ⟨l - 1, by omega⟩
    rw [nI_pred]
    exact nI_lt (by omega) (by omega)
theorem zx_gb26 {post : SX → Prop} {J5 : Int32 → Int32 → (Nat → Int32) → (Nat → Int32) → (Nat → Int32) → (Nat → Int32) → (Nat → Int32) → (Nat → Int32) → (Nat → Int32) → (Nat → Int32) → (Nat → Int32) → (Nat → Int32) → (Nat → Int32) → (Nat → Int32) → (Nat → Int32) → (Nat → Int32) → (Nat → Int32) → (Nat → Int32) → Prop} {x4 : Int32} {c0 : Nat}
    (C : zx_C N S a_kinds a_args a_first a_second a_depth) (HM : zx_M N S a_kinds a_mv) (H : pg_St N S (zc_nx a_kinds a_first a_second) (zc_vr a_kinds) (zc_bd a_kinds) (zc_dep a_depth) (zc_anc a_parent) (zc_mv a_mv) (zc_own a_kinds a_args a_atomSet) (zc_bk a_kinds)) (hr : row + 14 ≤ 266)
    (K : ∀ g sets, zx_GI N S (zc_nx a_kinds a_first a_second) (zc_mv a_mv) row low sets0 sets → zx_GG N S (zc_nx a_kinds a_first a_second) (zc_mv a_mv) low (zc_R N S sets row) (fun _ => True) c0 g → J5 g (x4 + 1) a_linkSet a_atomSet a_kinds a_args a_parent a_kids a_first a_second a_depth a_pins a_win a_path a_mv a_choice a_ranks sets) :
    ∀ j, low + j ≤ N → ∀ g sets, zx_GI N S (zc_nx a_kinds a_first a_second) (zc_mv a_mv) row low sets0 sets → zx_GG N S (zc_nx a_kinds a_first a_second) (zc_mv a_mv) low (zc_R N S sets row) (fun p => low + j ≤ p.1) c0 g →
      wX_growBack_26 post J5 (nI row) (nI low) x4 (nI S) f_room (nI N) f_solved f_playMode f_pathLen f_forceBase f_outRow f_badRow f_reachRow (j + 1) g (nI (low + j) - 1) a_linkSet a_atomSet a_kinds a_args a_parent a_kids a_first a_second a_depth a_pins a_win a_path a_mv a_choice a_ranks sets := by
  have hN := C.1.1
  have hS := C.1.2
  intro j
  induction j with
  | zero =>
    intro hj g sets I G
    refine br_t (zi_ltd (by omega)) (nm_e (K g sets I ?_))
    rcases G with ⟨g1, g2, g3⟩ | G
    · exact Or.inl ⟨g1, g2, fun p hd hlp _ hF => g3 p hd hlp hlp hF⟩
    · exact Or.inr G
  | succ j ih =>
    intro hj g sets I G
    rw [← Nat.add_assoc, nI_pred]
    refine br_f (nI_nlt (by omega) (by omega)) ⟨S + 1, ?_⟩
    refine zx_gb35 C HM H hr (by omega) (by omega) (c0 := c0) (fun g' sets' I' G' => ?_) S 0 (by omega) g sets I ?_
    · rw [zi_dm]; exact ih (by omega) g' sets' I' G'
    · rcases G with ⟨g1, g2, g3⟩ | G
      · exact Or.inl ⟨g1, g2, fun p hd hlp hp hF => g3 p hd hlp (by omega) hF⟩
      · exact Or.inr G
theorem zx_growBack {post : SX → Prop} (C : zx_C N S a_kinds a_args a_first a_second a_depth) (HM : zx_M N S a_kinds a_mv) (H : pg_St N S (zc_nx a_kinds a_first a_second) (zc_vr a_kinds) (zc_bd a_kinds) (zc_dep a_depth) (zc_anc a_parent) (zc_mv a_mv) (zc_own a_kinds a_args a_atomSet) (zc_bk a_kinds)) (hr : row + 14 ≤ 266) (hl : low ≤ N) (ok : zc_ok N S a_sets row) (hlow : ∀ p, zc_R N S a_sets row p → low ≤ p.1)
    (K : ∀ sets, zx_GI N S (zc_nx a_kinds a_first a_second) (zc_mv a_mv) row low a_sets sets → (∀ p, pg_D N S p → low ≤ p.1 → ¬ zc_R N S sets row p → ∀ m, (zc_mv a_mv) p m → ¬ zc_R N S sets row ((zc_nx a_kinds a_first a_second) p m)) → post ((nI S), f_room, (nI N), f_solved, f_playMode, f_pathLen, f_forceBase, f_outRow, f_badRow, f_reachRow, a_linkSet, a_atomSet, a_kinds, a_args, a_parent, a_kids, a_first, a_second, a_depth, a_pins, a_win, a_path, a_mv, a_choice, a_ranks, sets)) :
    wpX_growBack post ((nI S), f_room, (nI N), f_solved, f_playMode, f_pathLen, f_forceBase, f_outRow, f_badRow, f_reachRow, a_linkSet, a_atomSet, a_kinds, a_args, a_parent, a_kids, a_first, a_second, a_depth, a_pins, a_win, a_path, a_mv, a_choice, a_ranks, a_sets) (nI row) (nI low) := by
  have hN := C.1.1
  have hS := C.1.2
  have main : ∀ d r, r + d = 71 → ∀ g sets, zx_GI N S (zc_nx a_kinds a_first a_second) (zc_mv a_mv) row low a_sets sets → ((g = 0 ∧ (∀ p, pg_D N S p → low ≤ p.1 → ¬ zc_R N S sets row p → ∀ m, (zc_mv a_mv) p m → ¬ zc_R N S sets row ((zc_nx a_kinds a_first a_second) p m))) ∨ (g = 1 ∧ r ≤ pg_sz (zc_R N S sets row))) →
      wX_growBack_5 post (nI row) (nI low) (nI S) f_room (nI N) f_solved f_playMode f_pathLen f_forceBase f_outRow f_badRow f_reachRow (d + 1) g (nI r) a_linkSet a_atomSet a_kinds a_args a_parent a_kids a_first a_second a_depth a_pins a_win a_path a_mv a_choice a_ranks sets := by
    intro d
    induction d with
    | zero =>
      intro r hr' g sets I G
      have e : r = 71 := by omega
      subst e
      rcases G with ⟨g1, g2⟩ | ⟨g1, g2⟩
      · exact br_t (by decide) (K sets I g2)
      · have := pg_sz_le (zc_R N S sets row)
        omega
    | succ d ih =>
      intro r hr' g sets I G
      refine br_f (nI_nlt (b := r) (a := 70) (by omega) (by decide)) ?_
      rcases G with ⟨g1, g2⟩ | ⟨g1, g2⟩
      · exact br_t g1 (K sets I g2)
      · refine br_f (by rw [g1]; decide) (nm_e ⟨(N - low) + 1, ?_⟩)
        have e : N = low + (N - low) := by omega
        have gb : wX_growBack_26 post (wX_growBack_5 post (nI row) (nI low) (nI S) f_room (nI N) f_solved f_playMode f_pathLen f_forceBase f_outRow f_badRow f_reachRow (d + 1)) (nI row) (nI low) (nI r) (nI S) f_room (nI N) f_solved f_playMode f_pathLen f_forceBase f_outRow f_badRow f_reachRow ((N - low) + 1) 0 (nI (low + (N - low)) - 1) a_linkSet a_atomSet a_kinds a_args a_parent a_kids a_first a_second a_depth a_pins a_win a_path a_mv a_choice a_ranks sets := zx_gb26 (sets0 := a_sets) (c0 := pg_sz (zc_R N S sets row)) C HM H hr (fun g' sets' I' G' => by
          rw [nI_1]
          refine ih (r + 1) (by omega) g' sets' I' ?_
          rcases G' with ⟨a1, a2, a3⟩ | ⟨a1, a2⟩
          · exact Or.inl ⟨a1, fun p hd hlp hF => a3 p hd hlp trivial hF⟩
          · exact Or.inr ⟨a1, by omega⟩) (N - low) (by omega) 0 sets I (Or.inl ⟨rfl, Nat.le_refl _, fun p hd _ hp _ => by
          have := hd.1
          have : low + (N - low) ≤ p.1 := hp
          omega⟩)
        rw [← e] at gb
        exact gb
  exact ⟨72, main 71 0 rfl 1 a_sets ⟨fun _ _ => rfl, ok, fun _ z => z, fun p hp => ⟨hlow p hp, p, hp, Or.inl rfl⟩⟩ (Or.inr ⟨rfl, Nat.zero_le _⟩)⟩
/-- (s,n) lies on a cycle of nodes from n on -/
abbrev zx_cyc (N S : Nat) (nx : pg_P → Nat → pg_P) (mv : pg_M) (p : pg_P) : Prop := Relation.TransGen (pg_ge p.1 (pg_E0 N S nx mv)) p p
theorem zx_onCycle {post : Int32 → SX → Prop} {n s : Nat} (C : zx_C N S a_kinds a_args a_first a_second a_depth) (HM : zx_M N S a_kinds a_mv) (H : pg_St N S (zc_nx a_kinds a_first a_second) (zc_vr a_kinds) (zc_bd a_kinds) (zc_dep a_depth) (zc_anc a_parent) (zc_mv a_mv) (zc_own a_kinds a_args a_atomSet) (zc_bk a_kinds)) (hn : n < N) (hs : s < S)
    (h1 : ∀ sets, zx_cyc N S (zc_nx a_kinds a_first a_second) (zc_mv a_mv) (n, s) → (∀ i, (i < 252 ∨ 252 + N ≤ i) → sets i = a_sets i) → post 1 ((nI S), f_room, (nI N), f_solved, f_playMode, f_pathLen, f_forceBase, f_outRow, f_badRow, f_reachRow, a_linkSet, a_atomSet, a_kinds, a_args, a_parent, a_kids, a_first, a_second, a_depth, a_pins, a_win, a_path, a_mv, a_choice, a_ranks, sets))
    (h0 : ∀ sets, ¬ zx_cyc N S (zc_nx a_kinds a_first a_second) (zc_mv a_mv) (n, s) → (∀ i, (i < 252 ∨ 252 + N ≤ i) → sets i = a_sets i) → post 0 ((nI S), f_room, (nI N), f_solved, f_playMode, f_pathLen, f_forceBase, f_outRow, f_badRow, f_reachRow, a_linkSet, a_atomSet, a_kinds, a_args, a_parent, a_kids, a_first, a_second, a_depth, a_pins, a_win, a_path, a_mv, a_choice, a_ranks, sets)) :
    wpX_onCycle post ((nI S), f_room, (nI N), f_solved, f_playMode, f_pathLen, f_forceBase, f_outRow, f_badRow, f_reachRow, a_linkSet, a_atomSet, a_kinds, a_args, a_parent, a_kids, a_first, a_second, a_depth, a_pins, a_win, a_path, a_mv, a_choice, a_ranks, a_sets) (nI s) (nI n) := by
  have hN := C.1.1
  have hS := C.1.2
  have main : ∀ d j, j + d = N → wX_onCycle_2 post (nI s) (nI n) (nI S) f_room (nI N) f_solved f_playMode f_pathLen f_forceBase f_outRow f_badRow f_reachRow (d + 1) (nI j) a_linkSet a_atomSet a_kinds a_args a_parent a_kids a_first a_second a_depth a_pins a_win a_path a_mv a_choice a_ranks (zu a_sets 252 j (fun _ => 0)) := by
    intro d
    induction d with
    | zero =>
      intro j hj
      have e : j = N := by omega
      subst e
      refine br_t (nI_le (Nat.le_refl _) (by omega)) ?_
      rw [show (252 : Int32) + nI n = nI (252 + n) from nI_add 252 n, zi_c (by omega)]
      refine ⟨zi_in (by omega) (by omega), nm_e ?_⟩
      obtain ⟨s1, hs1⟩ : ∃ s1, s1 = upd (zu a_sets 252 j (fun _ => 0)) (252 + n) ((1 : Int32) <<< (nI s &&& 31)) := ⟨_, rfl⟩
      rw [← hs1]
      have r0 : ∀ i, (i < 252 ∨ 252 + j ≤ i) → s1 i = a_sets i := fun i hi => by rw [hs1, pk_un (by omega), zu_out hi]
      have r1 : s1 (252 + n) = (1 : Int32) <<< (nI s &&& 31) := by rw [hs1, pk_us]
      have r2 : ∀ a, a < j → a ≠ n → s1 (252 + a) = 0 := fun a ha hne => by rw [hs1, pk_un (by omega)]; exact zu_in ha
      have t0 : ∀ p, zc_R j S s1 252 p ↔ p = (n, s) := by
        rintro ⟨a, b⟩
        constructor
        · rintro ⟨hd, hb⟩
          have hb' : bt (s1 (252 + a)) b = true := hb
          by_cases e : a = n
          · subst e
            rw [r1, zb_one (by omega) (zb_lt hb')] at hb'
            rw [of_decide_eq_true hb']
          · rw [r2 a hd.1 e, b_0] at hb'
            exact absurd hb' Bool.false_ne_true
        · intro e
          rw [e]
          refine ⟨⟨hn, hs⟩, ?_⟩
          show bt (s1 (252 + n)) s = true
          rw [r1, zb_one (by omega) (by omega)]
          exact decide_eq_true rfl
      have k0 : zc_ok j S s1 252 := by
        intro a b ha hb z
        by_cases e : a = n
        · subst e
          rw [r1, zb_one (by omega) (zb_lt z)] at z
          have := of_decide_eq_true z
          omega
        · rw [r2 a ha e, b_0] at z
          exact absurd z Bool.false_ne_true
      refine zx_growBack (row := 252) (low := n) C HM H (by omega) (by omega) k0 (fun p hp => by rw [(t0 p).mp hp]; exact Nat.le_refl _) (fun sets I cl => ?_)
      obtain ⟨i1, i2, i3, i4⟩ := I
      have fr : ∀ i, (i < 252 ∨ 252 + j ≤ i) → sets i = a_sets i := fun i hi => by rw [i1 i hi, r0 i hi]
      have hself : zc_R j S sets 252 (n, s) := i3 _ ((t0 _).mpr rfl)
      have cl' : ∀ a b, pg_ge n (pg_E0 j S (zc_nx a_kinds a_first a_second) (zc_mv a_mv)) a b → zc_R j S sets 252 b → zc_R j S sets 252 a := by
        rintro a b ⟨⟨hd, m, hm, rfl⟩, ha, _⟩ hb
        exact Classical.byContradiction fun z => cl a hd ha z m hm hb
      refine zx_into (r := 252) C HM hn hs (by omega) (fun x hx => ?_)
      by_cases hz : x = 0
      · refine br_t hz (h0 sets (fun cyc => ?_) fr)
        obtain ⟨b, e, hb⟩ := zx_head cyc
        have hFb : zc_R j S sets 252 b := by
          rcases hb with hb | hb
          · rw [hb]; exact hself
          · exact zx_back (F := zc_R j S sets 252) cl' hb hself
        obtain ⟨⟨hd, m, hm, rfl⟩, _⟩ := e
        exact (zb_zero x).mp hz m (zb_lt hm) ((hx m (zb_lt hm)).mpr ⟨hm, hFb.2⟩)
      · refine br_f hz (h1 sets ?_ fr)
        obtain ⟨m, hm32, hbm⟩ := zb_nz hz
        obtain ⟨hm, hFm⟩ := (hx m hm32).mp hbm
        obtain ⟨g1, t, ht, g2⟩ := i4 _ ⟨H.1 (n, s) m ⟨hn, hs⟩ hm, hFm⟩
        have e : pg_ge n (pg_E0 j S (zc_nx a_kinds a_first a_second) (zc_mv a_mv)) (n, s) ((zc_nx a_kinds a_first a_second) (n, s) m) := ⟨⟨⟨hn, hs⟩, m, hm, rfl⟩, Nat.le_refl _, g1⟩
        rw [(t0 t).mp ht] at g2
        rcases g2 with g2 | g2
        · rw [← g2] at e
          exact Relation.TransGen.single e
        · exact (Relation.TransGen.single e).trans g2
    | succ d ih =>
      intro j hj
      refine br_f (nI_ge (by omega) (by omega)) ?_
      have fin := ih (j + 1) (by omega)
      rw [← zu_s] at fin
      rw [show (252 : Int32) + nI j = nI (252 + j) from nI_add 252 j, zi_c (by omega)]
      exact ⟨zi_in (by omega) (by omega), nm_e (nm_r (nI_1 j) fin)⟩
  have := main N 0 (by omega)
  rw [zu_0] at this
  exact ⟨N + 1, this⟩
/-- what is bad at once -/
abbrev zx_b0 (N S : Nat) (nx : pg_P → Nat → pg_P) (mv : pg_M) (own : pg_P → Nat) (bk : Nat → Nat → Prop) (P n s : Nat) : Prop :=
  (own (n, s) = P ∧ ∀ m, ¬ mv (n, s) m) ∨ (bk P n ∧ zx_cyc N S nx mv (n, s))
theorem zx_ml28 {post : SX → Prop} {J14 : Int32 → Int32 → Int32 → Int32 → Int32 → Int32 → Int32 → Int32 → Int32 → Int32 → Int32 → (Nat → Int32) → (Nat → Int32) → (Nat → Int32) → (Nat → Int32) → (Nat → Int32) → (Nat → Int32) → (Nat → Int32) → (Nat → Int32) → (Nat → Int32) → (Nat → Int32) → (Nat → Int32) → (Nat → Int32) → (Nat → Int32) → (Nat → Int32) → (Nat → Int32) → (Nat → Int32) → Prop} {P n : Nat} (C : zx_C N S a_kinds a_args a_first a_second a_depth) (HM : zx_M N S a_kinds a_mv) (H : pg_St N S (zc_nx a_kinds a_first a_second) (zc_vr a_kinds) (zc_bd a_kinds) (zc_dep a_depth) (zc_anc a_parent) (zc_mv a_mv) (zc_own a_kinds a_args a_atomSet) (zc_bk a_kinds)) (hn : n < N) (hP : P < 2)
    (K : ∀ sets, (∀ i, (i < 252 ∨ 252 + N ≤ i) → sets i = sets0 i) → J14 (nI (n + 1)) (nI S) f_room (nI N) f_solved f_playMode f_pathLen f_forceBase f_outRow f_badRow f_reachRow a_linkSet a_atomSet a_kinds a_args a_parent a_kids a_first a_second a_depth a_pins a_win a_path a_mv a_choice a_ranks (upd sets (238 + n) (zs_m (zx_b0 N S (zc_nx a_kinds a_first a_second) (zc_mv a_mv) (zc_own a_kinds a_args a_atomSet) (zc_bk a_kinds) P n) S))) :
    ∀ d s, s + d = S → ∀ sets, (∀ i, (i < 252 ∨ 252 + N ≤ i) → sets i = sets0 i) → wX_markLosing_28 post J14 (nI P) (if P = 0 then 7 else 8) (nI n) (d + 1) (zs_m (zx_b0 N S (zc_nx a_kinds a_first a_second) (zc_mv a_mv) (zc_own a_kinds a_args a_atomSet) (zc_bk a_kinds) P n) s) (nI s) (nI S) f_room (nI N) f_solved f_playMode f_pathLen f_forceBase f_outRow f_badRow f_reachRow a_linkSet a_atomSet a_kinds a_args a_parent a_kids a_first a_second a_depth a_pins a_win a_path a_mv a_choice a_ranks sets := by
  have hN := C.1.1
  have hS := C.1.2
  intro d
  induction d with
  | zero =>
    intro s hs sets hf
    have e : s = S := by omega
    subst e
    refine br_t (nI_le (Nat.le_refl _) (by omega)) ?_
    rw [show (238 : Int32) + nI n = nI (238 + n) from nI_add 238 n, zi_c (by omega)]
    exact ⟨zi_in (by omega) (by omega), nm_e (nm_r (nI_1 n) (K sets hf))⟩
  | succ d ih =>
    intro s hs sets hf
    have hsS : s < S := by omega
    have nxt := ih (s + 1) (by omega)
    have ho := zx_own_lt a_kinds a_args a_atomSet (n, s)
    have yes : zx_b0 N S (zc_nx a_kinds a_first a_second) (zc_mv a_mv) (zc_own a_kinds a_args a_atomSet) (zc_bk a_kinds) P n s → ∀ sets, (∀ i, (i < 252 ∨ 252 + N ≤ i) → sets i = sets0 i) → wX_markLosing_99 post J14 (wX_markLosing_28 post J14 (nI P) (if P = 0 then 7 else 8) (nI n) (d + 1)) (nI P) (if P = 0 then 7 else 8) (nI n) (zs_m (zx_b0 N S (zc_nx a_kinds a_first a_second) (zc_mv a_mv) (zc_own a_kinds a_args a_atomSet) (zc_bk a_kinds) P n) s) (nI s) 1 (nI S) f_room (nI N) f_solved f_playMode f_pathLen f_forceBase f_outRow f_badRow f_reachRow a_linkSet a_atomSet a_kinds a_args a_parent a_kids a_first a_second a_depth a_pins a_win a_path a_mv a_choice a_ranks sets := by
      intro hb sets hf
      have := nxt sets hf
      rw [zs_t hb] at this
      exact br_f (by decide) (nm_e (nm_r (nI_1 s) this))
    have no : ¬ zx_b0 N S (zc_nx a_kinds a_first a_second) (zc_mv a_mv) (zc_own a_kinds a_args a_atomSet) (zc_bk a_kinds) P n s → ∀ sets, (∀ i, (i < 252 ∨ 252 + N ≤ i) → sets i = sets0 i) → wX_markLosing_99 post J14 (wX_markLosing_28 post J14 (nI P) (if P = 0 then 7 else 8) (nI n) (d + 1)) (nI P) (if P = 0 then 7 else 8) (nI n) (zs_m (zx_b0 N S (zc_nx a_kinds a_first a_second) (zc_mv a_mv) (zc_own a_kinds a_args a_atomSet) (zc_bk a_kinds) P n) s) (nI s) 0 (nI S) f_room (nI N) f_solved f_playMode f_pathLen f_forceBase f_outRow f_badRow f_reachRow a_linkSet a_atomSet a_kinds a_args a_parent a_kids a_first a_second a_depth a_pins a_win a_path a_mv a_choice a_ranks sets := by
      intro hb sets hf
      have := nxt sets hf
      rw [zs_f hb] at this
      exact br_t rfl (nm_r (nI_1 s) this)
    refine br_f (nI_ge hsS (by omega)) ?_
    rw [zi_5, zi_c (by omega)]
    refine ⟨zi_in (by omega) (by omega), ?_⟩
    by_cases hm : a_mv (n * 5 + s) = 0
    · have hst : ∀ m, ¬ (zc_mv a_mv) (n, s) m := zx_mv0.mp hm
      have ncyc : ¬ zx_cyc N S (zc_nx a_kinds a_first a_second) (zc_mv a_mv) (n, s) := fun z => by
        obtain ⟨b, ⟨⟨_, m, hm', _⟩, _⟩, _⟩ := zx_head z
        exact hst m hm'
      refine br_t hm (zx_own C hn hsS ?_)
      by_cases hq : (zc_own a_kinds a_args a_atomSet) (n, s) = P
      · exact br_t (by rw [hq]) (yes (Or.inl ⟨hq, hst⟩) sets hf)
      · exact br_f (fun z => hq ((nI_eq (by omega) (by omega)).mp z)) (no (fun z => z.elim (fun w => hq w.1) (fun w => ncyc w.2)) sets hf)
    · have hst : ¬ ∀ m, ¬ (zc_mv a_mv) (n, s) m := fun z => hm (zx_mv0.mpr z)
      refine br_f hm ⟨zi_in (by omega) (by omega), ?_⟩
      rw [zi_c (by omega)]
      have hbk : a_kinds n = (if P = 0 then 7 else 8) ↔ (zc_bk a_kinds) P n := by
        by_cases h : P = 0
        · rw [if_pos h]
          exact ⟨fun z => Or.inl ⟨h, z⟩, fun z => z.elim (fun w => w.2) (fun w => absurd h w.1)⟩
        · rw [if_neg h]
          exact ⟨fun z => Or.inr ⟨h, z⟩, fun z => z.elim (fun w => absurd w.1 h) (fun w => w.2)⟩
      by_cases hk : a_kinds n = (if P = 0 then 7 else 8)
      · refine br_t hk (zx_onCycle C HM H hn hsS (fun sets' hc hf' => ?_) (fun sets' hc hf' => ?_))
        · exact br_f (by decide) (yes (Or.inr ⟨hbk.mp hk, hc⟩) sets' (fun i hi => (hf' i hi).trans (hf i hi)))
        · exact br_t rfl (no (fun z => z.elim (fun w => hst w.2) (fun w => hc w.2)) sets' (fun i hi => (hf' i hi).trans (hf i hi)))
      · exact br_f hk (no (fun z => z.elim (fun w => hst w.2) (fun w => hk (hbk.mpr w.1))) sets hf)
theorem zx_markLosing {post : SX → Prop} {P : Nat} (C : zx_C N S a_kinds a_args a_first a_second a_depth) (HM : zx_M N S a_kinds a_mv) (H : pg_St N S (zc_nx a_kinds a_first a_second) (zc_vr a_kinds) (zc_bd a_kinds) (zc_dep a_depth) (zc_anc a_parent) (zc_mv a_mv) (zc_own a_kinds a_args a_atomSet) (zc_bk a_kinds)) (hP : P < 2)
    (K : ∀ sets, (∀ p, pg_D N S p → (zc_R N S sets 238 p ↔ pg_bad N S (zc_nx a_kinds a_first a_second) (zc_mv a_mv) (zc_own a_kinds a_args a_atomSet) (zc_bk a_kinds) P p)) → zc_ok N S sets 238 → post ((nI S), f_room, (nI N), f_solved, f_playMode, f_pathLen, f_forceBase, f_outRow, f_badRow, f_reachRow, a_linkSet, a_atomSet, a_kinds, a_args, a_parent, a_kids, a_first, a_second, a_depth, a_pins, a_win, a_path, a_mv, a_choice, a_ranks, sets)) :
    wpX_markLosing post ((nI S), f_room, (nI N), f_solved, f_playMode, f_pathLen, f_forceBase, f_outRow, f_badRow, f_reachRow, a_linkSet, a_atomSet, a_kinds, a_args, a_parent, a_kids, a_first, a_second, a_depth, a_pins, a_win, a_path, a_mv, a_choice, a_ranks, a_sets) (nI P) := by
  have hN := C.1.1
  have hS := C.1.2
  have main : ∀ d j, j + d = N → ∀ sets, (∀ n, n < j → sets (238 + n) = zs_m (zx_b0 N S (zc_nx a_kinds a_first a_second) (zc_mv a_mv) (zc_own a_kinds a_args a_atomSet) (zc_bk a_kinds) P n) S) → wX_markLosing_14 post (nI P) (if P = 0 then 7 else 8) (d + 1) (nI j) (nI S) f_room (nI N) f_solved f_playMode f_pathLen f_forceBase f_outRow f_badRow f_reachRow a_linkSet a_atomSet a_kinds a_args a_parent a_kids a_first a_second a_depth a_pins a_win a_path a_mv a_choice a_ranks sets := by
    intro d
    induction d with
    | zero =>
      intro j hj sets hI
      have e : j = N := by omega
      subst e
      refine br_t (nI_le (Nat.le_refl _) (by omega)) ?_
      have t0 : ∀ p, zc_R j S sets 238 p ↔ (pg_D j S p ∧ zx_b0 j S (zc_nx a_kinds a_first a_second) (zc_mv a_mv) (zc_own a_kinds a_args a_atomSet) (zc_bk a_kinds) P p.1 p.2) := by
        rintro ⟨a, b⟩
        refine and_congr_right (fun hd => ?_)
        show bt (sets (238 + a)) b = true ↔ _
        rw [hI a hd.1, zs_b _ S (by omega)]
        exact ⟨fun z => z.2, fun z => ⟨hd.2, z⟩⟩
      have k0 : zc_ok j S sets 238 := by
        intro a b ha hb z
        rw [hI a ha, zs_b _ S (by omega)] at z
        omega
      refine zx_growBack (row := 238) (low := 0) C HM H (by omega) (by omega) k0 (fun _ _ => Nat.zero_le _) (fun sets' I cl => ?_)
      obtain ⟨i1, i2, i3, i4⟩ := I
      refine K sets' (fun p hp => ⟨fun z => ?_, fun z => ?_⟩) i2
      · obtain ⟨_, t, ht, g⟩ := i4 p z
        obtain ⟨hd, hb⟩ := (t0 t).mp ht
        refine ⟨t, ?_, hd, ?_⟩
        · rcases g with g | g
          · exact Or.inl g
          · exact Or.inr (pg_mono (fun _ _ e => e.1) g)
        · exact hb
      · obtain ⟨q, hq, hd, hb⟩ := z
        have hFq : zc_R j S sets' 238 q := i3 q ((t0 q).mpr ⟨hd, hb⟩)
        have cl' : ∀ a b, pg_E0 j S (zc_nx a_kinds a_first a_second) (zc_mv a_mv) a b → zc_R j S sets' 238 b → zc_R j S sets' 238 a := by
          rintro a b ⟨hd, m, hm, rfl⟩ hb
          exact Classical.byContradiction fun z => cl a hd (Nat.zero_le _) z m hm hb
        rcases hq with hq | hq
        · rw [← hq]; exact hFq
        · exact zx_back (F := zc_R j S sets' 238) cl' hq hFq
    | succ d ih =>
      intro j hj sets hI
      refine br_f (nI_ge (by omega) (by omega)) ⟨S + 1, ?_⟩
      refine zx_ml28 (sets0 := sets) C HM H (by omega) hP (fun sets' hf => ih (j + 1) (by omega) _ (fun n hn => ?_)) S 0 (by omega) sets (fun _ _ => rfl)
      by_cases e : n = j
      · rw [e, pk_us]
      · rw [pk_un (by omega), hf _ (by omega)]
        exact hI n (by omega)
  have hp2 : P = 0 ∨ P = 1 := by omega
  rcases hp2 with h | h
  · subst h
    have := main N 0 (by omega) a_sets (fun n hn => absurd hn (by omega))
    exact br_t rfl ⟨N + 1, this⟩
  · subst h
    have := main N 0 (by omega) a_sets (fun n hn => absurd hn (by omega))
    exact br_f (by decide) ⟨N + 1, this⟩
end
end
section
/-! ===== X: allMoves, legal, loadMoves, restrictTo, bits ===== -/
abbrev zc_am (K Ar Lk : Nat → Int32) (p : pg_P) (m : Nat) : Prop :=
  ((K p.1 = 3 ∨ K p.1 = 4) ∧ m < 2) ∨ ((K p.1 = 5 ∨ K p.1 = 6) ∧ ((¬ Ar p.1 = 1 ∧ bt (Lk (p.2 * 2)) m = true) ∨ (¬ Ar p.1 = 0 ∧ bt (Lk (p.2 * 2 + 1)) m = true))) ∨ ((K p.1 = 7 ∨ K p.1 = 8 ∨ K p.1 = 9) ∧ m = 0)
abbrev zc_lg (K Ar Lk Pn : Nat → Int32) (p : pg_P) (m : Nat) : Prop := zc_am K Ar Lk p m ∧ (Pn (p.1 * 5 + p.2) = -2 ∨ Pn (p.1 * 5 + p.2) = nI m)
/-- kinds and args are in order -/
abbrev zr_K (N : Nat) (K Ar : Nat → Int32) : Prop := ∀ n, n < N → (∃ k, 1 ≤ k ∧ k ≤ 9 ∧ K n = nI k) ∧ ((K n = 1 ∨ K n = 2) → Ar n = 0 ∨ Ar n = 1) ∧ ((K n = 5 ∨ K n = 6) → Ar n = 0 ∨ Ar n = 1 ∨ Ar n = 2)
/-- links lead to states -/
abbrev zr_L (S : Nat) (Lk : Nat → Int32) : Prop := ∀ i b, bt (Lk i) b = true → b < S
/-- pins are moves -/
abbrev zr_P (N S : Nat) (K Ar Lk Pn : Nat → Int32) : Prop := ∀ n s, n < N → s < S → Pn (n * 5 + s) = -2 ∨ ∃ k, Pn (n * 5 + s) = nI k ∧ (3 ≤ (K n).toInt ∧ (K n).toInt ≤ 6) ∧ zc_am K Ar Lk (n, s) k
theorem zr_kcases {N : Nat} {K Ar : Nat → Int32} (h : zr_K N K Ar) {n : Nat} (hn : n < N) : K n = 1 ∨ K n = 2 ∨ K n = 3 ∨ K n = 4 ∨ K n = 5 ∨ K n = 6 ∨ K n = 7 ∨ K n = 8 ∨ K n = 9 := by
  obtain ⟨k, h1, h2, e⟩ := (h n hn).1
  have : k = 1 ∨ k = 2 ∨ k = 3 ∨ k = 4 ∨ k = 5 ∨ k = 6 ∨ k = 7 ∨ k = 8 ∨ k = 9 := by omega
  rw [e]
  rcases this with rfl | rfl | rfl | rfl | rfl | rfl | rfl | rfl | rfl <;> decide
theorem zc_am_lt {S : Nat} (hS2 : 2 ≤ S) (hS : S ≤ 5) {K Ar Lk : Nat → Int32} (hL : zr_L S Lk) {p : pg_P} {m : Nat} (h : zc_am K Ar Lk p m) : m < 5 := by
  rcases h with z | z | z
  · omega
  · rcases z.2 with w | w
    · have := hL _ _ w.2; omega
    · have := hL _ _ w.2; omega
  · omega
def zb_s (m : Int32) : Nat → Int32
  | 0 => 0
  | j + 1 => zb_s m j + ((m >>> (nI j &&& 31)) &&& 1)
section
variable {N S : Nat}
variable {f_room f_solved f_playMode f_pathLen f_forceBase f_outRow f_badRow f_reachRow : Int32} {a_linkSet a_atomSet a_kinds a_args a_parent a_kids a_first a_second a_depth a_pins a_win a_path a_mv a_choice a_ranks a_sets : Nat → Int32}
theorem zx_allMoves {post : Int32 → Prop} {n s : Nat} (hK : zr_K N a_kinds a_args) (hN : N ≤ 14) (hS : S ≤ 5) (hn : n < N) (hs : s < S) (h : ∀ x, (∀ b, bt x b = true ↔ zc_am a_kinds a_args a_linkSet (n, s) b) → post x) : wpX_allMoves post ((nI S), f_room, (nI N), f_solved, f_playMode, f_pathLen, f_forceBase, f_outRow, f_badRow, f_reachRow, a_linkSet, a_atomSet, a_kinds, a_args, a_parent, a_kids, a_first, a_second, a_depth, a_pins, a_win, a_path, a_mv, a_choice, a_ranks, a_sets) (nI s) (nI n) := by
  refine And.intro (zi_in (by omega) (by omega)) ?_
  rw [zi_c (by omega)]
  intro x hx
  subst hx
  have ne : ∀ {i j : Int32}, i ≠ j → a_kinds n = i → ¬ a_kinds n = j := fun hij e e' => hij (e.symm.trans e')
  have modal : (a_kinds n = 5 ∨ a_kinds n = 6) → wX_allMoves_30 post (nI s) (nI n) (nI S) f_room (nI N) f_solved f_playMode f_pathLen f_forceBase f_outRow f_badRow f_reachRow a_linkSet a_atomSet a_kinds a_args a_parent a_kids a_first a_second a_depth a_pins a_win a_path a_mv a_choice a_ranks a_sets := by
    intro hk
    have hk' : ∀ b, zc_am a_kinds a_args a_linkSet (n, s) b ↔ ((¬ a_args n = 1 ∧ bt (a_linkSet (s * 2)) b = true) ∨ (¬ a_args n = 0 ∧ bt (a_linkSet (s * 2 + 1)) b = true)) := by
      intro b
      constructor
      · rintro (z | z | z)
        · rcases hk with w | w
          · exact absurd z.1 (fun u => u.elim (ne (by decide) w) (ne (by decide) w))
          · exact absurd z.1 (fun u => u.elim (ne (by decide) w) (ne (by decide) w))
        · exact z.2
        · rcases hk with w | w
          · exact absurd z.1 (fun u => u.elim (ne (by decide) w) (fun u => u.elim (ne (by decide) w) (ne (by decide) w)))
          · exact absurd z.1 (fun u => u.elim (ne (by decide) w) (fun u => u.elim (ne (by decide) w) (ne (by decide) w)))
      · intro z
        exact Or.inr (Or.inl ⟨hk, z⟩)
    have e0 : nI s * 2 = nI (s * 2) := by rw [show (2 : Int32) = nI 2 from rfl, pk_mul]
    refine And.intro (zi_in (by omega) (by omega)) ?_
    rw [zi_c (by omega), e0]
    rcases (hK n hn).2.2 hk with a | a | a
    · refine br_f (by rw [a]; decide) ⟨zi_in (by omega) (by omega), ?_⟩
      rw [a, show nI (s * 2) + 0 = nI (s * 2) from Int32.add_zero _]
      refine ⟨zi_in (by omega) (by omega), h _ (fun b => ?_)⟩
      rw [zi_c (by omega), hk', a]
      exact ⟨fun z => Or.inl ⟨by decide, z⟩, fun z => z.elim (fun w => w.2) (fun w => absurd rfl w.1)⟩
    · refine br_f (by rw [a]; decide) ⟨zi_in (by omega) (by omega), ?_⟩
      rw [a, nI_1]
      refine ⟨zi_in (by omega) (by omega), h _ (fun b => ?_)⟩
      rw [zi_c (by omega), hk', a]
      exact ⟨fun z => Or.inr ⟨by decide, z⟩, fun z => z.elim (fun w => absurd rfl w.1) (fun w => w.2)⟩
    · refine br_t a ⟨zi_in (by omega) (by omega), ?_⟩
      rw [nI_1]
      refine ⟨zi_in (by omega) (by omega), h _ (fun b => ?_)⟩
      rw [zi_c (by omega), zi_c (by omega), hk', a, b_or, Bool.or_eq_true]
      exact ⟨fun z => z.elim (fun w => Or.inl ⟨by decide, w⟩) (fun w => Or.inr ⟨by decide, w⟩), fun z => z.elim (fun w => Or.inl w.2) (fun w => Or.inr w.2)⟩
  have h3 : ∀ b, bt 3 b = true ↔ b < 2 := fun b => by
    rcases Nat.lt_or_ge b 32 with z | z
    · rw [zb_3 b z, decide_eq_true_iff]
    · rw [b_big z]; exact ⟨fun w => absurd w Bool.false_ne_true, fun w => by omega⟩
  have h1 : ∀ b, bt 1 b = true ↔ b = 0 := fun b => by
    rcases Nat.lt_or_ge b 32 with z | z
    · rw [zb_1 b z, decide_eq_true_iff]
    · rw [b_big z]; exact ⟨fun w => absurd w Bool.false_ne_true, fun w => by omega⟩
  have sim : ∀ v, a_kinds n = v → ∀ b, zc_am a_kinds a_args a_linkSet (n, s) b ↔ (((v = 3 ∨ v = 4) ∧ b < 2) ∨ ((v = 5 ∨ v = 6) ∧ ((¬ a_args n = 1 ∧ bt (a_linkSet (s * 2)) b = true) ∨ (¬ a_args n = 0 ∧ bt (a_linkSet (s * 2 + 1)) b = true))) ∨ ((v = 7 ∨ v = 8 ∨ v = 9) ∧ b = 0)) := by
    intro v hv b
    subst hv
    exact Iff.rfl
  rcases zr_kcases hK hn with k | k | k | k | k | k | k | k | k
  · refine br_f (ne (by decide) k) (br_f (ne (by decide) k) (br_f (ne (by decide) k) (br_f (ne (by decide) k) (br_t k (h _ (fun b => ?_))))))
    rw [sim _ k b, b_0]
    simp
  · refine br_f (ne (by decide) k) (br_f (ne (by decide) k) (br_f (ne (by decide) k) (br_f (ne (by decide) k) (br_f (ne (by decide) k) (br_t k (h _ (fun b => ?_)))))))
    rw [sim _ k b, b_0]
    simp
  · refine br_t k (h _ (fun b => ?_))
    rw [sim _ k b, h3]
    simp
  · refine br_f (ne (by decide) k) (br_t k (h _ (fun b => ?_)))
    rw [sim _ k b, h3]
    simp
  · exact br_f (ne (by decide) k) (br_f (ne (by decide) k) (br_t k (modal (Or.inl k))))
  · exact br_f (ne (by decide) k) (br_f (ne (by decide) k) (br_f (ne (by decide) k) (br_t k (modal (Or.inr k)))))
  · refine br_f (ne (by decide) k) (br_f (ne (by decide) k) (br_f (ne (by decide) k) (br_f (ne (by decide) k) (br_f (ne (by decide) k) (br_f (ne (by decide) k) (h _ (fun b => ?_)))))))
    rw [sim _ k b, h1]
    simp
  · refine br_f (ne (by decide) k) (br_f (ne (by decide) k) (br_f (ne (by decide) k) (br_f (ne (by decide) k) (br_f (ne (by decide) k) (br_f (ne (by decide) k) (h _ (fun b => ?_)))))))
    rw [sim _ k b, h1]
    simp
  · refine br_f (ne (by decide) k) (br_f (ne (by decide) k) (br_f (ne (by decide) k) (br_f (ne (by decide) k) (br_f (ne (by decide) k) (br_f (ne (by decide) k) (h _ (fun b => ?_)))))))
    rw [sim _ k b, h1]
    simp
theorem zx_legal {post : Int32 → Prop} {n s : Nat} (hK : zr_K N a_kinds a_args) (hP : zr_P N S a_kinds a_args a_linkSet a_pins) (hL : zr_L S a_linkSet) (hN : N ≤ 14) (hS2 : 2 ≤ S) (hS : S ≤ 5) (hn : n < N) (hs : s < S) (h : ∀ x, (∀ b, bt x b = true ↔ zc_lg a_kinds a_args a_linkSet a_pins (n, s) b) → post x) : wpX_legal post ((nI S), f_room, (nI N), f_solved, f_playMode, f_pathLen, f_forceBase, f_outRow, f_badRow, f_reachRow, a_linkSet, a_atomSet, a_kinds, a_args, a_parent, a_kids, a_first, a_second, a_depth, a_pins, a_win, a_path, a_mv, a_choice, a_ranks, a_sets) (nI s) (nI n) := by
  refine And.intro (by rw [zi_5]; exact zi_in (by omega) (by omega)) ?_
  rw [zi_5, zi_c (by omega)]
  intro x hx
  subst hx
  rcases hP n s hn hs with e | ⟨k, e, _, ha⟩
  · refine br_t (by rw [e]; decide) (zx_allMoves hK hN hS hn hs (fun x hx => h x (fun b => ?_)))
    rw [hx b]
    exact ⟨fun z => ⟨z, Or.inl e⟩, fun z => z.1⟩
  · have hk5 := zc_am_lt hS2 hS hL ha
    refine br_f (by rw [e]; exact nI_pos (by omega)) (h _ (fun b => ?_))
    rw [e]
    rcases Nat.lt_or_ge b 32 with z | z
    · rw [zb_one (by omega) z, decide_eq_true_iff]
      constructor
      · intro w; rw [w]; exact ⟨ha, Or.inr e⟩
      · rintro ⟨_, w | w⟩
        · exact absurd (e.symm.trans w) (fun u => absurd (u ▸ nI_pos (n := k) (by omega) : ¬ (-2 : Int32) < 0) (by decide))
        · exact ((nI_eq (by omega) (by omega)).mp (e.symm.trans w)).symm
    · rw [b_big z]
      refine ⟨fun w => absurd w Bool.false_ne_true, fun w => ?_⟩
      have := zc_am_lt hS2 hS hL w.1
      omega
theorem zx_loadMoves {post : SX → Prop} (hK : zr_K N a_kinds a_args) (hP : zr_P N S a_kinds a_args a_linkSet a_pins) (hL : zr_L S a_linkSet) (hN : N ≤ 14) (hS2 : 2 ≤ S) (hS : S ≤ 5)
    (K : ∀ M, (∀ n s, n < N → s < S → ∀ b, bt (M (n * 5 + s)) b = true ↔ zc_lg a_kinds a_args a_linkSet a_pins (n, s) b) → post ((nI S), f_room, (nI N), f_solved, f_playMode, f_pathLen, f_forceBase, f_outRow, f_badRow, f_reachRow, a_linkSet, a_atomSet, a_kinds, a_args, a_parent, a_kids, a_first, a_second, a_depth, a_pins, a_win, a_path, M, a_choice, a_ranks, a_sets)) : wpX_loadMoves post ((nI S), f_room, (nI N), f_solved, f_playMode, f_pathLen, f_forceBase, f_outRow, f_badRow, f_reachRow, a_linkSet, a_atomSet, a_kinds, a_args, a_parent, a_kids, a_first, a_second, a_depth, a_pins, a_win, a_path, a_mv, a_choice, a_ranks, a_sets) := by
  have inner : ∀ (J2 : Int32 → (Nat → Int32) → (Nat → Int32) → (Nat → Int32) → (Nat → Int32) → (Nat → Int32) → (Nat → Int32) → (Nat → Int32) → (Nat → Int32) → (Nat → Int32) → (Nat → Int32) → (Nat → Int32) → (Nat → Int32) → (Nat → Int32) → (Nat → Int32) → (Nat → Int32) → (Nat → Int32) → Prop) (n : Nat), n < N → (∀ M, (∀ n' s, n' < n + 1 → s < S → ∀ b, bt (M (n' * 5 + s)) b = true ↔ zc_lg a_kinds a_args a_linkSet a_pins (n', s) b) → J2 (nI (n + 1)) a_linkSet a_atomSet a_kinds a_args a_parent a_kids a_first a_second a_depth a_pins a_win a_path M a_choice a_ranks a_sets) →
      ∀ d s, s + d = S → ∀ M, (∀ n' s', n' < N → s' < S → (n' < n ∨ (n' = n ∧ s' < s)) → ∀ b, bt (M (n' * 5 + s')) b = true ↔ zc_lg a_kinds a_args a_linkSet a_pins (n', s') b) → wX_loadMoves_12 post J2 (nI n) (nI S) f_room (nI N) f_solved f_playMode f_pathLen f_forceBase f_outRow f_badRow f_reachRow (d + 1) (nI s) a_linkSet a_atomSet a_kinds a_args a_parent a_kids a_first a_second a_depth a_pins a_win a_path M a_choice a_ranks a_sets := by
    intro J2 n hn KJ d
    induction d with
    | zero =>
      intro s hs M hM
      have e : s = S := by omega
      subst e
      exact br_t (nI_le (Nat.le_refl _) (by omega)) (nm_r (nI_1 n) (KJ M (fun n' s' h1 h2 => hM n' s' (by omega) h2 (by omega))))
    | succ d ih =>
      intro s hs M hM
      refine br_f (nI_ge (by omega) (by omega)) (zx_legal hK hP hL hN hS2 hS hn (by omega) (fun x hx => ?_))
      rw [zi_5, zi_c (by omega)]
      refine ⟨zi_in (by omega) (by omega), nm_e (nm_r (nI_1 s) (ih (s + 1) (by omega) _ (fun n' s' h1 h2 h3 => ?_)))⟩
      by_cases e : n' * 5 + s' = n * 5 + s
      · have e1 : n' = n := by omega
        have e2 : s' = s := by omega
        rw [e, pk_us, e1, e2]
        exact hx
      · rw [pk_un e]
        exact hM n' s' h1 h2 (by omega)
  have main : ∀ d j, j + d = N → ∀ M, (∀ n' s, n' < j → s < S → ∀ b, bt (M (n' * 5 + s)) b = true ↔ zc_lg a_kinds a_args a_linkSet a_pins (n', s) b) → wX_loadMoves_2 post (nI S) f_room (nI N) f_solved f_playMode f_pathLen f_forceBase f_outRow f_badRow f_reachRow (d + 1) (nI j) a_linkSet a_atomSet a_kinds a_args a_parent a_kids a_first a_second a_depth a_pins a_win a_path M a_choice a_ranks a_sets := by
    intro d
    induction d with
    | zero =>
      intro j hj M hM
      have e : j = N := by omega
      subst e
      exact br_t (nI_le (Nat.le_refl _) (by omega)) (K M hM)
    | succ d ih =>
      intro j hj M hM
      exact br_f (nI_ge (by omega) (by omega)) ⟨S + 1, inner _ j (by omega) (fun M' hM' => ih (j + 1) (by omega) M' hM') S 0 (by omega) M (fun n' s' h1 h2 h3 => hM n' s' (by omega) h2)⟩
  exact ⟨N + 1, main N 0 (by omega) a_mv (fun n' s h => absurd h (by omega))⟩
/-- what restrictTo leaves of the moves x of a position of player P -/
abbrev zx_RT (P : Nat) (w : Int32) (c : Int32) (s : Nat) (x y : Int32) : Prop :=
  (x = 0 ∧ y = 0) ∨ (∃ f, f < 5 ∧ bt x f = true ∧ ((P = 0 ↔ bt w s = true) → bt x c.toNatClampNeg = true → f = c.toNatClampNeg) ∧ y = (1 : Int32) <<< (nI f &&& 31))
theorem zx_restrictTo {post : SX → Prop} {P : Nat} (C : zx_C N S a_kinds a_args a_first a_second a_depth) (HM : zx_M N S a_kinds a_mv) (hP : P < 2) (hch : ∀ i, ∃ k, k < 5 ∧ a_choice i = nI k)
    (K : ∀ M, (∀ n s, n < N → s < S → (((zc_own a_kinds a_args a_atomSet) (n, s) = P → zx_RT P (a_sets (224 + n)) (a_choice (n * 5 + s)) s (a_mv (n * 5 + s)) (M (n * 5 + s))) ∧ ((zc_own a_kinds a_args a_atomSet) (n, s) ≠ P → M (n * 5 + s) = a_mv (n * 5 + s)))) → post ((nI S), f_room, (nI N), f_solved, f_playMode, f_pathLen, f_forceBase, f_outRow, f_badRow, f_reachRow, a_linkSet, a_atomSet, a_kinds, a_args, a_parent, a_kids, a_first, a_second, a_depth, a_pins, a_win, a_path, M, a_choice, a_ranks, a_sets)) :
    wpX_restrictTo post ((nI S), f_room, (nI N), f_solved, f_playMode, f_pathLen, f_forceBase, f_outRow, f_badRow, f_reachRow, a_linkSet, a_atomSet, a_kinds, a_args, a_parent, a_kids, a_first, a_second, a_depth, a_pins, a_win, a_path, a_mv, a_choice, a_ranks, a_sets) (nI P) := by
  have hN := C.1.1
  have hS := C.1.2
  have inner : ∀ (J2 : Int32 → (Nat → Int32) → (Nat → Int32) → (Nat → Int32) → (Nat → Int32) → (Nat → Int32) → (Nat → Int32) → (Nat → Int32) → (Nat → Int32) → (Nat → Int32) → (Nat → Int32) → (Nat → Int32) → (Nat → Int32) → (Nat → Int32) → (Nat → Int32) → (Nat → Int32) → (Nat → Int32) → Prop) (n : Nat), n < N → (∀ M, (∀ n' s', n' < N → s' < S → ((n' < n + 1) → (((zc_own a_kinds a_args a_atomSet) (n', s') = P → zx_RT P (a_sets (224 + n')) (a_choice (n' * 5 + s')) s' (a_mv (n' * 5 + s')) (M (n' * 5 + s'))) ∧ ((zc_own a_kinds a_args a_atomSet) (n', s') ≠ P → M (n' * 5 + s') = a_mv (n' * 5 + s')))) ∧ (¬ n' < n + 1 → M (n' * 5 + s') = a_mv (n' * 5 + s'))) → J2 (nI (n + 1)) a_linkSet a_atomSet a_kinds a_args a_parent a_kids a_first a_second a_depth a_pins a_win a_path M a_choice a_ranks a_sets) →
      ∀ d s, s + d = S → ∀ M, (∀ n' s', n' < N → s' < S → ((n' < n ∨ (n' = n ∧ s' < s)) → (((zc_own a_kinds a_args a_atomSet) (n', s') = P → zx_RT P (a_sets (224 + n')) (a_choice (n' * 5 + s')) s' (a_mv (n' * 5 + s')) (M (n' * 5 + s'))) ∧ ((zc_own a_kinds a_args a_atomSet) (n', s') ≠ P → M (n' * 5 + s') = a_mv (n' * 5 + s')))) ∧ (¬ (n' < n ∨ (n' = n ∧ s' < s)) → M (n' * 5 + s') = a_mv (n' * 5 + s'))) → wX_restrictTo_12 post J2 (nI P) (nI n) (nI S) f_room (nI N) f_solved f_playMode f_pathLen f_forceBase f_outRow f_badRow f_reachRow (d + 1) (nI s) a_linkSet a_atomSet a_kinds a_args a_parent a_kids a_first a_second a_depth a_pins a_win a_path M a_choice a_ranks a_sets := by
    intro J2 n hn KJ d
    induction d with
    | zero =>
      intro s hs M hM
      have e : s = S := by omega
      subst e
      exact br_t (nI_le (Nat.le_refl _) (by omega)) (nm_r (nI_1 n) (KJ M (fun n' s' h1 h2 => ⟨fun h3 => (hM n' s' h1 h2).1 (by omega), fun h3 => (hM n' s' h1 h2).2 (by omega)⟩)))
    | succ d ih =>
      intro s hs M hM
      have hsS : s < S := by omega
      have cur : M (n * 5 + s) = a_mv (n * 5 + s) := (hM n s hn hsS).2 (by omega)
      have ho := zx_own_lt a_kinds a_args a_atomSet (n, s)
      -- going on with a value that fits
      have go : ∀ M', (∀ i, i ≠ n * 5 + s → M' i = M i) → (((zc_own a_kinds a_args a_atomSet) (n, s) = P → zx_RT P (a_sets (224 + n)) (a_choice (n * 5 + s)) s (a_mv (n * 5 + s)) (M' (n * 5 + s))) ∧ ((zc_own a_kinds a_args a_atomSet) (n, s) ≠ P → M' (n * 5 + s) = a_mv (n * 5 + s))) → wX_restrictTo_12 post J2 (nI P) (nI n) (nI S) f_room (nI N) f_solved f_playMode f_pathLen f_forceBase f_outRow f_badRow f_reachRow (d + 1) (nI (s + 1)) a_linkSet a_atomSet a_kinds a_args a_parent a_kids a_first a_second a_depth a_pins a_win a_path M' a_choice a_ranks a_sets := by
        intro M' hM' hv
        refine ih (s + 1) (by omega) M' (fun n' s' h1 h2 => ?_)
        by_cases e : n' * 5 + s' = n * 5 + s
        · have e1 : n' = n := by omega
          have e2 : s' = s := by omega
          subst e1 e2
          exact ⟨fun _ => hv, fun z => absurd (Or.inr ⟨rfl, by omega⟩) z⟩
        · rw [hM' _ e]
          exact ⟨fun h3 => (hM n' s' h1 h2).1 (by omega), fun h3 => (hM n' s' h1 h2).2 (by omega)⟩
      refine br_f (nI_ge hsS (by omega)) (nm_r (zi_5 n s) ⟨zi_in (by omega) (by omega), ?_⟩)
      rw [zi_c (by omega), cur]
      refine nm_e ?_
      by_cases hz : a_mv (n * 5 + s) = 0
      · refine br_t hz (nm_r (nI_1 s) (go M (fun _ _ => rfl) ⟨fun _ => Or.inl ⟨hz, cur.trans hz⟩, fun _ => cur⟩))
      · refine br_f hz (zx_own C hn hsS ?_)
        by_cases hq : (zc_own a_kinds a_args a_atomSet) (n, s) = P
        · refine br_t (by rw [hq]) ?_
          have fin : ∀ f, f < 5 → bt (a_mv (n * 5 + s)) f = true → ((P = 0 ↔ bt (a_sets (224 + n)) s = true) → bt (a_mv (n * 5 + s)) (a_choice (n * 5 + s)).toNatClampNeg = true → f = (a_choice (n * 5 + s)).toNatClampNeg) → wX_restrictTo_113 post J2 (wX_restrictTo_12 post J2 (nI P) (nI n) (nI S) f_room (nI N) f_solved f_playMode f_pathLen f_forceBase f_outRow f_badRow f_reachRow (d + 1)) (nI P) (nI n) (nI s) (nI (n * 5 + s)) (nI f) (nI S) f_room (nI N) f_solved f_playMode f_pathLen f_forceBase f_outRow f_badRow f_reachRow a_linkSet a_atomSet a_kinds a_args a_parent a_kids a_first a_second a_depth a_pins a_win a_path M a_choice a_ranks a_sets := by
            intro f hf hb hc
            refine And.intro (zi_in (by omega) (by omega)) ?_
            rw [zi_c (by omega)]
            refine nm_e (nm_r (nI_1 s) (go _ (fun i hi => pk_un hi) ⟨fun _ => Or.inr ⟨f, hf, hb, hc, pk_us⟩, fun z => absurd hq z⟩))
          obtain ⟨c, hc5, hce⟩ := hch (n * 5 + s)
          have hcc : (a_choice (n * 5 + s)).toNatClampNeg = c := by rw [hce, zi_c (by omega)]
          have lbk : ∀ k, k < 5 → bt (a_mv (n * 5 + s)) k = true → (vp_in (224 + nI n) 266 ∧ ((((a_sets (224 + nI n).toNatClampNeg) >>> (nI s &&& 31)) &&& 1 = nI P → wX_restrictTo_82 post J2 (wX_restrictTo_12 post J2 (nI P) (nI n) (nI S) f_room (nI N) f_solved f_playMode f_pathLen f_forceBase f_outRow f_badRow f_reachRow (d + 1)) (nI P) (nI n) (nI s) (nI (n * 5 + s)) (a_mv (n * 5 + s)) (nI k) 0 (nI S) f_room (nI N) f_solved f_playMode f_pathLen f_forceBase f_outRow f_badRow f_reachRow a_linkSet a_atomSet a_kinds a_args a_parent a_kids a_first a_second a_depth a_pins a_win a_path M a_choice a_ranks a_sets) ∧ (¬ ((a_sets (224 + nI n).toNatClampNeg) >>> (nI s &&& 31)) &&& 1 = nI P → wX_restrictTo_82 post J2 (wX_restrictTo_12 post J2 (nI P) (nI n) (nI S) f_room (nI N) f_solved f_playMode f_pathLen f_forceBase f_outRow f_badRow f_reachRow (d + 1)) (nI P) (nI n) (nI s) (nI (n * 5 + s)) (a_mv (n * 5 + s)) (nI k) 1 (nI S) f_room (nI N) f_solved f_playMode f_pathLen f_forceBase f_outRow f_badRow f_reachRow a_linkSet a_atomSet a_kinds a_args a_parent a_kids a_first a_second a_depth a_pins a_win a_path M a_choice a_ranks a_sets))) := by
            intro k hk hb
            rw [show (224 : Int32) + nI n = nI (224 + n) from nI_add 224 n, zi_c (by omega)]
            refine ⟨zi_in (by omega) (by omega), ?_⟩
            have hw : ((a_sets (224 + n)) >>> (nI s &&& 31)) &&& 1 = nI P ↔ ¬ (P = 0 ↔ bt (a_sets (224 + n)) s = true) := by
              rw [zb_sh _ (by omega)]
              have hp2 : P = 0 ∨ P = 1 := by omega
              split
              · rename_i w
                rcases hp2 with e | e
                · subst e; exact ⟨fun z => absurd z (by decide), fun z => absurd ⟨fun _ => w, fun _ => rfl⟩ z⟩
                · subst e; exact ⟨fun _ z => absurd (z.mpr w) (by decide), fun _ => rfl⟩
              · rename_i w
                rcases hp2 with e | e
                · subst e; exact ⟨fun _ z => absurd (z.mp rfl) w, fun _ => rfl⟩
                · subst e; exact ⟨fun z => absurd z (by decide), fun z => absurd ⟨fun u => absurd u (by decide), fun u => absurd u w⟩ z⟩
            by_cases hwon : (P = 0 ↔ bt (a_sets (224 + n)) s = true)
            · refine br_f (fun z => hw.mp z hwon) (br_f (by decide) ?_)
              rw [zi_c (by omega), hce]
              refine ⟨zi_in (by omega) (by omega), ?_⟩
              by_cases hbc : bt (a_mv (n * 5 + s)) c = true
              · refine br_f (fun z => (zb_sh0 _ (by omega)).mp z hbc) ⟨zi_in (by omega) (by omega), nm_e ?_⟩
                exact fin c hc5 hbc (fun _ _ => hcc.symm)
              · refine br_t ((zb_sh0 _ (by omega)).mpr hbc) (fin k hk hb (fun _ z => ?_))
                rw [hcc] at z; exact absurd z hbc
            · exact br_t (hw.mpr hwon) (br_t rfl (fin k hk hb (fun z => absurd z hwon)))
          refine zx_lb (fun k hk hb _ => lbk k hk hb) (fun hno => ?_)
          obtain ⟨i, hi, hb⟩ := zb_nz hz
          exact absurd hb (hno i (zx_M5 hS HM hn hsS hb))
        · refine br_f (fun z => hq ((nI_eq (by omega) (by omega)).mp z)) (nm_r (nI_1 s) (go M (fun _ _ => rfl) ⟨fun z => absurd z hq, fun _ => cur⟩))
  have main : ∀ d j, j + d = N → ∀ M, (∀ n' s', n' < N → s' < S → ((n' < j) → (((zc_own a_kinds a_args a_atomSet) (n', s') = P → zx_RT P (a_sets (224 + n')) (a_choice (n' * 5 + s')) s' (a_mv (n' * 5 + s')) (M (n' * 5 + s'))) ∧ ((zc_own a_kinds a_args a_atomSet) (n', s') ≠ P → M (n' * 5 + s') = a_mv (n' * 5 + s')))) ∧ (¬ n' < j → M (n' * 5 + s') = a_mv (n' * 5 + s'))) → wX_restrictTo_2 post (nI P) (nI S) f_room (nI N) f_solved f_playMode f_pathLen f_forceBase f_outRow f_badRow f_reachRow (d + 1) (nI j) a_linkSet a_atomSet a_kinds a_args a_parent a_kids a_first a_second a_depth a_pins a_win a_path M a_choice a_ranks a_sets := by
    intro d
    induction d with
    | zero =>
      intro j hj M hM
      have e : j = N := by omega
      subst e
      exact br_t (nI_le (Nat.le_refl _) (by omega)) (K M (fun n s hn hs => (hM n s hn hs).1 hn))
    | succ d ih =>
      intro j hj M hM
      exact br_f (nI_ge (by omega) (by omega)) ⟨S + 1, inner _ j (by omega) (fun M' hM' => ih (j + 1) (by omega) M' hM') S 0 (by omega) M (fun n' s' h1 h2 => ⟨fun h3 => (hM n' s' h1 h2).1 (by omega), fun h3 => (hM n' s' h1 h2).2 (by omega)⟩)⟩
  exact ⟨N + 1, main N 0 (by omega) a_mv (fun n' s' _ _ => ⟨fun h => absurd h (by omega), fun _ => rfl⟩)⟩
theorem zx_bits {post : Int32 → Prop} {x : Int32} (h : post (zb_s x 5)) : wpX_bits post ((nI S), f_room, (nI N), f_solved, f_playMode, f_pathLen, f_forceBase, f_outRow, f_badRow, f_reachRow, a_linkSet, a_atomSet, a_kinds, a_args, a_parent, a_kids, a_first, a_second, a_depth, a_pins, a_win, a_path, a_mv, a_choice, a_ranks, a_sets) x := by
  have main : ∀ d j, j + d = 5 → wX_bits_4 post x (nI S) f_room (nI N) f_solved f_playMode f_pathLen f_forceBase f_outRow f_badRow f_reachRow a_linkSet a_atomSet a_kinds a_args a_parent a_kids a_first a_second a_depth a_pins a_win a_path a_mv a_choice a_ranks a_sets (d + 1) (zb_s x j) (nI j) := by
    intro d
    induction d with
    | zero =>
      intro j hj
      have e : j = 5 := by omega
      subst e
      exact br_t (by decide) h
    | succ d ih =>
      intro j hj
      exact br_f (nI_ge (b := 5) (by omega) (by decide)) (nm_e (nm_r (nI_1 j) (ih (j + 1) (by omega))))
  exact ⟨6, main 5 0 rfl⟩
end
end
section
/-! ===== the formula: a tree entered in order ===== -/
noncomputable def zf_ct (Pa : Nat → Int32) (n j : Nat) : Nat := pg_cnt (fun k => n < k ∧ Pa k = nI n) j
def zf_ar (k : Int32) : Nat := if k = 3 ∨ k = 4 then 2 else if k = 5 ∨ k = 6 ∨ k = 7 ∨ k = 8 then 1 else 0
def zf_b (K : Nat → Int32) (n : Nat) : Nat := if K n = 7 ∨ K n = 8 then 1 else 0
abbrev zf_Ch (N : Nat) (Pa : Nat → Int32) (n i c : Nat) : Prop := n < c ∧ c < N ∧ Pa c = nI n ∧ zf_ct Pa n c = i
abbrev zf_Var (K Ar Pa F Dp : Nat → Int32) (n : Nat) : Prop := ∃ a b, a < 4 ∧ Ar n = nI a ∧ F n = nI b ∧ b < n ∧ zc_bd K b ∧ Relation.TransGen (zc_par Pa) n b ∧ zc_dep Dp b + 1 + a = zc_dep Dp n
/-- the formula as both sides hold it (K, Ar, Pa) and X's tables on it -/
abbrev zf_F (N : Nat) (K Ar Pa Kd F G Dp : Nat → Int32) : Prop :=
  N ≤ 14 ∧ zr_K N K Ar ∧
  (∀ n, n < N → K n = 9 → zf_Var K Ar Pa F Dp n) ∧
  (∀ n, n < N → (n = 0 → Pa n = -1) ∧ (0 < n → ∃ q, q < n ∧ Pa n = nI q)) ∧
  (∀ n, n < N → Kd n = nI (zf_ct Pa n N) ∧ zf_ct Pa n N ≤ zf_ar (K n)) ∧
  (∀ n, n < N → (∃ c, c < 14 ∧ F n = nI c) ∧ (∃ c, c < 14 ∧ G n = nI c)) ∧
  (∀ n, n < N → ¬ K n = 9 → (1 ≤ zf_ct Pa n N → ∃ c, F n = nI c ∧ zf_Ch N Pa n 0 c) ∧ (2 ≤ zf_ct Pa n N → ∃ c, G n = nI c ∧ zf_Ch N Pa n 1 c)) ∧
  (∀ n, n < N → ∃ d, d < 4 ∧ Dp n = nI d ∧ (n = 0 → d = 0) ∧ (zc_bd K n → d < 3) ∧ ∀ q, q < n → Pa n = nI q → d = zc_dep Dp q + zf_b K q)
abbrev zf_Cpl (N : Nat) (K Pa : Nat → Int32) : Prop := 0 < N ∧ ∀ n, n < N → zf_ct Pa n N = zf_ar (K n)
theorem zf_par_lt {Pa : Nat → Int32} {x y : Nat} (h : Relation.TransGen (zc_par Pa) x y) : y < x := by
  induction h with
  | single e => exact e.1
  | tail _ e ih => exact Nat.lt_trans e.1 ih
theorem zf_par_cmp {Pa : Nat → Int32} {x y z : Nat} (h : Relation.TransGen (zc_par Pa) x y) (g : Relation.TransGen (zc_par Pa) x z) : y = z ∨ Relation.TransGen (zc_par Pa) y z ∨ Relation.TransGen (zc_par Pa) z y := by
  have fn : ∀ a b c, zc_par Pa a b → zc_par Pa a c → b = c := by
    rintro a b c ⟨h1, h2, h3⟩ ⟨g1, g2, g3⟩
    exact (nI_eq (by omega) (by omega)).mp (h3.symm.trans g3)
  induction h with
  | single e =>
    obtain ⟨w, hw, h⟩ := zx_head g
    have := fn _ _ _ e hw
    rw [this]
    rcases h with h | h
    · exact Or.inl h
    · exact Or.inr (Or.inl h)
  | tail hh e ih =>
    rename_i b c
    rcases ih with i | i | i
    · rw [← i]; exact Or.inr (Or.inr (.single e))
    · obtain ⟨w, hw, h⟩ := zx_head i
      have := fn _ _ _ e hw
      rw [this]
      rcases h with h | h
      · exact Or.inl h
      · exact Or.inr (Or.inl h)
    · exact Or.inr (Or.inr (.tail i e))
theorem zf_b_le (K : Nat → Int32) (n : Nat) : zf_b K n ≤ 1 := by unfold zf_b; split <;> omega
theorem zf_b1 {K : Nat → Int32} {n : Nat} (h : zc_bd K n) : zf_b K n = 1 := if_pos h
theorem zf_b0 {K : Nat → Int32} {n : Nat} (h : ¬ zc_bd K n) : zf_b K n = 0 := if_neg h
section
variable {N S : Nat} {K Ar Pa Kd F G Dp Lk At Pn : Nat → Int32}
theorem zf_depth (h : zf_F N K Ar Pa Kd F G Dp) {n q : Nat} (hn : n < N) (hp : zc_par Pa n q) : zc_dep Dp n = zc_dep Dp q + zf_b K q := by
  obtain ⟨hN, _, _, _, _, _, _, h8⟩ := h
  obtain ⟨d, d1, d2, _, _, d5⟩ := h8 n hn
  show (Dp n).toNatClampNeg = _
  rw [d2, zi_c (by omega)]
  exact d5 q hp.1 hp.2.2
theorem zf_anc_dep (h : zf_F N K Ar Pa Kd F G Dp) {n b : Nat} (hn : n < N) (hp : Relation.TransGen (zc_par Pa) n b) : zc_dep Dp b + zf_b K b ≤ zc_dep Dp n := by
  induction hp with
  | single e => exact Nat.le_of_eq (zf_depth h hn e).symm
  | tail hh e ih =>
    rename_i y x
    have := zf_depth h (Nat.lt_trans (zf_par_lt hh) hn) e
    omega
theorem zf_C (h : zf_F N K Ar Pa Kd F G Dp) (hS : S ≤ 5) : zx_C N S K Ar F G Dp := by
  obtain ⟨hN, h1, h2, h3, h4, h5, h6, h8⟩ := h
  refine ⟨⟨hN, hS⟩, fun n hn => (h5 n hn).1, fun n hn => (h5 n hn).2, fun n hn hk => ?_, fun n hn => ?_⟩
  · rcases (h1 n hn).2.1 hk with e | e
    · exact ⟨0, by omega, e⟩
    · exact ⟨1, by omega, e⟩
  · obtain ⟨d, d1, d2, _⟩ := h8 n hn
    exact ⟨d, d1, d2⟩
theorem zf_own2 (h : zr_K N K Ar) {n s : Nat} (hn : n < N) : zc_own K Ar At (n, s) = 2 ↔ (K n = 7 ∨ K n = 8 ∨ K n = 9) := by
  have sim : ∀ v, K n = v → zc_own K Ar At (n, s) = (if v = 4 ∨ v = 5 then 0 else if v = 3 ∨ v = 6 then 1 else if v = 1 then (if bt (At s) (Ar n).toNatClampNeg = true then 1 else 0) else if v = 2 then (if bt (At s) (Ar n).toNatClampNeg = true then 0 else 1) else 2) := fun v hv => by subst hv; rfl
  rcases zr_kcases h hn with k | k | k | k | k | k | k | k | k <;> rw [sim _ k, k]
  all_goals (generalize bt (At s) (Ar n).toNatClampNeg = q; revert q; decide)
theorem zf_lgM (h : zf_F N K Ar Pa Kd F G Dp) (hL : zr_L S Lk) {n s m : Nat} (hm : zc_am K Ar Lk (n, s) m) : ((K n = 5 ∨ K n = 6) ∧ m < S) ∨ ((K n = 3 ∨ K n = 4) ∧ m < 2) ∨ ((K n = 7 ∨ K n = 8 ∨ K n = 9) ∧ m = 0) := by
  rcases hm with z | z | z
  · exact Or.inr (Or.inl z)
  · refine Or.inl ⟨z.1, ?_⟩
    rcases z.2 with w | w
    · exact hL _ _ w.2
    · exact hL _ _ w.2
  · exact Or.inr (Or.inr z)
/-- where a move leads -/
theorem zf_step (h : zf_F N K Ar Pa Kd F G Dp) (hc : zf_Cpl N K Pa) (hL : zr_L S Lk) {n s m : Nat} (hn : n < N) (hs : s < S) (hm : zc_am K Ar Lk (n, s) m) :
    (zc_nx K F G (n, s) m).2 < S ∧ (K n = 9 → F n = nI (zc_nx K F G (n, s) m).1 ∧ (zc_nx K F G (n, s) m).1 < n) ∧
    (¬ K n = 9 → zf_Ch N Pa n (if K n = 3 ∨ K n = 4 then m else 0) (zc_nx K F G (n, s) m).1) := by
  obtain ⟨hN, h1, h2, h3, h4, h5, h6, h8⟩ := h
  have far : ∀ c, c < N → (nI c).toNatClampNeg = c := fun c hc => zi_c (by omega)
  have one : ¬ K n = 9 → 1 ≤ zf_ct Pa n N → (F n).toNatClampNeg < N ∧ zf_Ch N Pa n 0 (F n).toNatClampNeg := by
    intro k9 hct
    obtain ⟨c, e, hch⟩ := (h6 n hn k9).1 hct
    rw [e, far c hch.2.1]
    exact ⟨hch.2.1, hch⟩
  have ne : ∀ {i j : Int32}, i ≠ j → K n = i → ¬ K n = j := fun hij e e' => hij (e.symm.trans e')
  have ar : ∀ v, K n = v → zf_ct Pa n N = zf_ar v := fun v hv => by rw [hc.2 n hn, hv]
  rcases hm with ⟨k, hm⟩ | ⟨k, hm⟩ | ⟨k, hm⟩
  · change K n = 3 ∨ K n = 4 at k
    have k9 : ¬ K n = 9 := by rcases k with k | k <;> exact ne (by decide) k
    have k56 : ¬ (K n = 5 ∨ K n = 6) := by rcases k with k | k <;> exact fun z => z.elim (ne (by decide) k) (ne (by decide) k)
    have ct2 : zf_ct Pa n N = 2 := by rcases k with k | k <;> exact ar _ k
    refine ⟨?_, fun z => absurd z k9, fun _ => ?_⟩
    · by_cases e : m = 1
      · rw [zc_nx_1 k e]; exact hs
      · rw [zc_nx_0 k56 (fun z => e z.1)]; exact hs
    · rw [if_pos k]
      by_cases e : m = 1
      · rw [zc_nx_1 k e]
        obtain ⟨c, e', hch⟩ := (h6 n hn k9).2 (by omega)
        show zf_Ch N Pa n m (G n).toNatClampNeg
        rw [e', far c hch.2.1, e]
        exact hch
      · rw [zc_nx_0 k56 (fun z => e z.1)]
        have e0 : m = 0 := by omega
        rw [e0]
        exact (one k9 (by omega)).2
  · change K n = 5 ∨ K n = 6 at k
    have k9 : ¬ K n = 9 := by rcases k with k | k <;> exact ne (by decide) k
    have k34 : ¬ (K n = 3 ∨ K n = 4) := by rcases k with k | k <;> exact fun z => z.elim (ne (by decide) k) (ne (by decide) k)
    have ct1 : zf_ct Pa n N = 1 := by rcases k with k | k <;> exact ar _ k
    rw [zc_nx_d k, if_neg k34]
    refine ⟨?_, fun z => absurd z k9, fun _ => (one k9 (by omega)).2⟩
    rcases hm with w | w
    · exact hL _ _ w.2
    · exact hL _ _ w.2
  · change K n = 7 ∨ K n = 8 ∨ K n = 9 at k
    have k34 : ¬ (K n = 3 ∨ K n = 4) := by rcases k with k | k | k <;> exact fun z => z.elim (ne (by decide) k) (ne (by decide) k)
    have k56 : ¬ (K n = 5 ∨ K n = 6) := by rcases k with k | k | k <;> exact fun z => z.elim (ne (by decide) k) (ne (by decide) k)
    rw [zc_nx_0 k56 (fun z => k34 z.2), if_neg k34]
    refine ⟨hs, fun k9 => ?_, fun k9 => ?_⟩
    · obtain ⟨a, b, ha, _, e, hb, _⟩ := h2 n hn k9
      show F n = nI (F n).toNatClampNeg ∧ (F n).toNatClampNeg < n
      rw [e, far b (by omega)]
      exact ⟨rfl, hb⟩
    · have ct1 : zf_ct Pa n N = 1 := by
        rcases k with k | k | k
        · exact ar _ k
        · exact ar _ k
        · exact absurd k k9
      exact (one k9 (by omega)).2
theorem zf_St (h : zf_F N K Ar Pa Kd F G Dp) (hc : zf_Cpl N K Pa) (hS2 : 2 ≤ S) (hS : S ≤ 5) (hL : zr_L S Lk) (hP : zr_P N S K Ar Lk Pn) :
    pg_St N S (zc_nx K F G) (zc_vr K) (zc_bd K) (zc_dep Dp) (zc_anc Pa) (zc_lg K Ar Lk Pn) (zc_own K Ar At) (zc_bk K) := by
  have h' := h
  obtain ⟨hN, h1, h2, h3, h4, h5, h6, h8⟩ := h'
  refine ⟨?_, ?_, ?_, fun b => Or.inl rfl, ?_, ?_, ?_, ?_, ?_, ?_, ?_⟩
  · rintro ⟨n, s⟩ m hd hm
    obtain ⟨a, b, c⟩ := zf_step (G := G) h hc hL hd.1 hd.2 hm.1
    refine ⟨?_, a⟩
    by_cases k9 : K n = 9
    · exact Nat.lt_trans (b k9).2 hd.1
    · exact (c k9).2.1
  · rintro ⟨n, s⟩ m hd hm hv
    obtain ⟨a, b, c⟩ := zf_step (G := G) h hc hL hd.1 hd.2 hm.1
    have hch := c hv
    have hpar : zc_par Pa (zc_nx K F G (n, s) m).1 n := ⟨hch.1, Nat.lt_of_lt_of_le hch.2.1 hN, hch.2.2.1⟩
    refine ⟨hch.1, fun x hx => Or.inr ?_⟩
    rcases hx with hx | hx
    · rw [hx]; exact .single hpar
    · exact (Relation.TransGen.single hpar).trans hx
  · rintro ⟨n, s⟩ m hd hm hv
    obtain ⟨a, b, c⟩ := zf_step (G := G) h hc hL hd.1 hd.2 hm.1
    obtain ⟨e1, e2⟩ := b hv
    obtain ⟨a', b', ha', _, e3, hb', hbd, htr, _⟩ := h2 n hd.1 hv
    have hdn : n < N := hd.1
    have eb : (zc_nx K F G (n, s) m).1 = b' := (nI_eq (Nat.lt_trans e2 (by omega)) (by omega)).mp (e1.symm.trans e3)
    rw [eb]
    refine ⟨hbd, fun x hx => ?_⟩
    rcases hx with hx | hx
    · change x = n at hx
      subst hx
      exact ⟨fun z => absurd z (by omega), fun _ => Or.inr htr⟩
    · change Relation.TransGen (zc_par Pa) n x at hx
      rcases zf_par_cmp hx htr with z | z | z
      · exact ⟨fun _ => Or.inl z, fun _ => Or.inl z.symm⟩
      · have := zf_par_lt z
        exact ⟨fun w => absurd w (by omega), fun _ => Or.inr z⟩
      · have := zf_par_lt z
        exact ⟨fun _ => Or.inr z, fun w => absurd w (by omega)⟩
  · intro b n hn ha hne hb _
    rcases ha with e | e
    · exact absurd e hne
    · have := zf_anc_dep h hn e
      rw [zf_b1 hb] at this
      omega
  · intro n hn hb
    obtain ⟨d, d1, d2, _, d4, _⟩ := h8 n hn
    show (Dp n).toNatClampNeg < 3
    rw [d2, zi_c (by omega)]
    exact d4 hb
  · rintro ⟨n, s⟩ hd ho m
    have k := (zf_own2 h1 hd.1).mp ho
    have ne : ∀ {i j : Int32}, i ≠ j → K n = i → ¬ K n = j := fun hij e e' => hij (e.symm.trans e')
    constructor
    · rintro ⟨z | z | z, _⟩
      · rcases k with k | k | k <;> exact absurd z.1 (fun w => w.elim (ne (by decide) k) (ne (by decide) k))
      · rcases k with k | k | k <;> exact absurd z.1 (fun w => w.elim (ne (by decide) k) (ne (by decide) k))
      · exact z.2
    · intro e
      refine ⟨Or.inr (Or.inr ⟨k, e⟩), ?_⟩
      rcases hP n s hd.1 hd.2 with z | ⟨_, _, ⟨z1, z2⟩, _⟩
      · exact Or.inl z
      · exfalso
        rcases k with k | k | k <;> rw [k] at z2 <;> exact absurd z2 (by decide)
  · rintro ⟨n, s⟩ hd hv
    refine (zf_own2 h1 hd.1).mpr ?_
    rcases hv with hv | hv | hv
    · exact Or.inr (Or.inr hv)
    · exact Or.inl hv
    · exact Or.inr (Or.inl hv)
  · intro n
    constructor
    · rintro (z | z)
      · exact Or.inl (Or.inl ⟨rfl, z⟩)
      · exact Or.inr (Or.inr ⟨by decide, z⟩)
    · rintro (z | z)
      · exact z.elim (fun w => Or.inl w.2) (fun w => absurd rfl w.1)
      · exact z.elim (fun w => absurd w.1 (by decide)) (fun w => Or.inr w.2)
  · rintro n ⟨z, w⟩
    have a : K n = 7 := z.elim (fun u => u.2) (fun u => absurd rfl u.1)
    have b : K n = 8 := w.elim (fun u => absurd u.1 (by decide)) (fun u => u.2)
    exact absurd (a.symm.trans b) (by decide)
  · rintro p _
    have := zx_own_lt K Ar At p
    omega
end
end
section
/-! ===== X and Y: open nodes, children, binders ===== -/
theorem zf_ct_s (Pa : Nat → Int32) (n k : Nat) : zf_ct Pa n (k + 1) = zf_ct Pa n k + pg_b (n < k ∧ Pa k = nI n) := rfl
theorem zf_ct_t {Pa : Nat → Int32} {n k : Nat} (h1 : n < k) (h2 : Pa k = nI n) : zf_ct Pa n (k + 1) = zf_ct Pa n k + 1 := by rw [zf_ct_s, pg_b1 ⟨h1, h2⟩]
theorem zf_ct_f {Pa : Nat → Int32} {n k : Nat} (h : ¬ (n < k ∧ Pa k = nI n)) : zf_ct Pa n (k + 1) = zf_ct Pa n k := by rw [zf_ct_s, pg_b0 h]; rfl
theorem zf_ct_0 (Pa : Nat → Int32) (n : Nat) : ∀ k, k ≤ n + 1 → zf_ct Pa n k = 0
  | 0, _ => rfl
  | k + 1, h => by rw [zf_ct_f (fun z => by omega)]; exact zf_ct_0 Pa n k (by omega)
theorem zf_ct_mono (Pa : Nat → Int32) (n j : Nat) : ∀ d, zf_ct Pa n j ≤ zf_ct Pa n (j + d)
  | 0 => Nat.le_refl _
  | d + 1 => Nat.le_trans (zf_ct_mono Pa n j d) (by rw [← Nat.add_assoc, zf_ct_s]; exact Nat.le_add_right _ _)
theorem zf_ct_lt {Pa : Nat → Int32} {n : Nat} : ∀ k, zf_ct Pa n k ≤ k
  | 0 => Nat.le_refl _
  | k + 1 => by
    have := zf_ct_lt (Pa := Pa) (n := n) k
    have b := pg_ble (n < k ∧ Pa k = nI n)
    rw [zf_ct_s]; omega
theorem zf_ar_le (k : Int32) : zf_ar k ≤ 2 := by unfold zf_ar; repeat' split
                                                 all_goals omega
/-- open, closed -/
abbrev zf_op (N : Nat) (K Pa : Nat → Int32) (n : Nat) : Prop := zf_ct Pa n N < zf_ar (K n)
section
variable {N S : Nat}
variable {f_room f_solved f_playMode f_pathLen f_forceBase f_outRow f_badRow f_reachRow : Int32} {a_linkSet a_atomSet a_kinds a_args a_parent a_kids a_first a_second a_depth a_pins a_win a_path a_mv a_choice a_ranks a_sets : Nat → Int32}
variable {g_nMax g_solved g_playNow g_pathLen : Int32} {b_link b_atom b_kind b_arg b_parent b_pins b_path b_set b_stand : Nat → Int32}
theorem zx_arity {post : Int32 → Prop} {k : Nat} (h1 : 1 ≤ k) (h9 : k ≤ 9) (h : post (nI (zf_ar (nI k)))) : wpX_arity post ((nI S), f_room, (nI N), f_solved, f_playMode, f_pathLen, f_forceBase, f_outRow, f_badRow, f_reachRow, a_linkSet, a_atomSet, a_kinds, a_args, a_parent, a_kids, a_first, a_second, a_depth, a_pins, a_win, a_path, a_mv, a_choice, a_ranks, a_sets) (nI k) := by
  have : k = 1 ∨ k = 2 ∨ k = 3 ∨ k = 4 ∨ k = 5 ∨ k = 6 ∨ k = 7 ∨ k = 8 ∨ k = 9 := by omega
  rcases this with rfl | rfl | rfl | rfl | rfl | rfl | rfl | rfl | rfl
  · exact br_f (by decide) (br_f (by decide) (br_t (by decide) h))
  · exact br_f (by decide) (br_f (by decide) (br_t (by decide) h))
  · exact br_t (by decide) h
  · exact br_f (by decide) (br_t (by decide) h)
  · exact br_f (by decide) (br_f (by decide) (br_f (by decide) (br_f (by decide) h)))
  · exact br_f (by decide) (br_f (by decide) (br_f (by decide) (br_f (by decide) h)))
  · exact br_f (by decide) (br_f (by decide) (br_f (by decide) (br_f (by decide) h)))
  · exact br_f (by decide) (br_f (by decide) (br_f (by decide) (br_f (by decide) h)))
  · exact br_f (by decide) (br_f (by decide) (br_f (by decide) (br_t (by decide) h)))
theorem zy_arity {post : Int32 → Prop} {k : Nat} (h1 : 1 ≤ k) (h9 : k ≤ 9) (h : post (nI (zf_ar (nI k)))) : wpY_arity post ((nI S), g_nMax, (nI N), g_solved, g_playNow, g_pathLen, b_link, b_atom, b_kind, b_arg, b_parent, b_pins, b_path, b_set, b_stand) (nI k) := by
  have : k = 1 ∨ k = 2 ∨ k = 3 ∨ k = 4 ∨ k = 5 ∨ k = 6 ∨ k = 7 ∨ k = 8 ∨ k = 9 := by omega
  rcases this with rfl | rfl | rfl | rfl | rfl | rfl | rfl | rfl | rfl
  · exact br_f (by decide) (br_f (by decide) (br_t (by decide) h))
  · exact br_f (by decide) (br_f (by decide) (br_f (by decide) (br_t (by decide) h)))
  · exact br_t (by decide) h
  · exact br_f (by decide) (br_t (by decide) h)
  · exact br_f (by decide) (br_f (by decide) (br_f (by decide) (br_f (by decide) (br_f (by decide) h))))
  · exact br_f (by decide) (br_f (by decide) (br_f (by decide) (br_f (by decide) (br_f (by decide) h))))
  · exact br_f (by decide) (br_f (by decide) (br_f (by decide) (br_f (by decide) (br_f (by decide) h))))
  · exact br_f (by decide) (br_f (by decide) (br_f (by decide) (br_f (by decide) (br_f (by decide) h))))
  · exact br_f (by decide) (br_f (by decide) (br_f (by decide) (br_f (by decide) (br_t (by decide) h))))
theorem zx_openNode {post : Int32 → Prop} (hN : N ≤ 14) (hK : zr_K N a_kinds a_args) (hkd : ∀ n, n < N → a_kids n = nI (zf_ct a_parent n N))
    (h1 : ∀ n, n < N → zf_op N a_kinds a_parent n → (∀ n', n < n' → n' < N → ¬ zf_op N a_kinds a_parent n') → post (nI n)) (h0 : (∀ n, n < N → ¬ zf_op N a_kinds a_parent n) → post (-1)) : wpX_openNode post ((nI S), f_room, (nI N), f_solved, f_playMode, f_pathLen, f_forceBase, f_outRow, f_badRow, f_reachRow, a_linkSet, a_atomSet, a_kinds, a_args, a_parent, a_kids, a_first, a_second, a_depth, a_pins, a_win, a_path, a_mv, a_choice, a_ranks, a_sets) := by
  have main : ∀ k, k ≤ N → (∀ n', k ≤ n' → n' < N → ¬ zf_op N a_kinds a_parent n') → wX_openNode_7 post (nI S) f_room (nI N) f_solved f_playMode f_pathLen f_forceBase f_outRow f_badRow f_reachRow a_linkSet a_atomSet a_kinds a_args a_parent a_kids a_first a_second a_depth a_pins a_win a_path a_mv a_choice a_ranks a_sets (k + 1) (nI k - 1) := by
    intro k
    induction k with
    | zero =>
      intro _ hc
      exact br_t (by decide) (h0 (fun n hn => hc n (Nat.zero_le _) hn))
    | succ k ih =>
      intro hk hc
      rw [nI_pred]
      obtain ⟨v, v1, v9, ev⟩ := (hK k (by omega)).1
      refine br_f (nI_pos (by omega)) ⟨zi_in (by omega) (by omega), ?_⟩
      rw [zi_c (by omega), ev]
      refine zx_arity v1 v9 ?_
      rw [hkd k (by omega)]
      refine ⟨zi_in (by omega) (by omega), ?_⟩
      have ha := zf_ar_le (nI v)
      have hl := zf_ct_lt (Pa := a_parent) (n := k) N
      by_cases ho : zf_op N a_kinds a_parent k
      · have ho' := ho
        unfold zf_op at ho'
        rw [ev] at ho'
        exact br_f (nI_ge ho' (by omega)) (h1 k (by omega) ho (fun n' a b => hc n' (by omega) b))
      · have ho' := ho
        unfold zf_op at ho'
        rw [ev] at ho'
        refine br_t (nI_le (by omega) (by omega)) (nm_r (zi_dm k) (ih (by omega) (fun n' a b => ?_)))
        by_cases e : n' = k
        · rw [e]; exact ho
        · exact hc n' (by omega) b
  exact nm_e ⟨N + 1, main N (Nat.le_refl _) (fun n' a b => absurd b (by omega))⟩
theorem zy_child {post : Int32 → Prop} {n i : Nat} (hN : N ≤ 14) (hn : n < N) (hi : i < 1000) (h1 : ∀ c, zf_Ch N b_parent n i c → post (nI c)) (h0 : zf_ct b_parent n N ≤ i → post (-1)) : wpY_child post ((nI S), g_nMax, (nI N), g_solved, g_playNow, g_pathLen, b_link, b_atom, b_kind, b_arg, b_parent, b_pins, b_path, b_set, b_stand) (nI n) (nI i) := by
  have main : ∀ d k, k + d = N → n < k → zf_ct b_parent n k ≤ i → wY_child_7 post (nI n) (nI i) (nI S) g_nMax (nI N) g_solved g_playNow g_pathLen b_link b_atom b_kind b_arg b_parent b_pins b_path b_set b_stand (d + 1) (nI (zf_ct b_parent n k)) (nI k) := by
    intro d
    induction d with
    | zero =>
      intro k hk hnk hc
      have e : k = N := by omega
      subst e
      exact br_t (nI_le (Nat.le_refl _) (by omega)) (h0 hc)
    | succ d ih =>
      intro k hk hnk hc
      refine br_f (nI_ge (by omega) (by omega)) ⟨zi_in (by omega) (by omega), ?_⟩
      rw [zi_c (by omega)]
      by_cases hp : b_parent k = nI n
      · refine br_t hp ?_
        by_cases e : zf_ct b_parent n k = i
        · exact br_t (by rw [e]) (h1 k ⟨hnk, by omega, hp, e⟩)
        · have := zf_ct_t hnk hp
          have nx := ih (k + 1) (by omega) (by omega) (by omega)
          rw [this] at nx
          exact br_f (fun z => e ((nI_eq (by omega) (by omega)).mp z)) (nm_r (nI_1 _) (nm_r (nI_1 k) nx))
      · have := zf_ct_f (Pa := b_parent) (n := n) (k := k) (fun z => hp z.2)
        have nx := ih (k + 1) (by omega) (by omega) (by omega)
        rw [this] at nx
        exact br_f hp (nm_r (nI_1 k) nx)
  have z := zf_ct_0 b_parent n (n + 1) (Nat.le_refl _)
  have := main (N - (n + 1)) (n + 1) (by omega) (by omega) (by omega)
  rw [z] at this
  exact nm_r (nI_1 n) ⟨_, this⟩
theorem zy_openNode {post : Int32 → Prop} (hN : N ≤ 14) (hK : zr_K N b_kind b_arg)
    (h1 : ∀ n, n < N → zf_op N b_kind b_parent n → (∀ n', n < n' → n' < N → ¬ zf_op N b_kind b_parent n') → post (nI n)) (h0 : (∀ n, n < N → ¬ zf_op N b_kind b_parent n) → post (-1)) : wpY_openNode post ((nI S), g_nMax, (nI N), g_solved, g_playNow, g_pathLen, b_link, b_atom, b_kind, b_arg, b_parent, b_pins, b_path, b_set, b_stand) := by
  have main : ∀ k, k ≤ N → (∀ n', k ≤ n' → n' < N → ¬ zf_op N b_kind b_parent n') → wY_openNode_7 post (nI S) g_nMax (nI N) g_solved g_playNow g_pathLen b_link b_atom b_kind b_arg b_parent b_pins b_path b_set b_stand (k + 1) (nI k - 1) := by
    intro k
    induction k with
    | zero =>
      intro _ hc
      exact br_t (by decide) (h0 (fun n hn => hc n (Nat.zero_le _) hn))
    | succ k ih =>
      intro hk hc
      rw [nI_pred]
      obtain ⟨v, v1, v9, ev⟩ := (hK k (by omega)).1
      refine br_f (nI_pos (by omega)) ⟨zi_in (by omega) (by omega), ?_⟩
      rw [zi_c (by omega), ev]
      refine zy_arity v1 v9 ?_
      have ha := zf_ar_le (nI v)
      have next : ¬ zf_op N b_kind b_parent k → wY_openNode_7 post (nI S) g_nMax (nI N) g_solved g_playNow g_pathLen b_link b_atom b_kind b_arg b_parent b_pins b_path b_set b_stand (k + 1) (nI k - 1) := fun ho => ih (by omega) (fun n' a b => by
        by_cases e : n' = k
        · rw [e]; exact ho
        · exact hc n' (by omega) b)
      have hop : zf_op N b_kind b_parent k ↔ zf_ct b_parent k N < zf_ar (nI v) := by
        unfold zf_op; rw [ev]
      by_cases hz : zf_ar (nI v) = 0
      · rw [hz]
        refine br_t (by decide) (nm_r (zi_dm k) (next (fun z => ?_)))
        have := hop.mp z
        omega
      · obtain ⟨w, hw⟩ : ∃ w, zf_ar (nI v) = w + 1 := ⟨zf_ar (nI v) - 1, by omega⟩
        rw [hw]
        refine br_f (nI_nle (by omega) (by omega)) ?_
        rw [nI_pred]
        refine zy_child hN (by omega) (by omega) (fun c hc' => ?_) (fun hle => ?_)
        · refine br_t (nI_pos' (by have := hc'.2.1; omega)) (nm_r (zi_dm k) (next (fun z => ?_)))
          have h2 := hop.mp z
          obtain ⟨g1, g2, g3, g4⟩ := hc'
          have g5 := zf_ct_t g1 g3
          have g6 := zf_ct_mono b_parent k (c + 1) (N - (c + 1))
          rw [show c + 1 + (N - (c + 1)) = N by omega] at g6
          omega
        · exact br_f (by decide) (h1 k (by omega) (hop.mpr (by omega)) (fun n' a b => hc n' (by omega) b))
  exact nm_e ⟨N + 1, main N (Nat.le_refl _) (fun n' a b => absurd b (by omega))⟩
theorem zx_complete {post : Int32 → Prop} (hN : N ≤ 14) (hK : zr_K N a_kinds a_args) (hkd : ∀ n, n < N → a_kids n = nI (zf_ct a_parent n N)) (hle : ∀ n, n < N → zf_ct a_parent n N ≤ zf_ar (a_kinds n))
    (h1 : zf_Cpl N a_kinds a_parent → post 1) (h0 : ¬ zf_Cpl N a_kinds a_parent → post 0) : wpX_complete post ((nI S), f_room, (nI N), f_solved, f_playMode, f_pathLen, f_forceBase, f_outRow, f_badRow, f_reachRow, a_linkSet, a_atomSet, a_kinds, a_args, a_parent, a_kids, a_first, a_second, a_depth, a_pins, a_win, a_path, a_mv, a_choice, a_ranks, a_sets) := by
  rcases Nat.eq_zero_or_pos N with e | e
  · subst e
    exact br_t (by decide) (h0 (fun z => by have := z.1; omega))
  · refine br_f (nI_nle e (by omega)) (zx_openNode hN hK hkd (fun n hn ho _ => ?_) (fun hno => ?_))
    · refine br_t (nI_pos' (by omega)) (h0 (fun z => ?_))
      have := z.2 n hn
      unfold zf_op at ho
      omega
    · refine br_f (by decide) (h1 ⟨e, fun n hn => ?_⟩)
      have a := hno n hn
      have b := hle n hn
      unfold zf_op at a
      omega
theorem zy_complete {post : Int32 → Prop} (hN : N ≤ 14) (hK : zr_K N b_kind b_arg) (hle : ∀ n, n < N → zf_ct b_parent n N ≤ zf_ar (b_kind n))
    (h1 : zf_Cpl N b_kind b_parent → post 1) (h0 : ¬ zf_Cpl N b_kind b_parent → post 0) : wpY_complete post ((nI S), g_nMax, (nI N), g_solved, g_playNow, g_pathLen, b_link, b_atom, b_kind, b_arg, b_parent, b_pins, b_path, b_set, b_stand) := by
  rcases Nat.eq_zero_or_pos N with e | e
  · subst e
    exact br_t (by decide) (h0 (fun z => by have := z.1; omega))
  · refine br_f (nI_nle e (by omega)) (zy_openNode hN hK (fun n hn ho _ => ?_) (fun hno => ?_))
    · refine br_t (nI_pos' (by omega)) (h0 (fun z => ?_))
      have := z.2 n hn
      unfold zf_op at ho
      omega
    · refine br_f (by decide) (h1 ⟨e, fun n hn => ?_⟩)
      have a := hno n hn
      have b := hle n hn
      unfold zf_op at a
      omega
theorem zx_isState {post : Int32 → Prop} {x : Int32} (hS : S ≤ 5) (h1 : ∀ s, s < S → x = nI s → post 1) (h0 : (∀ s, s < S → x ≠ nI s) → post 0) : wpX_isState post ((nI S), f_room, (nI N), f_solved, f_playMode, f_pathLen, f_forceBase, f_outRow, f_badRow, f_reachRow, a_linkSet, a_atomSet, a_kinds, a_args, a_parent, a_kids, a_first, a_second, a_depth, a_pins, a_win, a_path, a_mv, a_choice, a_ranks, a_sets) x := by
  by_cases h : x < 0
  · exact br_t h (h0 (fun s hs e => absurd h (by rw [e]; exact nI_pos (by omega))))
  · obtain ⟨j, hj, rfl⟩ := nI_of h
    refine br_f h ?_
    by_cases hl : j < S
    · exact br_f (nI_ge hl (by omega)) (h1 j hl rfl)
    · exact br_t (nI_le (by omega) hj) (h0 (fun s hs e => hl (by rw [(nI_eq hj (by omega)).mp e]; exact hs)))
theorem zy_isState {post : Int32 → Prop} {x : Int32} (hS : S ≤ 5) (h1 : ∀ s, s < S → x = nI s → post 1) (h0 : (∀ s, s < S → x ≠ nI s) → post 0) : wpY_isState post ((nI S), g_nMax, (nI N), g_solved, g_playNow, g_pathLen, b_link, b_atom, b_kind, b_arg, b_parent, b_pins, b_path, b_set, b_stand) x := by
  by_cases h : x < 0
  · exact br_t h (h0 (fun s hs e => absurd h (by rw [e]; exact nI_pos (by omega))))
  · obtain ⟨j, hj, rfl⟩ := nI_of h
    refine br_f h ?_
    by_cases hl : j < S
    · exact br_f (nI_ge hl (by omega)) (h1 j hl rfl)
    · exact br_t (nI_le (by omega) hj) (h0 (fun s hs e => hl (by rw [(nI_eq hj (by omega)).mp e]; exact hs)))
theorem zy_isNode {post : Int32 → Prop} {x : Int32} (hN : N ≤ 14) (h1 : ∀ n, n < N → x = nI n → post 1) (h0 : (∀ n, n < N → x ≠ nI n) → post 0) : wpY_isNode post ((nI S), g_nMax, (nI N), g_solved, g_playNow, g_pathLen, b_link, b_atom, b_kind, b_arg, b_parent, b_pins, b_path, b_set, b_stand) x := by
  by_cases h : x < 0
  · exact br_t h (h0 (fun s hs e => absurd h (by rw [e]; exact nI_pos (by omega))))
  · obtain ⟨j, hj, rfl⟩ := nI_of h
    refine br_f h ?_
    by_cases hl : j < N
    · exact br_f (nI_ge hl (by omega)) (h1 j hl rfl)
    · exact br_t (nI_le (by omega) hj) (h0 (fun s hs e => hl (by rw [(nI_eq hj (by omega)).mp e]; exact hs)))
theorem zx_inGame {post : Int32 → Prop} {x y : Int32} (hN : N ≤ 14) (hS : S ≤ 5) (hK : zr_K N a_kinds a_args) (hkd : ∀ n, n < N → a_kids n = nI (zf_ct a_parent n N)) (hle : ∀ n, n < N → zf_ct a_parent n N ≤ zf_ar (a_kinds n))
    (h1 : ∀ s n, s < S → n < N → x = nI s → y = nI n → zf_Cpl N a_kinds a_parent → post 1) (h0 : (¬ ∃ s n, s < S ∧ n < N ∧ x = nI s ∧ y = nI n ∧ zf_Cpl N a_kinds a_parent) → post 0) : wpX_inGame post ((nI S), f_room, (nI N), f_solved, f_playMode, f_pathLen, f_forceBase, f_outRow, f_badRow, f_reachRow, a_linkSet, a_atomSet, a_kinds, a_args, a_parent, a_kids, a_first, a_second, a_depth, a_pins, a_win, a_path, a_mv, a_choice, a_ranks, a_sets) x y := by
  unfold wpX_inGame
  refine zx_isState hS (fun s hs e => br_f (by decide) ?_) (fun hno => br_t rfl (h0 (fun ⟨s, n, hs, _, e, _⟩ => hno s hs e)))
  by_cases h : y < 0
  · exact br_t h (h0 (fun ⟨s', n, _, hn, _, e', _⟩ => absurd h (by rw [e']; exact nI_pos (by omega))))
  · obtain ⟨j, hj, rfl⟩ := nI_of h
    refine br_f h ?_
    by_cases hl : j < N
    · refine br_f (nI_ge hl (by omega)) (zx_complete hN hK hkd hle (fun hc => br_f (by decide) (h1 s j hs hl e rfl hc)) (fun hc => br_t rfl (h0 (fun ⟨_, _, _, _, _, _, z⟩ => hc z))))
    · exact br_t (nI_le (by omega) hj) (h0 (fun ⟨s', n, _, hn, _, e', _⟩ => hl (by rw [(nI_eq hj (by omega)).mp e']; exact hn)))
theorem zy_isPos {post : Int32 → Prop} {x y : Int32} (hN : N ≤ 14) (hS : S ≤ 5) (hK : zr_K N b_kind b_arg) (hle : ∀ n, n < N → zf_ct b_parent n N ≤ zf_ar (b_kind n))
    (h1 : ∀ s n, s < S → n < N → x = nI s → y = nI n → zf_Cpl N b_kind b_parent → post 1) (h0 : (¬ ∃ s n, s < S ∧ n < N ∧ x = nI s ∧ y = nI n ∧ zf_Cpl N b_kind b_parent) → post 0) : wpY_isPosition post ((nI S), g_nMax, (nI N), g_solved, g_playNow, g_pathLen, b_link, b_atom, b_kind, b_arg, b_parent, b_pins, b_path, b_set, b_stand) x y := by
  unfold wpY_isPosition
  refine zy_complete hN hK hle (fun hc => br_f (by decide) ?_) (fun hc => br_t rfl (h0 (fun ⟨_, _, _, _, _, _, z⟩ => hc z)))
  refine zy_isState hS (fun s hs e => br_f (by decide) ?_) (fun hno => br_t rfl (h0 (fun ⟨s, n, hs, _, e, _⟩ => hno s hs e)))
  exact zy_isNode hN (fun n hn e' => br_f (by decide) (h1 s n hs hn e e' hc)) (fun hno => br_t rfl (h0 (fun ⟨_, n, _, hn, _, e', _⟩ => hno n hn e')))
theorem zy_binder {post : Int32 → Prop} {n : Nat} (hn : n < 14) (h1 : zc_bd b_kind n → post 1) (h0 : ¬ zc_bd b_kind n → post 0) : wpY_isBinder post ((nI S), g_nMax, (nI N), g_solved, g_playNow, g_pathLen, b_link, b_atom, b_kind, b_arg, b_parent, b_pins, b_path, b_set, b_stand) (nI n) := by
  refine And.intro (zi_in hn (by omega)) ?_
  rw [zi_c (by omega)]
  refine br_c (fun z => h1 (Or.inl z)) (fun z => ⟨zi_in hn (by omega), ?_⟩)
  exact br_c (fun w => h1 (Or.inr w)) (fun w => h0 (fun u => u.elim z w))
end
abbrev zf_PD (N : Nat) (K Pa Dp : Nat → Int32) : Prop :=
  N ≤ 14 ∧ (∀ n, n < N → (n = 0 → Pa n = -1) ∧ (0 < n → ∃ q, q < n ∧ Pa n = nI q)) ∧
  (∀ n, n < N → ∃ d, d < 4 ∧ Dp n = nI d ∧ (n = 0 → d = 0) ∧ (zc_bd K n → d < 3) ∧ ∀ q, q < n → Pa n = nI q → d = zc_dep Dp q + zf_b K q)
theorem zf_PD_of {N : Nat} {K Ar Pa Kd F G Dp : Nat → Int32} (h : zf_F N K Ar Pa Kd F G Dp) : zf_PD N K Pa Dp := ⟨h.1, h.2.2.2.1, h.2.2.2.2.2.2.2⟩
theorem zf_PD_d {N : Nat} {K Pa Dp : Nat → Int32} (h : zf_PD N K Pa Dp) {n : Nat} (hn : n < N) : Dp n = nI (zc_dep Dp n) ∧ zc_dep Dp n < 4 := by
  obtain ⟨d, d1, d2, _⟩ := h.2.2 n hn
  have e : zc_dep Dp n = d := by show (Dp n).toNatClampNeg = d; rw [d2, zi_c (by omega)]
  rw [e]; exact ⟨d2, d1⟩
/-- the root, or one step up -/
theorem zf_up {N : Nat} {K Pa Dp : Nat → Int32} (h : zf_PD N K Pa Dp) {q : Nat} (hq : q < N) : (q = 0 ∧ Pa q = -1 ∧ zc_dep Dp q = 0) ∨ (∃ q', q' < q ∧ Pa q = nI q' ∧ zc_par Pa q q' ∧ zc_dep Dp q = zc_dep Dp q' + zf_b K q') := by
  obtain ⟨hN, h3, h8⟩ := h
  obtain ⟨d, d1, d2, d3, _, d5⟩ := h8 q hq
  have e : zc_dep Dp q = d := by show (Dp q).toNatClampNeg = d; rw [d2, zi_c (by omega)]
  rcases Nat.eq_zero_or_pos q with z | z
  · exact Or.inl ⟨z, (h3 q hq).1 z, e.trans (d3 z)⟩
  · obtain ⟨q', hq', e1⟩ := (h3 q hq).2 z
    exact Or.inr ⟨q', hq', e1, ⟨hq', by omega, e1⟩, e.trans (d5 q' hq' e1)⟩
/-- a binder above q of another depth is above q's parent -/
theorem zf_anc_up {Pa : Nat → Int32} {q q' b : Nat} (hp : zc_par Pa q q') (h : Relation.TransGen (zc_par Pa) q b) : b = q' ∨ Relation.TransGen (zc_par Pa) q' b := by
  obtain ⟨w, hw, h⟩ := zx_head h
  have : w = q' := (nI_eq (by have := hw.1; have := hw.2.1; omega) (by have := hp.1; have := hp.2.1; omega)).mp (hw.2.2.symm.trans hp.2.2)
  rw [this] at h
  rcases h with h | h
  · exact Or.inl h.symm
  · exact Or.inr h
theorem zf_dep_anc {N : Nat} {K Pa Dp : Nat → Int32} (h : zf_PD N K Pa Dp) {n b : Nat} (hn : n < N) (hp : Relation.TransGen (zc_par Pa) n b) : zc_dep Dp b + zf_b K b ≤ zc_dep Dp n := by
  have st : ∀ x y, x < N → zc_par Pa x y → zc_dep Dp x = zc_dep Dp y + zf_b K y := by
    intro x y hx hxy
    rcases zf_up h hx with ⟨z, e, _⟩ | ⟨q', hq', e1, _, e2⟩
    · have := hxy.1; omega
    · have : q' = y := (nI_eq (by have := h.1; omega) (by have := hxy.1; have := hxy.2.1; omega)).mp (e1.symm.trans hxy.2.2)
      rw [← this]; exact e2
  induction hp with
  | single e => exact Nat.le_of_eq (st _ _ hn e).symm
  | tail hh e ih =>
    have := st _ _ (Nat.lt_trans (zf_par_lt hh) hn) e
    omega
section
variable {N S : Nat}
variable {f_room f_solved f_playMode f_pathLen f_forceBase f_outRow f_badRow f_reachRow : Int32} {a_linkSet a_atomSet a_kinds a_args a_parent a_kids a_first a_second a_depth a_pins a_win a_path a_mv a_choice a_ranks a_sets : Nat → Int32}
variable {g_nMax g_solved g_playNow g_pathLen : Int32} {b_link b_atom b_kind b_arg b_parent b_pins b_path b_set b_stand : Nat → Int32}
/-- the binders from node q upwards -/
theorem zy_bf {post : Int32 → Prop} {Dp : Nat → Int32} (h : zf_PD N b_kind b_parent Dp) {q : Nat} (hq : q < N) (hp : post (nI (zc_dep Dp q + zf_b b_kind q))) : wpY_bindersFrom post ((nI S), g_nMax, (nI N), g_solved, g_playNow, g_pathLen, b_link, b_atom, b_kind, b_arg, b_parent, b_pins, b_path, b_set, b_stand) (nI q) := by
  have hN := h.1
  have main : ∀ d i, i + d = 14 → ∀ q x, q < N → q + i < 14 → x ≤ i → post (nI (x + zc_dep Dp q + zf_b b_kind q)) → wY_bindersFrom_7 post (nI S) g_nMax (nI N) g_solved g_playNow g_pathLen b_link b_atom b_kind b_arg b_parent b_pins b_path b_set b_stand (d + 1) (nI x) (nI q) (nI i) := by
    intro d
    induction d with
    | zero => intro i hi q x hq hqi; omega
    | succ d ih =>
      intro i hi q x hq hqi hx hp
      refine br_f (nI_ge (b := 14) (by omega) (by decide)) (br_f (nI_pos (by omega)) ?_)
      have up : ∀ x', x' ≤ i + 1 → x' = x + zf_b b_kind q → (vp_in (nI q) 14 ∧ ∀ y, y = b_parent (nI q).toNatClampNeg → ∀ z, z = nI i + 1 → wY_bindersFrom_7 post (nI S) g_nMax (nI N) g_solved g_playNow g_pathLen b_link b_atom b_kind b_arg b_parent b_pins b_path b_set b_stand (d + 1) (nI x') y z) := by
        intro x' hx' ex
        refine ⟨zi_in (by omega) (by omega), ?_⟩
        rw [zi_c (by omega)]
        rcases zf_up h hq with ⟨e, e1, e3⟩ | ⟨q', hq', e1, _, e2⟩
        · refine nm_r e1 (nm_r (nI_1 i) ?_)
          rw [e3, Nat.add_zero, ← ex] at hp
          refine br_c (fun _ => hp) (fun _ => br_t (by decide) hp)
        · refine nm_r e1 (nm_r (nI_1 i) (ih (i + 1) (by omega) q' x' (by omega) (by omega) hx' ?_))
          rw [e2] at hp
          rw [show x' + zc_dep Dp q' + zf_b b_kind q' = x + (zc_dep Dp q' + zf_b b_kind q') + zf_b b_kind q by omega]
          exact hp
      refine zy_binder (by omega) (fun hb => br_f (by decide) (nm_r (nI_1 x) ?_)) (fun hb => br_t rfl ?_)
      · exact up (x + 1) (by omega) (by rw [zf_b1 hb])
      · exact up x (by omega) (by rw [zf_b0 hb, Nat.add_zero])
  exact ⟨15, main 14 0 rfl q 0 hq (by omega) (by omega) (by rw [Nat.zero_add]; exact hp)⟩
/-- there are none above the root's -1 -/
theorem zy_bfm {post : Int32 → Prop} (hp : post 0) : wpY_bindersFrom post ((nI S), g_nMax, (nI N), g_solved, g_playNow, g_pathLen, b_link, b_atom, b_kind, b_arg, b_parent, b_pins, b_path, b_set, b_stand) (-1) := ⟨1, br_f (by decide) (br_t (by decide) hp)⟩
theorem zy_bo {post : Int32 → Prop} {Dp : Nat → Int32} (h : zf_PD N b_kind b_parent Dp) {b : Nat} (hb : zc_bd b_kind b) (hp : post (nI b)) :
    ∀ d i, i + d = 14 → ∀ q l, q < N → q + i < 14 → l < 1000 → (b = q ∨ Relation.TransGen (zc_par b_parent) q b) → zc_dep Dp b + 1 + l = zc_dep Dp q + zf_b b_kind q → wY_binderOf_17 post (nI S) g_nMax (nI N) g_solved g_playNow g_pathLen b_link b_atom b_kind b_arg b_parent b_pins b_path b_set b_stand (d + 1) (nI l) (nI q) (nI i) := by
  have hN := h.1
  intro d
  induction d with
  | zero => intro i hi q l hq hqi; omega
  | succ d ih =>
    intro i hi q l hq hqi hl han hdep
    refine br_f (nI_ge (b := 14) (by omega) (by decide)) (br_f (nI_pos (by omega)) ?_)
    have up : ∀ l', l' < 1000 → b ≠ q → zc_dep Dp b + 1 + l' = zc_dep Dp q → (vp_in (nI q) 14 ∧ ∀ y, y = b_parent (nI q).toNatClampNeg → ∀ z, z = nI i + 1 → wY_binderOf_17 post (nI S) g_nMax (nI N) g_solved g_playNow g_pathLen b_link b_atom b_kind b_arg b_parent b_pins b_path b_set b_stand (d + 1) (nI l') y z) := by
      intro l' hl' hne hd'
      refine ⟨zi_in (by omega) (by omega), ?_⟩
      rw [zi_c (by omega)]
      have han' := han.resolve_left hne
      rcases zf_up h hq with ⟨e, e1, e3⟩ | ⟨q', hq', e1, hpar, e2⟩
      · have := zf_par_lt han'; omega
      · exact nm_r e1 (nm_r (nI_1 i) (ih (i + 1) (by omega) q' l' (by omega) (by omega) hl' (zf_anc_up hpar han') (by omega)))
    refine zy_binder (by omega) (fun hq' => br_f (by decide) ?_) (fun hq' => br_t rfl ?_)
    · rw [zf_b1 hq'] at hdep
      rcases Nat.eq_zero_or_pos l with e | e
      · subst e
        refine br_t rfl ?_
        have : b = q := by
          rcases han with z | z
          · exact z
          · have := zf_dep_anc h hq z
            rw [zf_b1 hb] at this
            omega
        rw [← this]; exact hp
      · obtain ⟨l', rfl⟩ : ∃ l', l = l' + 1 := ⟨l - 1, by omega⟩
        refine br_f (nI_ne0 (by omega) (by omega)) (nm_r (pk_m1 l') (up l' (by omega) (fun z => ?_) (by omega)))
        rw [z] at hdep; omega
    · rw [zf_b0 hq'] at hdep
      exact up l hl (fun z => hq' (by rw [← z]; exact hb)) (by omega)
/-- the binder of a variable -/
theorem zy_binderOf {post : Int32 → Prop} {Kd F G Dp : Nat → Int32} (h : zf_F N b_kind b_arg b_parent Kd F G Dp) {n : Nat} (hn : n < N) (hk : b_kind n = 9) (hp : post (F n)) : wpY_binderOf post ((nI S), g_nMax, (nI N), g_solved, g_playNow, g_pathLen, b_link, b_atom, b_kind, b_arg, b_parent, b_pins, b_path, b_set, b_stand) (nI n) := by
  have hN := h.1
  obtain ⟨a, b, ha, e1, e2, hbn, hb, htr, hdep⟩ := h.2.2.1 n hn hk
  have hPD := zf_PD_of h
  rw [e2] at hp
  rcases zf_up hPD hn with ⟨e, _⟩ | ⟨q', hq', e3, hpar, e4⟩
  · omega
  · refine And.intro (zi_in (by omega) (by omega)) ?_
    rw [zi_c (by omega)]
    refine nm_r e1 ⟨zi_in (by omega) (by omega), nm_r e3 ⟨15, ?_⟩⟩
    exact zy_bo hPD hb hp 14 0 rfl q' a (by omega) (by omega) (by omega) (zf_anc_up hpar htr) (by omega)
/-- X finds it when the variable is entered -/
theorem zx_ba {post : Int32 → Prop} (h : zf_PD N a_kinds a_parent a_depth) {q l : Nat} (hq : q < N) (hl : l < zc_dep a_depth q + zf_b a_kinds q)
    (hp : ∀ b, zc_bd a_kinds b → (b = q ∨ Relation.TransGen (zc_par a_parent) q b) → zc_dep a_depth b + 1 + l = zc_dep a_depth q + zf_b a_kinds q → post (nI b)) : wpX_binderAbove post ((nI S), f_room, (nI N), f_solved, f_playMode, f_pathLen, f_forceBase, f_outRow, f_badRow, f_reachRow, a_linkSet, a_atomSet, a_kinds, a_args, a_parent, a_kids, a_first, a_second, a_depth, a_pins, a_win, a_path, a_mv, a_choice, a_ranks, a_sets) (nI q) (nI l) := by
  have hN := h.1
  have main : ∀ d i, i + d = 14 → ∀ q l, q < N → q + i < 14 → l < zc_dep a_depth q + zf_b a_kinds q → (∀ b, zc_bd a_kinds b → (b = q ∨ Relation.TransGen (zc_par a_parent) q b) → zc_dep a_depth b + 1 + l = zc_dep a_depth q + zf_b a_kinds q → post (nI b)) → wX_binderAbove_8 post (nI S) f_room (nI N) f_solved f_playMode f_pathLen f_forceBase f_outRow f_badRow f_reachRow a_linkSet a_atomSet a_kinds a_args a_parent a_kids a_first a_second a_depth a_pins a_win a_path a_mv a_choice a_ranks a_sets (d + 1) (nI q) (nI l) (nI i) := by
    intro d
    induction d with
    | zero => intro i hi q l hq hqi; omega
    | succ d ih =>
      intro i hi q l hq hqi hl hp
      have hd4 := (zf_PD_d h hq).2
      have hb1 := zf_b_le a_kinds q
      refine br_f (nI_ge (b := 14) (by omega) (by decide)) (br_f (nI_pos (by omega)) ?_)
      have up : ∀ l', l' + zf_b a_kinds q = l → l' < zc_dep a_depth q → (vp_in (nI q) 14 ∧ ∀ y, y = a_parent (nI q).toNatClampNeg → ∀ z, z = nI i + 1 → wX_binderAbove_8 post (nI S) f_room (nI N) f_solved f_playMode f_pathLen f_forceBase f_outRow f_badRow f_reachRow a_linkSet a_atomSet a_kinds a_args a_parent a_kids a_first a_second a_depth a_pins a_win a_path a_mv a_choice a_ranks a_sets (d + 1) y (nI l') z) := by
        intro l' e hl'
        refine ⟨zi_in (by omega) (by omega), ?_⟩
        rw [zi_c (by omega)]
        rcases zf_up h hq with ⟨e, e1, e3⟩ | ⟨q', hq', e1, hpar, e2⟩
        · omega
        · refine nm_r e1 (nm_r (nI_1 i) (ih (i + 1) (by omega) q' l' (by omega) (by omega) (by omega) (fun b hb han hdep => hp b hb ?_ (by omega))))
          rcases han with z | z
          · rw [z]; exact Or.inr (.single hpar)
          · exact Or.inr ((Relation.TransGen.single hpar).trans z)
      refine zx_binder (by omega) (fun hq' => br_f (by decide) ?_) (fun hq' => br_t rfl ?_)
      · have hb1 := zf_b1 hq'
        rcases Nat.eq_zero_or_pos l with e | e
        · subst e
          exact br_t rfl (hp q hq' (Or.inl rfl) (by omega))
        · obtain ⟨l', rfl⟩ : ∃ l', l = l' + 1 := ⟨l - 1, by omega⟩
          exact br_f (nI_ne0 (by omega) (by omega)) (nm_r (pk_m1 l') (up l' (by omega) (by omega)))
      · have hb1 := zf_b0 hq'
        exact up l (by omega) (by omega)
  exact ⟨15, main 14 0 rfl q l hq (by omega) hl hp⟩
end
end
section
/-! ===== Y: moves ===== -/
abbrev zr_LY (S : Nat) (Lk lk : Nat → Int32) : Prop := ∀ s a t, s < S → a < 2 → t < S → ((lk ((s * 2 + a) * 5 + t) = 0 ∨ lk ((s * 2 + a) * 5 + t) = 1) ∧ (bt (Lk (s * 2 + a)) t = true ↔ ¬ lk ((s * 2 + a) * 5 + t) = 0))
abbrev zr_AY (S : Nat) (At atm : Nat → Int32) : Prop := ∀ s a, s < S → a < 2 → ((atm (s * 2 + a) = 0 ∨ atm (s * 2 + a) = 1) ∧ (bt (At s) a = true ↔ ¬ atm (s * 2 + a) = 0))
abbrev zr_PY (Pn pn : Nat → Int32) : Prop := ∀ n s, n < 14 → s < 5 → pn (s * 14 + n) = Pn (n * 5 + s)
theorem zi_10 (s m : Nat) : nI s * 10 + nI m = nI (s * 10 + m) := by
  rw [show (10 : Int32) = nI 10 from rfl, pk_mul, nI_add]
theorem zi_105 (s m : Nat) : nI s * 10 + 5 + nI m = nI (s * 10 + 5 + m) := by
  rw [show (10 : Int32) = nI 10 from rfl, show (5 : Int32) = nI 5 from rfl, pk_mul, nI_add, nI_add]
theorem zi_s14 (s n : Nat) : nI s * 14 + nI n = nI (s * 14 + n) := by
  rw [show (14 : Int32) = nI 14 from rfl, pk_mul, nI_add]
section
variable {N S : Nat} {F G Dp Kd Lk At Pn : Nat → Int32}
variable {g_nMax g_solved g_playNow g_pathLen : Int32} {b_link b_atom b_kind b_arg b_parent b_pins b_path b_set b_stand : Nat → Int32}
theorem zy_canMove {post : Int32 → Prop} {n s : Nat} {x : Int32} (hK : zr_K N b_kind b_arg) (hLY : zr_LY S Lk b_link) (hL : zr_L S Lk) (hN : N ≤ 14) (hS : S ≤ 5) (hn : n < N) (hs : s < S)
    (h1 : ∀ k, k < 5 → x = nI k → zc_am b_kind b_arg Lk (n, s) k → post 1) (h0 : (∀ k, k < 5 → x = nI k → ¬ zc_am b_kind b_arg Lk (n, s) k) → post 0) : wpY_canMove post ((nI S), g_nMax, (nI N), g_solved, g_playNow, g_pathLen, b_link, b_atom, b_kind, b_arg, b_parent, b_pins, b_path, b_set, b_stand) (nI s) (nI n) x := by
  refine And.intro (zi_in (by omega) (by omega)) ?_
  rw [zi_c (by omega)]
  intro y hy
  subst hy
  have ne : ∀ {i j : Int32}, i ≠ j → b_kind n = i → ¬ b_kind n = j := fun hij e e' => hij (e.symm.trans e')
  have sim : ∀ v, b_kind n = v → ∀ b, zc_am b_kind b_arg Lk (n, s) b ↔ (((v = 3 ∨ v = 4) ∧ b < 2) ∨ ((v = 5 ∨ v = 6) ∧ ((¬ b_arg n = 1 ∧ bt (Lk (s * 2)) b = true) ∨ (¬ b_arg n = 0 ∧ bt (Lk (s * 2 + 1)) b = true))) ∨ ((v = 7 ∨ v = 8 ∨ v = 9) ∧ b = 0)) := by
    intro v hv b
    subst hv
    exact Iff.rfl
  have c34 : (∀ b, zc_am b_kind b_arg Lk (n, s) b ↔ b < 2) → wY_canMove_34 post x (nI S) g_nMax (nI N) g_solved g_playNow g_pathLen b_link b_atom b_kind b_arg b_parent b_pins b_path b_set b_stand := by
    intro he
    by_cases e0 : x = 0
    · exact br_t e0 (h1 0 (by omega) e0 ((he 0).mpr (by omega)))
    · refine br_f e0 ?_
      by_cases e1 : x = 1
      · exact br_t e1 (h1 1 (by omega) e1 ((he 1).mpr (by omega)))
      · refine br_f e1 (h0 (fun k _ e z => ?_))
        have : k = 0 ∨ k = 1 := by have := (he k).mp z; omega
        rcases this with r | r
        · subst r; exact e0 e
        · subst r; exact e1 e
  have c70 : (∀ b, zc_am b_kind b_arg Lk (n, s) b ↔ b = 0) → wY_canMove_70 post x (nI S) g_nMax (nI N) g_solved g_playNow g_pathLen b_link b_atom b_kind b_arg b_parent b_pins b_path b_set b_stand := by
    intro he
    by_cases e0 : x = 0
    · exact br_t e0 (h1 0 (by omega) e0 ((he 0).mpr rfl))
    · refine br_f e0 (h0 (fun k _ e z => ?_))
      have := (he k).mp z
      subst this; exact e0 e
  have cno : (∀ b, ¬ zc_am b_kind b_arg Lk (n, s) b) → post 0 := fun he => h0 (fun k _ _ => he k)
  have modal : (∀ b, zc_am b_kind b_arg Lk (n, s) b ↔ ((¬ b_arg n = 1 ∧ bt (Lk (s * 2)) b = true) ∨ (¬ b_arg n = 0 ∧ bt (Lk (s * 2 + 1)) b = true))) →
      ((x < 0 → post 0) ∧ (¬ x < 0 → ((x < nI S → (vp_in (nI n) 14 ∧ ((b_arg n = 1 → (wY_canMove_118 post (nI s) (nI n) x (nI S) g_nMax (nI N) g_solved g_playNow g_pathLen b_link b_atom b_kind b_arg b_parent b_pins b_path b_set b_stand)) ∧ (¬ b_arg n = 1 → (vp_in (nI s * 10 + x) 50 ∧ (((b_link (nI s * 10 + x).toNatClampNeg) = 0 → (wY_canMove_118 post (nI s) (nI n) x (nI S) g_nMax (nI N) g_solved g_playNow g_pathLen b_link b_atom b_kind b_arg b_parent b_pins b_path b_set b_stand)) ∧ (¬ (b_link (nI s * 10 + x).toNatClampNeg) = 0 → post 1))))))) ∧ (¬ x < nI S → post 0)))) := by
    intro he
    have hno : (∀ k, k < S → x ≠ nI k) → post 0 := fun hx => h0 (fun k _ e z => by
      have : k < S := by
        rcases (he k).mp z with w | w
        · exact hL _ _ w.2
        · exact hL _ _ w.2
      exact hx k this e)
    by_cases hneg : x < 0
    · exact br_t hneg (hno (fun k hk e => absurd hneg (by rw [e]; exact nI_pos (by omega))))
    · obtain ⟨m, hm, rfl⟩ := nI_of hneg
      refine br_f hneg ?_
      by_cases hl : m < S
      · refine br_t (nI_lt hl (by omega)) ⟨zi_in (by omega) (by omega), ?_⟩
        rw [zi_10, zi_c (by omega)]
        have l0 := hLY s 0 m hs (by omega) hl
        have l1 := hLY s 1 m hs (by omega) hl
        rw [Nat.add_zero, show s * 2 * 5 + m = s * 10 + m by omega] at l0
        rw [show (s * 2 + 1) * 5 + m = s * 10 + 5 + m by omega] at l1
        have fin : ¬ (¬ b_arg n = 1 ∧ bt (Lk (s * 2)) m = true) → wY_canMove_118 post (nI s) (nI n) (nI m) (nI S) g_nMax (nI N) g_solved g_playNow g_pathLen b_link b_atom b_kind b_arg b_parent b_pins b_path b_set b_stand := by
          intro hf
          refine And.intro (zi_in (by omega) (by omega)) ?_
          rw [zi_c (by omega), zi_105, zi_c (by omega)]
          have neg : ¬ (¬ b_arg n = 0 ∧ bt (Lk (s * 2 + 1)) m = true) → post 0 := fun hg => h0 (fun k hk e z => by
            have : k = m := (nI_eq (by omega) (by omega)).mp e.symm
            rw [this] at z
            exact ((he m).mp z).elim hf hg)
          by_cases a0 : b_arg n = 0
          · exact br_t a0 (neg (fun z => z.1 a0))
          · refine br_f a0 ⟨zi_in (by omega) (by omega), ?_⟩
            by_cases k0 : b_link (s * 10 + 5 + m) = 0
            · exact br_t k0 (neg (fun z => l1.2.mp z.2 k0))
            · exact br_f k0 (h1 m (by omega) rfl ((he m).mpr (Or.inr ⟨a0, l1.2.mpr k0⟩)))
        by_cases a1 : b_arg n = 1
        · exact br_t a1 (fin (fun z => z.1 a1))
        · refine br_f a1 ⟨zi_in (by omega) (by omega), ?_⟩
          by_cases k0 : b_link (s * 10 + m) = 0
          · exact br_t k0 (fin (fun z => l0.2.mp z.2 k0))
          · exact br_f k0 (h1 m (by omega) rfl ((he m).mpr (Or.inl ⟨a1, l0.2.mpr k0⟩)))
      · exact br_f (nI_nlt (by omega) hm) (hno (fun k hk e => hl (by rw [(nI_eq hm (by omega)).mp e]; exact hk)))
  rcases zr_kcases hK hn with k | k | k | k | k | k | k | k | k
  · refine br_t k (cno (fun b => ?_))
    rw [sim _ k b]
    simp
  · refine br_f (ne (by decide) k) (br_t k (cno (fun b => ?_)))
    rw [sim _ k b]
    simp
  · refine br_f (ne (by decide) k) (br_f (ne (by decide) k) (br_t k (c34 (fun b => ?_))))
    rw [sim _ k b]
    simp
  · refine br_f (ne (by decide) k) (br_f (ne (by decide) k) (br_f (ne (by decide) k) (br_t k (c34 (fun b => ?_)))))
    rw [sim _ k b]
    simp
  · refine br_f (ne (by decide) k) (br_f (ne (by decide) k) (br_f (ne (by decide) k) (br_f (ne (by decide) k) (br_f (ne (by decide) k) (br_f (ne (by decide) k) (br_f (ne (by decide) k) (modal (fun b => ?_))))))))
    rw [sim _ k b]
    simp
  · refine br_f (ne (by decide) k) (br_f (ne (by decide) k) (br_f (ne (by decide) k) (br_f (ne (by decide) k) (br_f (ne (by decide) k) (br_f (ne (by decide) k) (br_f (ne (by decide) k) (modal (fun b => ?_))))))))
    rw [sim _ k b]
    simp
  · refine br_f (ne (by decide) k) (br_f (ne (by decide) k) (br_f (ne (by decide) k) (br_f (ne (by decide) k) (br_t k (c70 (fun b => ?_))))))
    rw [sim _ k b]
    simp
  · refine br_f (ne (by decide) k) (br_f (ne (by decide) k) (br_f (ne (by decide) k) (br_f (ne (by decide) k) (br_f (ne (by decide) k) (br_t k (c70 (fun b => ?_)))))))
    rw [sim _ k b]
    simp
  · refine br_f (ne (by decide) k) (br_f (ne (by decide) k) (br_f (ne (by decide) k) (br_f (ne (by decide) k) (br_f (ne (by decide) k) (br_f (ne (by decide) k) (br_t k (c70 (fun b => ?_))))))))
    rw [sim _ k b]
    simp
theorem zy_legal {post : Int32 → Prop} {n s : Nat} {x : Int32} (hK : zr_K N b_kind b_arg) (hLY : zr_LY S Lk b_link) (hL : zr_L S Lk) (hPY : zr_PY Pn b_pins) (hN : N ≤ 14) (hS : S ≤ 5) (hn : n < N) (hs : s < S)
    (h1 : ∀ k, k < 5 → x = nI k → zc_lg b_kind b_arg Lk Pn (n, s) k → post 1) (h0 : (∀ k, k < 5 → x = nI k → ¬ zc_lg b_kind b_arg Lk Pn (n, s) k) → post 0) : wpY_legal post ((nI S), g_nMax, (nI N), g_solved, g_playNow, g_pathLen, b_link, b_atom, b_kind, b_arg, b_parent, b_pins, b_path, b_set, b_stand) (nI s) (nI n) x := by
  refine And.intro (by rw [zi_s14]; exact zi_in (by omega) (by omega)) ?_
  rw [zi_s14, zi_c (by omega), hPY n s (by omega) (by omega)]
  intro y hy
  subst hy
  refine zy_canMove hK hLY hL hN hS hn hs (fun k hk e ha => br_f (by decide) ?_) (fun hno => br_t rfl (h0 (fun k hk e z => hno k hk e z.1)))
  by_cases e2 : Pn (n * 5 + s) = -2
  · exact br_t e2 (h1 k hk e ⟨ha, Or.inl e2⟩)
  · refine br_f e2 ?_
    by_cases ex : Pn (n * 5 + s) = x
    · exact br_t ex (h1 k hk e ⟨ha, Or.inr (ex.trans e)⟩)
    · refine br_f ex (h0 (fun k' hk' e' z => ?_))
      rcases z.2 with w | w
      · exact e2 w
      · exact ex (w.trans e'.symm)
/-- the same for a number -/
theorem zy_legalN {post : Int32 → Prop} {n s m : Nat} (hK : zr_K N b_kind b_arg) (hLY : zr_LY S Lk b_link) (hL : zr_L S Lk) (hPY : zr_PY Pn b_pins) (hN : N ≤ 14) (hS : S ≤ 5) (hn : n < N) (hs : s < S) (hm : m < 5)
    (h1 : zc_lg b_kind b_arg Lk Pn (n, s) m → post 1) (h0 : ¬ zc_lg b_kind b_arg Lk Pn (n, s) m → post 0) : wpY_legal post ((nI S), g_nMax, (nI N), g_solved, g_playNow, g_pathLen, b_link, b_atom, b_kind, b_arg, b_parent, b_pins, b_path, b_set, b_stand) (nI s) (nI n) (nI m) :=
  zy_legal hK hLY hL hPY hN hS hn hs (fun k hk e z => h1 (by rw [(nI_eq (by omega) (by omega)).mp e]; exact z)) (fun hno => h0 (hno m hm rfl))
theorem zy_nextState {post : Int32 → Prop} {n : Nat} {x y : Int32} (hn : n < 14) (h1 : (b_kind n = 5 ∨ b_kind n = 6) → post y) (h0 : ¬ (b_kind n = 5 ∨ b_kind n = 6) → post x) : wpY_nextState post ((nI S), g_nMax, (nI N), g_solved, g_playNow, g_pathLen, b_link, b_atom, b_kind, b_arg, b_parent, b_pins, b_path, b_set, b_stand) x (nI n) y := by
  refine And.intro (zi_in hn (by omega)) ?_
  rw [zi_c (by omega)]
  refine br_c (fun z => h1 (Or.inl z)) (fun z => ⟨zi_in hn (by omega), ?_⟩)
  exact br_c (fun w => h1 (Or.inr w)) (fun w => h0 (fun u => u.elim z w))
theorem zy_own {post : Int32 → Prop} {n s : Nat} (hK : zr_K N b_kind b_arg) (hAY : zr_AY S At b_atom) (hN : N ≤ 14) (hS : S ≤ 5) (hn : n < N) (hs : s < S) (h : post (nI (zc_own b_kind b_arg At (n, s)))) : wpY_ownerOf post ((nI S), g_nMax, (nI N), g_solved, g_playNow, g_pathLen, b_link, b_atom, b_kind, b_arg, b_parent, b_pins, b_path, b_set, b_stand) (nI s) (nI n) := by
  refine And.intro (zi_in (by omega) (by omega)) ?_
  rw [zi_c (by omega)]
  intro x hx
  subst hx
  unfold zc_own at h
  dsimp only at h
  by_cases k4 : b_kind n = 4
  · rw [if_pos (Or.inl k4)] at h; exact br_t k4 h
  refine br_f k4 ?_
  by_cases k5 : b_kind n = 5
  · rw [if_pos (Or.inr k5)] at h; exact br_t k5 h
  refine br_f k5 ?_
  rw [if_neg (fun z => z.elim k4 k5)] at h
  by_cases k3 : b_kind n = 3
  · rw [if_pos (Or.inl k3)] at h; exact br_t k3 h
  refine br_f k3 ?_
  by_cases k6 : b_kind n = 6
  · rw [if_pos (Or.inr k6)] at h; exact br_t k6 h
  refine br_f k6 ?_
  rw [if_neg (fun z => z.elim k3 k6)] at h
  have arg : (b_kind n = 1 ∨ b_kind n = 2) → ∃ a, a < 2 ∧ b_arg n = nI a := by
    intro hk
    rcases (hK n hn).2.1 hk with e | e
    · exact ⟨0, by omega, e⟩
    · exact ⟨1, by omega, e⟩
  by_cases k1 : b_kind n = 1
  · rw [if_pos k1] at h
    refine br_t k1 ?_
    obtain ⟨a, ha, ea⟩ := arg (Or.inl k1)
    refine And.intro (zi_in (by omega) (by omega)) ?_
    rw [ea, zi_2, zi_c (by omega)]
    rw [ea, zi_c (by omega)] at h
    refine ⟨zi_in (by omega) (by omega), ?_⟩
    have := (hAY s a hs ha).2
    by_cases z : b_atom (s * 2 + a) = 0
    · rw [if_neg (fun w => this.mp w z)] at h; exact br_t z h
    · rw [if_pos (this.mpr z)] at h; exact br_f z h
  refine br_f k1 ?_
  rw [if_neg k1] at h
  by_cases k2 : b_kind n = 2
  · rw [if_pos k2] at h
    refine br_t k2 ?_
    obtain ⟨a, ha, ea⟩ := arg (Or.inr k2)
    refine And.intro (zi_in (by omega) (by omega)) ?_
    rw [ea, zi_2, zi_c (by omega)]
    rw [ea, zi_c (by omega)] at h
    refine ⟨zi_in (by omega) (by omega), ?_⟩
    have := (hAY s a hs ha).2
    by_cases z : b_atom (s * 2 + a) = 0
    · rw [if_neg (fun w => this.mp w z)] at h; exact br_t z h
    · rw [if_pos (this.mpr z)] at h; exact br_f z h
  rw [if_neg k2] at h
  exact br_f k2 h
theorem zf_Ch_uq {Pa : Nat → Int32} {n i c c' : Nat} (h : zf_Ch N Pa n i c) (h' : zf_Ch N Pa n i c') : c = c' := by
  have key : ∀ a b, zf_Ch N Pa n i a → zf_Ch N Pa n i b → ¬ a < b := by
    intro a b ha hb hl
    have g5 := zf_ct_t ha.1 ha.2.2.1
    have g6 := zf_ct_mono Pa n (a + 1) (b - (a + 1))
    rw [show a + 1 + (b - (a + 1)) = b by omega, hb.2.2.2] at g6
    have := ha.2.2.2
    omega
  have a := key c c' h h'
  have b := key c' c h' h
  omega
theorem zy_nextNode {post : Int32 → Prop} {n s m : Nat} (h : zf_F N b_kind b_arg b_parent Kd F G Dp) (hc : zf_Cpl N b_kind b_parent) (hL : zr_L S Lk) (hn : n < N) (hs : s < S) (hm : zc_am b_kind b_arg Lk (n, s) m) (hm5 : m < 5)
    (hp : post (nI (zc_nx b_kind F G (n, s) m).1)) : wpY_nextNode post ((nI S), g_nMax, (nI N), g_solved, g_playNow, g_pathLen, b_link, b_atom, b_kind, b_arg, b_parent, b_pins, b_path, b_set, b_stand) (nI n) (nI m) := by
  have hN := h.1
  obtain ⟨_, s2, s3⟩ := zf_step (G := G) h hc hL hn hs hm
  refine And.intro (zi_in (by omega) (by omega)) ?_
  rw [zi_c (by omega)]
  have ch : ∀ i, i < 5 → (¬ b_kind n = 9 → zf_Ch N b_parent n i (zc_nx b_kind F G (n, s) m).1) → ¬ b_kind n = 9 → wpY_child (fun r => post r) ((nI S), g_nMax, (nI N), g_solved, g_playNow, g_pathLen, b_link, b_atom, b_kind, b_arg, b_parent, b_pins, b_path, b_set, b_stand) (nI n) (nI i) := by
    intro i hi hch k9
    refine zy_child hN hn (by omega) (fun c hc' => ?_) (fun hle => ?_)
    · rw [zf_Ch_uq hc' (hch k9)]; exact hp
    · exfalso
      have g := hch k9
      have g5 := zf_ct_t g.1 g.2.2.1
      have g6 := zf_ct_mono b_parent n ((zc_nx b_kind F G (n, s) m).1 + 1) (N - ((zc_nx b_kind F G (n, s) m).1 + 1))
      rw [show (zc_nx b_kind F G (n, s) m).1 + 1 + (N - ((zc_nx b_kind F G (n, s) m).1 + 1)) = N by have := g.2.1; omega] at g6
      have := g.2.2.2
      omega
  by_cases k9 : b_kind n = 9
  · refine br_t k9 (zy_binderOf h hn k9 ?_)
    rw [(s2 k9).1]; exact hp
  · refine br_f k9 ⟨zi_in (by omega) (by omega), ?_⟩
    by_cases k3 : b_kind n = 3
    · refine br_t k3 (ch m hm5 (fun z => ?_) k9)
      have := s3 z
      rw [if_pos (Or.inl k3)] at this
      exact this
    · refine br_f k3 ⟨zi_in (by omega) (by omega), ?_⟩
      by_cases k4 : b_kind n = 4
      · refine br_t k4 (ch m hm5 (fun z => ?_) k9)
        have := s3 z
        rw [if_pos (Or.inr k4)] at this
        exact this
      · refine br_f k4 (ch 0 (by omega) (fun z => ?_) k9)
        have := s3 z
        rw [if_neg (fun w => w.elim k3 k4)] at this
        exact this
theorem zy_openOrStuck {post : Int32 → Prop} {n s : Nat} (hK : zr_K N b_kind b_arg) (hLY : zr_LY S Lk b_link) (hL : zr_L S Lk) (hPY : zr_PY Pn b_pins) (hAY : zr_AY S At b_atom) (hN : N ≤ 14) (hS2 : 2 ≤ S) (hS : S ≤ 5) (hn : n < N) (hs : s < S)
    (h1 : (∃ m, zc_lg b_kind b_arg Lk Pn (n, s) m) → post 1) (h3 : (∀ m, ¬ zc_lg b_kind b_arg Lk Pn (n, s) m) → zc_own b_kind b_arg At (n, s) = 0 → post 3) (h2 : (∀ m, ¬ zc_lg b_kind b_arg Lk Pn (n, s) m) → zc_own b_kind b_arg At (n, s) ≠ 0 → post 2) : wpY_openOrStuck post ((nI S), g_nMax, (nI N), g_solved, g_playNow, g_pathLen, b_link, b_atom, b_kind, b_arg, b_parent, b_pins, b_path, b_set, b_stand) (nI s) (nI n) := by
  have main : ∀ d i, i + d = 5 → (∀ m, m < i → ¬ zc_lg b_kind b_arg Lk Pn (n, s) m) → wY_openOrStuck_2 post (nI s) (nI n) (nI S) g_nMax (nI N) g_solved g_playNow g_pathLen b_link b_atom b_kind b_arg b_parent b_pins b_path b_set b_stand (d + 1) (nI i) := by
    intro d
    induction d with
    | zero =>
      intro i hi hno
      have e : i = 5 := by omega
      subst e
      have hno' : ∀ m, ¬ zc_lg b_kind b_arg Lk Pn (n, s) m := fun m hm => hno m (zc_am_lt hS2 hS hL hm.1) hm
      refine br_t (by decide) (zy_own hK hAY hN hS hn hs ?_)
      have ho := zx_own_lt b_kind b_arg At (n, s)
      by_cases e : zc_own b_kind b_arg At (n, s) = 0
      · exact br_t (by rw [e]; rfl) (h3 hno' e)
      · exact br_f (nI_ne0 (by omega) (by omega)) (h2 hno' e)
    | succ d ih =>
      intro i hi hno
      refine br_f (nI_ge (b := 5) (by omega) (by decide)) (zy_legalN hK hLY hL hPY hN hS hn hs (by omega) (fun z => br_f (by decide) (h1 ⟨i, z⟩)) (fun z => br_t rfl (nm_r (nI_1 i) (ih (i + 1) (by omega) (fun m hm => ?_)))))
      rcases Nat.lt_or_ge m i with w | w
      · exact hno m w
      · have e : m = i := by omega
        rw [e]; exact z
  exact ⟨6, main 5 0 rfl (fun m hm => absurd hm (by omega))⟩
end
end
section
/-! ===== Y: holds ===== -/
noncomputable def zy_b (p : Prop) : Int32 := @ite Int32 p (Classical.propDecidable p) 1 0
theorem zy_b1 {p : Prop} (h : p) : zy_b p = 1 := @if_pos p (Classical.propDecidable p) h _ _ _
theorem zy_b0 {p : Prop} (h : ¬ p) : zy_b p = 0 := @if_neg p (Classical.propDecidable p) h _ _ _
theorem zy_bc {p q : Prop} (h : p ↔ q) : zy_b p = zy_b q := by rw [propext h]
theorem zy_bn (p : Prop) : narrow .boolean (.int (zy_b p)) = .int (zy_b p) := by
  rcases Classical.em p with h | h
  · rw [zy_b1 h]; rfl
  · rw [zy_b0 h]; rfl
theorem zy_bp {p : Prop} {post : Int32 → Prop} (h1 : p → post 1) (h0 : ¬ p → post 0) : post (zy_b p) := by
  rcases Classical.em p with h | h
  · rw [zy_b1 h]; exact h1 h
  · rw [zy_b0 h]; exact h0 h
theorem zy_bz {p : Prop} : zy_b p = 0 ↔ ¬ p := by
  rcases Classical.em p with h | h
  · rw [zy_b1 h]; exact ⟨fun z => absurd z (by decide), fun z => absurd h z⟩
  · rw [zy_b0 h]; exact ⟨fun _ => h, fun _ => rfl⟩
abbrev zy_sv (a : Nat → Int32) (p : pg_P) : Prop := bt (a p.1) p.2 = true
/-- who chooses, by the mode -/
noncomputable def zy_om (own : pg_P → Nat) (mv : pg_M) (μ : Nat) : pg_P → Nat := if μ = 0 then own else pg_o1 own mv (μ - 1)
abbrev zy_C (N S : Nat) (K Ar Pa Kd F G Dp Lk At Pn lk atm pn : Nat → Int32) : Prop :=
  zf_F N K Ar Pa Kd F G Dp ∧ zf_Cpl N K Pa ∧ (2 ≤ S ∧ S ≤ 5) ∧ zr_L S Lk ∧ zr_P N S K Ar Lk Pn ∧ zr_LY S Lk lk ∧ zr_AY S At atm ∧ zr_PY Pn pn
section
variable {N S : Nat} {F G Dp Kd Lk At Pn : Nat → Int32}
variable {g_nMax g_solved g_playNow g_pathLen : Int32} {b_link b_atom b_kind b_arg b_parent b_pins b_path b_set b_stand : Nat → Int32}
theorem zy_hdA {nx : pg_P → Nat → pg_P} {vr : Nat → Prop} {mv : pg_M} {om : pg_P → Nat} {st set : pg_S} {p : pg_P} (hv : ¬ vr p.1) (ho : om p ≠ 0) : pg_Hd nx vr mv om st set p ↔ ∀ m, mv p m → set (nx p m) :=
  ⟨fun z => (z.2 hv).2 ho, fun z => ⟨fun w => absurd w hv, fun _ => ⟨fun w => absurd w ho, fun _ => z⟩⟩⟩
theorem zy_hdE {nx : pg_P → Nat → pg_P} {vr : Nat → Prop} {mv : pg_M} {om : pg_P → Nat} {st set : pg_S} {p : pg_P} (hv : ¬ vr p.1) (ho : om p = 0) : pg_Hd nx vr mv om st set p ↔ ∃ m, mv p m ∧ set (nx p m) :=
  ⟨fun z => (z.2 hv).1 ho, fun z => ⟨fun w => absurd w hv, fun _ => ⟨fun _ => z, fun w => absurd ho w⟩⟩⟩
theorem zy_hdV {nx : pg_P → Nat → pg_P} {vr : Nat → Prop} {mv : pg_M} {om : pg_P → Nat} {st set : pg_S} {p : pg_P} (hv : vr p.1) : pg_Hd nx vr mv om st set p ↔ st (nx p 0) :=
  ⟨fun z => z.1 hv, fun z => ⟨fun _ => z, fun w => absurd hv w⟩⟩
theorem zy_om0 (own : pg_P → Nat) (mv : pg_M) : zy_om own mv 0 = own := if_pos rfl
theorem zy_om1 (own : pg_P → Nat) (mv : pg_M) : zy_om own mv 1 = pg_o1 own mv 0 := if_neg (by decide)
theorem zy_om2 (own : pg_P → Nat) (mv : pg_M) : zy_om own mv 2 = pg_o1 own mv 1 := if_neg (by decide)
theorem zy_holds {post : Int32 → Prop} {n s μ : Nat} (C : zy_C N S b_kind b_arg b_parent Kd F G Dp Lk At Pn b_link b_atom b_pins) (hn : n < N) (hs : s < S) (hμ : μ < 3)
    (h1 : pg_Hd (zc_nx b_kind F G) (zc_vr b_kind) (zc_lg b_kind b_arg Lk Pn) (zy_om (zc_own b_kind b_arg At) (zc_lg b_kind b_arg Lk Pn) μ) (zy_sv b_stand) (zy_sv b_set) (n, s) → post 1)
    (h0 : ¬ pg_Hd (zc_nx b_kind F G) (zc_vr b_kind) (zc_lg b_kind b_arg Lk Pn) (zy_om (zc_own b_kind b_arg At) (zc_lg b_kind b_arg Lk Pn) μ) (zy_sv b_stand) (zy_sv b_set) (n, s) → post 0) : wpY_holds post ((nI S), g_nMax, (nI N), g_solved, g_playNow, g_pathLen, b_link, b_atom, b_kind, b_arg, b_parent, b_pins, b_path, b_set, b_stand) (nI μ) (nI s) (nI n) := by
  obtain ⟨hF, hc, ⟨hS2, hS⟩, hL, hP, hLY, hAY, hPY⟩ := C
  have hN := hF.1
  have hK := hF.2.1
  obtain ⟨LG, eLG⟩ : ∃ LG, LG = zc_lg b_kind b_arg Lk Pn := ⟨_, rfl⟩
  obtain ⟨NX, eNX⟩ : ∃ NX, NX = zc_nx b_kind F G := ⟨_, rfl⟩
  obtain ⟨OW, eOW⟩ : ∃ OW, OW = zc_own b_kind b_arg At := ⟨_, rfl⟩
  rw [← eLG, ← eNX, ← eOW] at h1 h0
  have ne : ∀ {i j : Int32}, i ≠ j → b_kind n = i → ¬ b_kind n = j := fun hij e e' => hij (e.symm.trans e')
  have k1v := fun z : b_kind n = 1 => hK n hn |>.2.1 (Or.inl z)
  -- the modes
  have m0 : zy_om OW LG 0 = OW := zy_om0 _ _
  have m1 : zy_om OW LG 1 = pg_o1 OW LG 0 := zy_om1 _ _
  have m2 : zy_om OW LG 2 = pg_o1 OW LG 1 := zy_om2 _ _
  have mc : μ = 0 ∨ μ = 1 ∨ μ = 2 := by omega
  -- owners stuck without a move
  have atomCase : ∀ o, o < 2 → OW (n, s) = o → (∀ m, ¬ LG (n, s) m) → ¬ b_kind n = 9 → (pg_Hd NX (zc_vr b_kind) LG (zy_om OW LG μ) (zy_sv b_stand) (zy_sv b_set) (n, s) ↔ o = 1) := by
    intro o ho2 ho hst hv
    have hom : zy_om OW LG μ (n, s) = o := by
      rcases mc with e | e | e
      · rw [e, m0]; exact ho
      · rw [e, m1]
        rcases Nat.eq_zero_or_pos o with z | z
        · rw [z]; exact pg_o1_Pe (by omega) ⟨ho.trans z, hst⟩
        · rw [pg_o1_Q (by omega) (fun w => by omega)]; omega
      · rw [e, m2]
        rcases Nat.eq_zero_or_pos o with z | z
        · rw [pg_o1_Q (by omega) (fun w => by omega), z]
        · have e1 : o = 1 := by omega
          rw [e1]; exact pg_o1_Pe (by omega) ⟨ho.trans e1, hst⟩
    rcases Nat.eq_zero_or_pos o with z | z
    · rw [zy_hdE hv (by rw [hom]; exact z)]
      exact ⟨fun ⟨m, hm, _⟩ => absurd hm (hst m), fun w => by omega⟩
    · rw [zy_hdA hv (by omega)]
      exact ⟨fun _ => by omega, fun _ m hm => absurd hm (hst m)⟩
  have noAtom : (b_kind n = 1 ∨ b_kind n = 2) → ∀ m, ¬ LG (n, s) m := by
    intro hk m hm
    rw [eLG] at hm
    rcases hm.1 with z | z | z
    · rcases hk with k | k <;> exact absurd z.1 (fun w => w.elim (ne (by decide) k) (ne (by decide) k))
    · rcases hk with k | k <;> exact absurd z.1 (fun w => w.elim (ne (by decide) k) (ne (by decide) k))
    · rcases hk with k | k <;> exact absurd z.1 (fun w => w.elim (ne (by decide) k) (fun w => w.elim (ne (by decide) k) (ne (by decide) k)))
  refine And.intro (zi_in (by omega) (by omega)) ?_
  rw [zi_c (by omega)]
  intro y hy
  subst hy
  by_cases k1 : b_kind n = 1
  · refine br_t k1 ⟨zi_in (by omega) (by omega), ?_⟩
    obtain ⟨a, ha, ea⟩ : ∃ a, a < 2 ∧ b_arg n = nI a := by
      rcases (hK n hn).2.1 (Or.inl k1) with e | e
      · exact ⟨0, by omega, e⟩
      · exact ⟨1, by omega, e⟩
    rw [ea, zi_2, zi_c (by omega)]
    have hat := hAY s a hs ha
    have how : OW (n, s) = if bt (At s) a = true then 1 else 0 := by
      rw [eOW]
      unfold zc_own
      dsimp only
      rw [ea, zi_c (by omega), if_neg (fun z => z.elim (ne (by decide) k1) (ne (by decide) k1)), if_neg (fun z => z.elim (ne (by decide) k1) (ne (by decide) k1)), if_pos k1]
    refine ⟨zi_in (by omega) (by omega), ?_⟩
    rcases hat.1 with z | z
    · rw [z]
      rw [if_neg (fun w => hat.2.mp w z)] at how
      refine ⟨rfl, h0 (fun w => ?_)⟩
      have := (atomCase 0 (by omega) how (noAtom (Or.inl k1)) (ne (by decide) k1)).mp w
      omega
    · rw [z]
      rw [if_pos (hat.2.mpr (by rw [z]; decide))] at how
      exact ⟨rfl, h1 ((atomCase 1 (by omega) how (noAtom (Or.inl k1)) (ne (by decide) k1)).mpr rfl)⟩
  refine br_f k1 ?_
  by_cases k2 : b_kind n = 2
  · refine br_t k2 ⟨zi_in (by omega) (by omega), ?_⟩
    obtain ⟨a, ha, ea⟩ : ∃ a, a < 2 ∧ b_arg n = nI a := by
      rcases (hK n hn).2.1 (Or.inr k2) with e | e
      · exact ⟨0, by omega, e⟩
      · exact ⟨1, by omega, e⟩
    rw [ea, zi_2, zi_c (by omega)]
    have hat := hAY s a hs ha
    have how : OW (n, s) = if bt (At s) a = true then 0 else 1 := by
      rw [eOW]
      unfold zc_own
      dsimp only
      rw [ea, zi_c (by omega), if_neg (fun z => z.elim (ne (by decide) k2) (ne (by decide) k2)), if_neg (fun z => z.elim (ne (by decide) k2) (ne (by decide) k2)), if_neg k1, if_pos k2]
    refine ⟨zi_in (by omega) (by omega), ?_⟩
    by_cases z : b_atom (s * 2 + a) = 0
    · rw [if_neg (fun w => hat.2.mp w z)] at how
      exact br_t z (h1 ((atomCase 1 (by omega) how (noAtom (Or.inr k2)) (ne (by decide) k2)).mpr rfl))
    · rw [if_pos (hat.2.mpr z)] at how
      refine br_f z (h0 (fun w => ?_))
      have := (atomCase 0 (by omega) how (noAtom (Or.inr k2)) (ne (by decide) k2)).mp w
      omega
  refine br_f k2 ?_
  by_cases k9 : b_kind n = 9
  · refine br_t k9 ?_
    obtain ⟨a, b, ha, _, eb, hb, _⟩ := hF.2.2.1 n hn k9
    have hst : pg_Hd NX (zc_vr b_kind) LG (zy_om OW LG μ) (zy_sv b_stand) (zy_sv b_set) (n, s) ↔ bt (b_stand b) s = true := by
      rw [zy_hdV (p := (n, s)) k9, eNX, zc_nx_0 (fun z => z.elim (ne (by decide) k9) (ne (by decide) k9)) (fun z => absurd z.1 (by decide)), eb, zi_c (by omega)]
    refine zy_binderOf hF hn k9 ?_
    rw [eb]
    refine br_f (nI_pos (by omega)) ⟨zi_in (by omega) (by omega), ?_⟩
    rw [zi_c (by omega)]
    by_cases hb' : bt (b_stand b) s = true
    · exact br_t ((zb_sh1 _ (by omega)).mpr hb') (h1 (hst.mpr hb'))
    · exact br_f (fun z => hb' ((zb_sh1 _ (by omega)).mp z)) (h0 (fun z => hb' (hst.mp z)))
  refine br_f k9 ⟨6, ?_⟩
  have lt5 : ∀ m, LG (n, s) m → m < 5 := fun m hm => by rw [eLG] at hm; exact zc_am_lt hS2 hS hL hm.1
  have nost : (b_kind n = 3 ∨ b_kind n = 4) → ∃ m, LG (n, s) m := by
    intro hk
    rw [eLG]
    rcases hP n s hn hs with z | ⟨k, e, _, ha⟩
    · exact ⟨0, Or.inl ⟨hk, by omega⟩, Or.inl z⟩
    · exact ⟨k, ha, Or.inr e⟩
  have main : ∀ d i, i + d = 5 → wY_holds_112 post (nI μ) (nI s) (nI n) (b_kind n) (nI S) g_nMax (nI N) g_solved g_playNow g_pathLen b_link b_atom b_kind b_arg b_parent b_pins b_path b_set b_stand (d + 1) (zy_b (∃ m, m < i ∧ LG (n, s) m)) (zy_b (∃ m, m < i ∧ LG (n, s) m ∧ zy_sv b_set (NX (n, s) m))) (zy_b (∀ m, m < i → LG (n, s) m → zy_sv b_set (NX (n, s) m))) (nI i) := by
    intro d
    induction d with
    | zero =>
      intro i hi
      have e : i = 5 := by omega
      subst e
      have eS : zy_b (∃ m, m < 5 ∧ LG (n, s) m) = zy_b (∃ m, LG (n, s) m) := zy_bc ⟨fun ⟨m, _, h⟩ => ⟨m, h⟩, fun ⟨m, h⟩ => ⟨m, lt5 m h, h⟩⟩
      have eE : zy_b (∃ m, m < 5 ∧ LG (n, s) m ∧ zy_sv b_set (NX (n, s) m)) = zy_b (∃ m, LG (n, s) m ∧ zy_sv b_set (NX (n, s) m)) := zy_bc ⟨fun ⟨m, _, h⟩ => ⟨m, h⟩, fun ⟨m, h⟩ => ⟨m, lt5 m h.1, h⟩⟩
      have eA : zy_b (∀ m, m < 5 → LG (n, s) m → zy_sv b_set (NX (n, s) m)) = zy_b (∀ m, LG (n, s) m → zy_sv b_set (NX (n, s) m)) := zy_bc ⟨fun h m hm => h m (lt5 m hm) hm, fun h m _ hm => h m hm⟩
      rw [eS, eE, eA]
      have pA : zy_om OW LG μ (n, s) ≠ 0 → post (zy_b (∀ m, LG (n, s) m → zy_sv b_set (NX (n, s) m))) := fun ho => zy_bp (fun z => h1 ((zy_hdA (p := (n, s)) k9 ho).mpr z)) (fun z => h0 (fun w => z ((zy_hdA (p := (n, s)) k9 ho).mp w)))
      have pE : zy_om OW LG μ (n, s) = 0 → post (zy_b (∃ m, LG (n, s) m ∧ zy_sv b_set (NX (n, s) m))) := fun ho => zy_bp (fun z => h1 ((zy_hdE (p := (n, s)) k9 ho).mpr z)) (fun z => h0 (fun w => z ((zy_hdE (p := (n, s)) k9 ho).mp w)))
      have ow : ∀ v o, b_kind n = v → (∀ a : Bool, (if v = 4 ∨ v = 5 then 0 else if v = 3 ∨ v = 6 then 1 else if v = 1 then (if a = true then 1 else 0) else if v = 2 then (if a = true then 0 else 1) else 2) = o) → OW (n, s) = o := by
        intro v o hv h
        rw [eOW]
        unfold zc_own
        dsimp only
        rw [hv]
        exact h _
      refine br_t (by decide) ?_
      by_cases k3 : b_kind n = 3
      · have o := ow 3 1 k3 (by decide)
        refine br_t k3 ?_
        rcases mc with e | e | e
        · subst e
          exact br_f (by decide) ⟨zy_bn _, pA (by rw [m0]; omega)⟩
        · subst e
          exact br_f (by decide) ⟨zy_bn _, pA (by rw [m1, pg_o1_Q (by omega) (fun w => by omega)]; omega)⟩
        · subst e
          exact br_t rfl ⟨zy_bn _, pE (by rw [m2, pg_o1_Q (by omega) (fun w => by obtain ⟨m, hm⟩ := nost (Or.inl k3); exact w.2 m hm)])⟩
      refine br_f k3 ?_
      by_cases k4 : b_kind n = 4
      · have o := ow 4 0 k4 (by decide)
        refine br_t k4 ?_
        rcases mc with e | e | e
        · subst e
          exact br_f (by decide) ⟨zy_bn _, pE (by rw [m0]; omega)⟩
        · subst e
          exact br_t rfl ⟨zy_bn _, pA (by rw [m1, pg_o1_Q (by omega) (fun w => by obtain ⟨m, hm⟩ := nost (Or.inr k4); exact w.2 m hm)]; omega)⟩
        · subst e
          exact br_f (by decide) ⟨zy_bn _, pE (by rw [m2, pg_o1_Q (by omega) (fun w => by omega)])⟩
      refine br_f k4 ?_
      by_cases k6 : b_kind n = 6
      · have o := ow 6 1 k6 (by decide)
        refine br_t k6 ?_
        rcases mc with e | e | e
        · subst e
          exact br_f (by decide) ⟨zy_bn _, pA (by rw [m0]; omega)⟩
        · subst e
          exact br_f (by decide) ⟨zy_bn _, pA (by rw [m1, pg_o1_Q (by omega) (fun w => by omega)]; omega)⟩
        · subst e
          refine br_t rfl ?_
          by_cases hst : ∃ m, LG (n, s) m
          · have ho : zy_om OW LG 2 (n, s) = 0 := by rw [m2, pg_o1_Q (by omega) (fun w => by obtain ⟨m, hm⟩ := hst; exact w.2 m hm)]
            refine br_f (by rw [zy_b1 hst]; decide) ?_
            by_cases hE : ∃ m, LG (n, s) m ∧ zy_sv b_set (NX (n, s) m)
            · exact br_f (by rw [zy_b1 hE]; decide) (h1 ((zy_hdE (p := (n, s)) k9 ho).mpr hE))
            · exact br_t (zy_b0 hE) (h0 (fun w => hE ((zy_hdE (p := (n, s)) k9 ho).mp w)))
          · have hst' : ∀ m, ¬ LG (n, s) m := fun m hm => hst ⟨m, hm⟩
            have ho : zy_om OW LG 2 (n, s) = 1 := by rw [m2]; exact pg_o1_Pe (by omega) ⟨o, hst'⟩
            exact br_t (zy_b0 hst) (h1 ((zy_hdA (p := (n, s)) k9 (by omega)).mpr (fun m hm => absurd hm (hst' m))))
      refine br_f k6 ?_
      by_cases k5 : b_kind n = 5
      · have o := ow 5 0 k5 (by decide)
        refine br_t k5 ?_
        rcases mc with e | e | e
        · subst e
          exact br_f (by decide) ⟨zy_bn _, pE (by rw [m0]; omega)⟩
        · subst e
          refine br_t rfl ?_
          by_cases hst : ∃ m, LG (n, s) m
          · have ho : zy_om OW LG 1 (n, s) = 1 := by rw [m1, pg_o1_Q (by omega) (fun w => by obtain ⟨m, hm⟩ := hst; exact w.2 m hm)]
            refine br_f (by rw [zy_b1 hst]; decide) ?_
            by_cases hA : ∀ m, LG (n, s) m → zy_sv b_set (NX (n, s) m)
            · exact br_f (by rw [zy_b1 hA]; decide) (h1 ((zy_hdA (p := (n, s)) k9 (by omega)).mpr hA))
            · exact br_t (zy_b0 hA) (h0 (fun w => hA ((zy_hdA (p := (n, s)) k9 (by omega)).mp w)))
          · have hst' : ∀ m, ¬ LG (n, s) m := fun m hm => hst ⟨m, hm⟩
            have ho : zy_om OW LG 1 (n, s) = 0 := by rw [m1]; exact pg_o1_Pe (by omega) ⟨o, hst'⟩
            refine br_t (zy_b0 hst) (h0 (fun w => ?_))
            obtain ⟨m, hm, _⟩ := (zy_hdE (p := (n, s)) k9 ho).mp w
            exact hst' m hm
        · subst e
          exact br_f (by decide) ⟨zy_bn _, pE (by rw [m2, pg_o1_Q (by omega) (fun w => by omega)])⟩
      refine br_f k5 ?_
      have o : OW (n, s) = 2 := by
        rcases zr_kcases hK hn with k | k | k | k | k | k | k | k | k
        · exact absurd k k1
        · exact absurd k k2
        · exact absurd k k3
        · exact absurd k k4
        · exact absurd k k5
        · exact absurd k k6
        · exact ow 7 2 k (by decide)
        · exact ow 8 2 k (by decide)
        · exact absurd k k9
      have ho : zy_om OW LG μ (n, s) = 2 := by
        rcases mc with e | e | e
        · rw [e, m0]; exact o
        · rw [e, m1]; exact (pg_o1_2 (by omega) _).mpr o
        · rw [e, m2]; exact (pg_o1_2 (by omega) _).mpr o
      exact ⟨zy_bn _, pA (by omega)⟩
    | succ d ih =>
      intro i hi
      have nx := ih (i + 1) (by omega)
      have ltc : ∀ m, m < i + 1 → m < i ∨ m = i := fun m h => by omega
      refine br_f (nI_ge (b := 5) (by omega) (by decide)) (zy_legalN hK hLY hL hPY hN hS hn hs (by omega) (fun hlg => br_f (by decide) ?_) (fun hlg => br_t rfl (nm_r (nI_1 i) ?_)))
      · have hlg' : LG (n, s) i := by rw [eLG]; exact hlg
        have eS : zy_b (∃ m, m < i + 1 ∧ LG (n, s) m) = 1 := zy_b1 ⟨i, by omega, hlg'⟩
        rw [eS] at nx
        obtain ⟨q1, q2, q3⟩ := zf_step (G := G) hF hc hL hn hs hlg.1
        have hN1 : (zc_nx b_kind F G (n, s) i).1 < N := by
          by_cases k : b_kind n = 9
          · exact absurd k k9
          · exact (q3 k).2.1
        have tail : wpY_nextNode (fun r_60 => (((r_60 < 0 → (∀ x8_77 : Int32, x8_77 = nI i + 1 → (wY_holds_112 post (nI μ) (nI s) (nI n) (b_kind n) (nI S) g_nMax (nI N) g_solved g_playNow g_pathLen b_link b_atom b_kind b_arg b_parent b_pins b_path b_set b_stand (d + 1) 1 (zy_b (∃ m, m < i ∧ LG (n, s) m ∧ zy_sv b_set (NX (n, s) m))) 0 x8_77))) ∧ (¬ r_60 < 0 → (vp_in r_60 14 ∧ ((((((b_set r_60.toNatClampNeg) >>> (nI (zc_nx b_kind F G (n, s) i).2 &&& 31)) &&& 1) = 1 → (∀ x8_81 : Int32, x8_81 = nI i + 1 → (wY_holds_112 post (nI μ) (nI s) (nI n) (b_kind n) (nI S) g_nMax (nI N) g_solved g_playNow g_pathLen b_link b_atom b_kind b_arg b_parent b_pins b_path b_set b_stand (d + 1) 1 1 (zy_b (∀ m, m < i → LG (n, s) m → zy_sv b_set (NX (n, s) m))) x8_81))) ∧ (¬ (((b_set r_60.toNatClampNeg) >>> (nI (zc_nx b_kind F G (n, s) i).2 &&& 31)) &&& 1) = 1 → (∀ x8_80 : Int32, x8_80 = nI i + 1 → (wY_holds_112 post (nI μ) (nI s) (nI n) (b_kind n) (nI S) g_nMax (nI N) g_solved g_playNow g_pathLen b_link b_atom b_kind b_arg b_parent b_pins b_path b_set b_stand (d + 1) 1 (zy_b (∃ m, m < i ∧ LG (n, s) m ∧ zy_sv b_set (NX (n, s) m))) 0 x8_80)))))))))) ((nI S), g_nMax, (nI N), g_solved, g_playNow, g_pathLen, b_link, b_atom, b_kind, b_arg, b_parent, b_pins, b_path, b_set, b_stand) (nI n) (nI i) := by
          refine zy_nextNode hF hc hL hn hs hlg.1 (by omega) ?_
          refine br_f (nI_pos (by omega)) ⟨zi_in (by omega) (by omega), ?_⟩
          rw [zi_c (by omega)]
          by_cases hb : bt (b_set (zc_nx b_kind F G (n, s) i).1) (zc_nx b_kind F G (n, s) i).2 = true
          · have hb' : zy_sv b_set (NX (n, s) i) := by rw [eNX]; exact hb
            refine br_t ((zb_sh1 _ (by omega)).mpr hb) (nm_r (nI_1 i) ?_)
            rw [zy_b1 ⟨i, by omega, hlg', hb'⟩, zy_bc (q := ∀ m, m < i → LG (n, s) m → zy_sv b_set (NX (n, s) m)) ⟨fun h m hm => h m (by omega), fun h m hm hl => (ltc m hm).elim (fun w => h m w hl) (fun w => by rw [w]; exact hb')⟩] at nx
            exact nx
          · have hb' : ¬ zy_sv b_set (NX (n, s) i) := by rw [eNX]; exact hb
            refine br_f (fun z => hb ((zb_sh1 _ (by omega)).mp z)) (nm_r (nI_1 i) ?_)
            rw [zy_b0 (p := ∀ m, m < i + 1 → LG (n, s) m → zy_sv b_set (NX (n, s) m)) (fun h => hb' (h i (by omega) hlg')), zy_bc (q := ∃ m, m < i ∧ LG (n, s) m ∧ zy_sv b_set (NX (n, s) m)) ⟨fun ⟨m, hm, hl, hz⟩ => (ltc m hm).elim (fun w => ⟨m, w, hl, hz⟩) (fun w => by rw [w] at hz; exact absurd hz hb'), fun ⟨m, hm, h⟩ => ⟨m, by omega, h⟩⟩] at nx
            exact nx
        refine zy_nextState (by omega) (fun hk => ?_) (fun hk => ?_)
        · rw [zc_nx_d hk] at tail; exact tail
        · have e2 : (zc_nx b_kind F G (n, s) i).2 = s := by
            by_cases e : i = 1 ∧ (b_kind n = 3 ∨ b_kind n = 4)
            · rw [zc_nx_1 e.2 e.1]
            · rw [zc_nx_0 hk e]
          rw [e2] at tail; exact tail
      · have hlg' : ¬ LG (n, s) i := by rw [eLG]; exact hlg
        have f1 : zy_b (∃ m, m < i + 1 ∧ LG (n, s) m) = zy_b (∃ m, m < i ∧ LG (n, s) m) := zy_bc ⟨fun ⟨m, hm, h⟩ => (ltc m hm).elim (fun w => ⟨m, w, h⟩) (fun w => by rw [w] at h; exact absurd h hlg'), fun ⟨m, hm, h⟩ => ⟨m, by omega, h⟩⟩
        have f2 : zy_b (∃ m, m < i + 1 ∧ LG (n, s) m ∧ zy_sv b_set (NX (n, s) m)) = zy_b (∃ m, m < i ∧ LG (n, s) m ∧ zy_sv b_set (NX (n, s) m)) := zy_bc ⟨fun ⟨m, hm, h⟩ => (ltc m hm).elim (fun w => ⟨m, w, h⟩) (fun w => by rw [w] at h; exact absurd h.1 hlg'), fun ⟨m, hm, h⟩ => ⟨m, by omega, h⟩⟩
        have f3 : zy_b (∀ m, m < i + 1 → LG (n, s) m → zy_sv b_set (NX (n, s) m)) = zy_b (∀ m, m < i → LG (n, s) m → zy_sv b_set (NX (n, s) m)) := zy_bc ⟨fun h m hm => h m (by omega), fun h m hm hl => (ltc m hm).elim (fun w => h m w hl) (fun w => by rw [w] at hl; exact absurd hl hlg')⟩
        rw [f1, f2, f3] at nx
        exact nx
  have := main 5 0 rfl
  rw [zy_b0 (p := ∃ m, m < 0 ∧ LG (n, s) m) (fun ⟨m, h, _⟩ => absurd h (by omega)), zy_b0 (p := ∃ m, m < 0 ∧ LG (n, s) m ∧ zy_sv b_set (NX (n, s) m)) (fun ⟨m, h, _⟩ => absurd h (by omega)), zy_b1 (p := ∀ m, m < 0 → LG (n, s) m → zy_sv b_set (NX (n, s) m)) (fun m h => absurd h (by omega))] at this
  exact this
end
end
section
/-! ===== Y: sweep, assign, evaluate ===== -/
theorem zu_same {a : Nat → Int32} {i : Nat} {v : Int32} (h : a i = v) : upd a i v = a := by
  funext x
  unfold upd
  split
  · rename_i e; rw [e, h]
  · rfl
/-- what assign writes -/
def zy_fa (K Dp : Nat → Int32) (S : Nat) (d : Nat) (fr : Bool) (set st : Nat → Int32) (n : Nat) : Int32 :=
  if (K n = 7 ∨ K n = 8) ∧ (Dp n).toNatClampNeg = d then (if fr = true then (if K n = 7 then 0 else ((1 : Int32) <<< (nI S &&& 31)) - 1) else set n) else st n
section
variable {N S : Nat} {F G Dp Kd Lk At Pn : Nat → Int32}
variable {g_nMax g_solved g_playNow g_pathLen : Int32} {b_link b_atom b_kind b_arg b_parent b_pins b_path b_set b_stand : Nat → Int32}
theorem zy_sweep {post : SY → Prop} {μ : Nat} (C : zy_C N S b_kind b_arg b_parent Kd F G Dp Lk At Pn b_link b_atom b_pins) (hμ : μ < 3)
    (K : ∀ set, pg_Sw N S (zc_nx b_kind F G) (zc_vr b_kind) (zc_lg b_kind b_arg Lk Pn) (zy_om (zc_own b_kind b_arg At) (zc_lg b_kind b_arg Lk Pn) μ) (zy_sv b_stand) (zy_sv set) → (∀ n b, n < N → bt (set n) b = true → b < S) → post ((nI S), g_nMax, (nI N), g_solved, g_playNow, g_pathLen, b_link, b_atom, b_kind, b_arg, b_parent, b_pins, b_path, set, b_stand)) : wpY_sweep post ((nI S), g_nMax, (nI N), g_solved, g_playNow, g_pathLen, b_link, b_atom, b_kind, b_arg, b_parent, b_pins, b_path, b_set, b_stand) (nI μ) := by
  have C' := C
  obtain ⟨hF, hc, ⟨hS2, hS⟩, hL, hP, hLY, hAY, hPY⟩ := C'
  have hN := hF.1
  have H := zf_St (At := At) hF hc hS2 hS hL hP
  have inner : ∀ (J7 : Int32 → (Nat → Int32) → (Nat → Int32) → (Nat → Int32) → (Nat → Int32) → (Nat → Int32) → (Nat → Int32) → (Nat → Int32) → (Nat → Int32) → (Nat → Int32) → Prop) (n : Nat), n < N → ∀ set, J7 (nI n - 1) b_link b_atom b_kind b_arg b_parent b_pins b_path (upd set n (zs_m (fun s => pg_Hd (zc_nx b_kind F G) (zc_vr b_kind) (zc_lg b_kind b_arg Lk Pn) (zy_om (zc_own b_kind b_arg At) (zc_lg b_kind b_arg Lk Pn) μ) (zy_sv b_stand) (zy_sv set) (n, s)) S)) b_stand →
      ∀ d s, s + d = S → wY_sweep_16 post J7 (nI μ) (nI n) (nI S) g_nMax (nI N) g_solved g_playNow g_pathLen b_link b_atom b_kind b_arg b_parent b_pins b_path set b_stand (d + 1) (zs_m (fun s => pg_Hd (zc_nx b_kind F G) (zc_vr b_kind) (zc_lg b_kind b_arg Lk Pn) (zy_om (zc_own b_kind b_arg At) (zc_lg b_kind b_arg Lk Pn) μ) (zy_sv b_stand) (zy_sv set) (n, s)) s) (nI s) := by
    intro J7 n hn set KJ d
    induction d with
    | zero =>
      intro s hs
      have e : s = S := by omega
      subst e
      refine br_t (nI_le (Nat.le_refl _) (by omega)) ⟨zi_in (by omega) (by omega), ?_⟩
      rw [zi_c (by omega)]
      exact nm_e (nm_r (zi_dm n) KJ)
    | succ d ih =>
      intro s hs
      have nx := ih (s + 1) (by omega)
      refine br_f (nI_ge (by omega) (by omega)) (zy_holds C hn (by omega) hμ (fun h => br_f (by decide) ?_) (fun h => br_t rfl (nm_r (nI_1 s) ?_)))
      · rw [zs_t h, ← zb_add (by omega) (fun i _ hi z => by have := ((zs_b _ s (by omega) i).mp z).1; omega)] at nx
        exact nm_e (nm_r (nI_1 s) nx)
      · rw [zs_f h] at nx
        exact nx
  have main : ∀ k, k ≤ N → ∀ set, (∀ n, k ≤ n → n < N → set n = zs_m (fun s => pg_Hd (zc_nx b_kind F G) (zc_vr b_kind) (zc_lg b_kind b_arg Lk Pn) (zy_om (zc_own b_kind b_arg At) (zc_lg b_kind b_arg Lk Pn) μ) (zy_sv b_stand) (zy_sv set) (n, s)) S) → wY_sweep_7 post (nI μ) (nI S) g_nMax (nI N) g_solved g_playNow g_pathLen (k + 1) (nI k - 1) b_link b_atom b_kind b_arg b_parent b_pins b_path set b_stand := by
    intro k
    induction k with
    | zero =>
      intro _ set hI
      refine br_t (by decide) (K set (fun p hp => ?_) (fun n b hn hb => ?_))
      · show bt (set p.1) p.2 = true ↔ _
        rw [hI p.1 (Nat.zero_le _) hp.1, zs_b _ S (by omega)]
        exact ⟨fun z => z.2, fun z => ⟨hp.2, z⟩⟩
      · rw [hI n (Nat.zero_le _) hn, zs_b _ S (by omega)] at hb
        exact hb.1
    | succ k ih =>
      intro hk set hI
      rw [nI_pred]
      refine br_f (nI_pos (by omega)) ⟨S + 1, inner _ k (by omega) set (ih (by omega) _ (fun n h1 h2 => ?_)) S 0 (by omega)⟩
      -- nodes from n on do not see what is written at k
      have same : ∀ n, k ≤ n → n < N → ∀ s, s < S → (pg_Hd (zc_nx b_kind F G) (zc_vr b_kind) (zc_lg b_kind b_arg Lk Pn) (zy_om (zc_own b_kind b_arg At) (zc_lg b_kind b_arg Lk Pn) μ) (zy_sv b_stand) (zy_sv set) (n, s) ↔ pg_Hd (zc_nx b_kind F G) (zc_vr b_kind) (zc_lg b_kind b_arg Lk Pn) (zy_om (zc_own b_kind b_arg At) (zc_lg b_kind b_arg Lk Pn) μ) (zy_sv b_stand) (zy_sv (upd set k (zs_m (fun s => pg_Hd (zc_nx b_kind F G) (zc_vr b_kind) (zc_lg b_kind b_arg Lk Pn) (zy_om (zc_own b_kind b_arg At) (zc_lg b_kind b_arg Lk Pn) μ) (zy_sv b_stand) (zy_sv set) (k, s)) S))) (n, s)) := by
        intro n h1 h2 s hs
        refine pg_Hd_congr (fun m hv hm => ?_)
        have hlt := (H.2.1 (n, s) m ⟨h2, hs⟩ hm hv).1
        show bt (set _) _ = true ↔ bt (upd set k _ _) _ = true
        rw [pk_un (Nat.ne_of_gt (Nat.lt_of_le_of_lt h1 hlt))]
      by_cases e : n = k
      · subst e
        rw [pk_us]
        exact zs_ext (by omega) (fun s hs => same n (Nat.le_refl _) h2 s hs)
      · rw [pk_un e, hI n (by omega) h2]
        exact zs_ext (by omega) (fun s hs => same n h1 h2 s hs)
  exact nm_e ⟨N + 1, main N (Nat.le_refl _) b_set (fun n h1 h2 => absurd h2 (by omega))⟩
theorem zy_assign {post : SY → Prop} {d : Nat} {fr : Bool} (hF : zf_F N b_kind b_arg b_parent Kd F G Dp) (hS : S ≤ 5) (hd : d < 3)
    (K : post ((nI S), g_nMax, (nI N), g_solved, g_playNow, g_pathLen, b_link, b_atom, b_kind, b_arg, b_parent, b_pins, b_path, b_set, (zu b_stand 0 N (zy_fa b_kind Dp S d fr b_set b_stand)))) : wpY_assign post ((nI S), g_nMax, (nI N), g_solved, g_playNow, g_pathLen, b_link, b_atom, b_kind, b_arg, b_parent, b_pins, b_path, b_set, b_stand) (nI d) (if fr = true then 1 else 0) := by
  have hN := hF.1
  have hPD := zf_PD_of hF
  have main : ∀ e j, j + e = N → wY_assign_2 post (nI d) (if fr = true then 1 else 0) (nI S) g_nMax (nI N) g_solved g_playNow g_pathLen (e + 1) (nI j) b_link b_atom b_kind b_arg b_parent b_pins b_path b_set (zu b_stand 0 j (zy_fa b_kind Dp S d fr b_set b_stand)) := by
    intro e
    induction e with
    | zero =>
      intro j hj
      have ej : j = N := by omega
      subst ej
      exact br_t (nI_le (Nat.le_refl _) (by omega)) K
    | succ e ih =>
      intro j hj
      have nx := ih (j + 1) (by omega)
      rw [← zu_s, Nat.zero_add] at nx
      have ej : zu b_stand 0 j (zy_fa b_kind Dp S d fr b_set b_stand) j = b_stand j := zu_out (by omega)
      have skip : zy_fa b_kind Dp S d fr b_set b_stand j = b_stand j → wY_assign_2 post (nI d) (if fr = true then 1 else 0) (nI S) g_nMax (nI N) g_solved g_playNow g_pathLen (e + 1) (nI (j + 1)) b_link b_atom b_kind b_arg b_parent b_pins b_path b_set (zu b_stand 0 j (zy_fa b_kind Dp S d fr b_set b_stand)) := by
        intro h
        rw [h, zu_same ej] at nx
        exact nx
      refine br_f (nI_ge (by omega) (by omega)) (zy_binder (by omega) (fun hb => br_f (by decide) ⟨zi_in (by omega) (by omega), ?_⟩) (fun hb => br_t rfl (nm_r (nI_1 j) (skip ?_))))
      · rw [zi_c (by omega)]
        have hdd := zf_PD_d hPD (n := j) (by omega)
        have fin : ((nI (zc_dep Dp j) = nI d → (((if fr = true then (1 : Int32) else 0) = 0 → (vp_in (nI j) 14 ∧ (vp_in (nI j) 14 ∧ ∀ st, st = upd (zu b_stand 0 j (zy_fa b_kind Dp S d fr b_set b_stand)) (nI j).toNatClampNeg (b_set (nI j).toNatClampNeg) → ∀ x, x = nI j + 1 → wY_assign_2 post (nI d) (if fr = true then 1 else 0) (nI S) g_nMax (nI N) g_solved g_playNow g_pathLen (e + 1) x b_link b_atom b_kind b_arg b_parent b_pins b_path b_set st))) ∧ (¬ (if fr = true then (1 : Int32) else 0) = 0 → (vp_in (nI j) 14 ∧ ((b_kind (nI j).toNatClampNeg = 7 → (vp_in (nI j) 14 ∧ ∀ st, st = upd (zu b_stand 0 j (zy_fa b_kind Dp S d fr b_set b_stand)) (nI j).toNatClampNeg 0 → ∀ x, x = nI j + 1 → wY_assign_2 post (nI d) (if fr = true then 1 else 0) (nI S) g_nMax (nI N) g_solved g_playNow g_pathLen (e + 1) x b_link b_atom b_kind b_arg b_parent b_pins b_path b_set st)) ∧ (¬ b_kind (nI j).toNatClampNeg = 7 → (vp_in (nI j) 14 ∧ ∀ st, st = upd (zu b_stand 0 j (zy_fa b_kind Dp S d fr b_set b_stand)) (nI j).toNatClampNeg (((1 : Int32) <<< (nI S &&& 31)) - 1) → ∀ x, x = nI j + 1 → wY_assign_2 post (nI d) (if fr = true then 1 else 0) (nI S) g_nMax (nI N) g_solved g_playNow g_pathLen (e + 1) x b_link b_atom b_kind b_arg b_parent b_pins b_path b_set st))))))) ∧ (¬ nI (zc_dep Dp j) = nI d → ∀ x, x = nI j + 1 → wY_assign_2 post (nI d) (if fr = true then 1 else 0) (nI S) g_nMax (nI N) g_solved g_playNow g_pathLen (e + 1) x b_link b_atom b_kind b_arg b_parent b_pins b_path b_set (zu b_stand 0 j (zy_fa b_kind Dp S d fr b_set b_stand)))) := by
          rw [zi_c (by omega)]
          by_cases hq : zc_dep Dp j = d
          · refine br_t (by rw [hq]) ?_
            have ef : zy_fa b_kind Dp S d fr b_set b_stand j = if fr = true then (if b_kind j = 7 then 0 else ((1 : Int32) <<< (nI S &&& 31)) - 1) else b_set j := if_pos ⟨hb, hq⟩
            cases fr with
            | true =>
              refine br_f (by decide) ⟨zi_in (by omega) (by omega), ?_⟩
              rw [if_pos rfl] at ef
              by_cases k7 : b_kind j = 7
              · rw [if_pos k7] at ef
                rw [ef] at nx
                exact br_t k7 ⟨zi_in (by omega) (by omega), nm_e (nm_r (nI_1 j) nx)⟩
              · rw [if_neg k7] at ef
                rw [ef] at nx
                exact br_f k7 ⟨zi_in (by omega) (by omega), nm_e (nm_r (nI_1 j) nx)⟩
            | false =>
              rw [if_neg (by decide)] at ef
              rw [ef] at nx
              exact br_t rfl ⟨zi_in (by omega) (by omega), zi_in (by omega) (by omega), nm_e (nm_r (nI_1 j) nx)⟩
          · exact br_f (fun z => hq ((nI_eq (by omega) (by omega)).mp z)) (nm_r (nI_1 j) (skip (if_neg (fun z => hq z.2))))
        rw [zi_c (by omega)] at fin
        rcases zf_up hPD (q := j) (by omega) with ⟨_, e1, e3⟩ | ⟨q', hq', e1, _, e2⟩
        · rw [e1]
          rw [e3] at fin
          exact zy_bfm fin
        · rw [e1]
          rw [e2] at fin
          exact zy_bf hPD (by omega) fin
      · exact if_neg (fun z => hb z.1)
  have := main N 0 (by omega)
  rw [zu_0] at this
  exact ⟨N + 1, this⟩
theorem zy_fr {K Dp set st : Nat → Int32} {d : Nat} (hS : S ≤ 5) : pg_Fr N S (zc_bd K) (zc_dep Dp) (zc_bk K) d (zy_sv st) (zy_sv (zu st 0 N (zy_fa K Dp S d true set st))) := by
  intro p hp
  have e : zu st 0 N (zy_fa K Dp S d true set st) p.1 = zy_fa K Dp S d true set st p.1 := by
    have := zu_in (a := st) (b := 0) (j := N) (f := zy_fa K Dp S d true set st) hp.1
    rw [Nat.zero_add] at this
    exact this
  constructor
  · intro h
    show bt (zu st 0 N (zy_fa K Dp S d true set st) p.1) p.2 = true ↔ _
    rw [e]
    unfold zy_fa
    rw [if_pos h, if_pos rfl]
    by_cases k7 : K p.1 = 7
    · rw [if_pos k7, b_0]
      refine ⟨fun z => absurd z Bool.false_ne_true, fun z => z.elim (fun w => absurd w.1 (by decide)) (fun w => ?_)⟩
      exact absurd (k7.symm.trans w.2) (by decide)
    · rw [if_neg k7, zb_full S (by omega) p.2 (by have := hp.2; omega), decide_eq_true_iff]
      exact ⟨fun _ => Or.inr ⟨by decide, h.1.resolve_left k7⟩, fun _ => hp.2⟩
  · intro h
    show bt (zu st 0 N (zy_fa K Dp S d true set st) p.1) p.2 = true ↔ bt (st p.1) p.2 = true
    rw [e]
    unfold zy_fa
    rw [if_neg h]
theorem zy_as {K Dp set st : Nat → Int32} {d : Nat} : pg_As N S (zc_bd K) (zc_dep Dp) d (zy_sv set) (zy_sv st) (zy_sv (zu st 0 N (zy_fa K Dp S d false set st))) := by
  intro p hp
  have e : zu st 0 N (zy_fa K Dp S d false set st) p.1 = zy_fa K Dp S d false set st p.1 := by
    have := zu_in (a := st) (b := 0) (j := N) (f := zy_fa K Dp S d false set st) hp.1
    rw [Nat.zero_add] at this
    exact this
  constructor
  · intro h
    show bt (zu st 0 N (zy_fa K Dp S d false set st) p.1) p.2 = true ↔ bt (set p.1) p.2 = true
    rw [e]
    unfold zy_fa
    rw [if_pos h, if_neg (by decide)]
  · intro h
    show bt (zu st 0 N (zy_fa K Dp S d false set st) p.1) p.2 = true ↔ bt (st p.1) p.2 = true
    rw [e]
    unfold zy_fa
    rw [if_neg h]
/-- one level's evaluation and its round -/
abbrev zy_Ev (N S : Nat) (K Ar F G Dp Lk At Pn : Nat → Int32) (μ l : Nat) : pg_X → pg_X → Prop :=
  pg_Ev N S (zc_nx K F G) (zc_vr K) (zc_bd K) (zc_dep Dp) (zc_lg K Ar Lk Pn) (zy_om (zc_own K Ar At) (zc_lg K Ar Lk Pn) μ) (zc_bk K) l
abbrev zy_Rd (N S : Nat) (K Ar F G Dp Lk At Pn : Nat → Int32) (μ l : Nat) (a b : pg_X) : Prop :=
  ∃ c, zy_Ev N S K Ar F G Dp Lk At Pn μ l a c ∧ b.1 = c.1 ∧ pg_As N S (zc_bd K) (zc_dep Dp) (2 - l) c.1 c.2 b.2
abbrev zy_ok (N S : Nat) (set : Nat → Int32) : Prop := ∀ n b, n < N → bt (set n) b = true → b < S
theorem zy_ev41 {post : SY → Prop} {J8 J24 : Int32 → Int32 → Int32 → Int32 → Int32 → Int32 → Int32 → (Nat → Int32) → (Nat → Int32) → (Nat → Int32) → (Nat → Int32) → (Nat → Int32) → (Nat → Int32) → (Nat → Int32) → (Nat → Int32) → (Nat → Int32) → Prop} {x2 : Int32} {μ j : Nat} (hμ : μ < 3) (C : zy_C N S b_kind b_arg b_parent Kd F G Dp Lk At Pn b_link b_atom b_pins) :
    ∀ d k, k + d = S + 1 → ∀ set st, (k = 0 ∨ zy_ok N S set) → (∀ set' st', pg_It (zy_Rd N S b_kind b_arg F G Dp Lk At Pn μ 0) d (zy_sv set, zy_sv st) (zy_sv set', zy_sv st') → zy_ok N S set' → J24 (nI (j + 1)) (nI S) g_nMax (nI N) g_solved g_playNow g_pathLen b_link b_atom b_kind b_arg b_parent b_pins b_path set' (zu st' 0 N (zy_fa b_kind Dp S 1 false set' st'))) →
      wY_evaluate_41 post J8 J24 (nI μ) x2 (nI j) (d + 1) (nI k) (nI S) g_nMax (nI N) g_solved g_playNow g_pathLen b_link b_atom b_kind b_arg b_parent b_pins b_path set st := by
  have hS := C.2.2.1.2
  intro d
  induction d with
  | zero =>
    intro k hk set st hok K
    refine br_t (nI_lt (by omega) (by omega)) (zy_assign (d := 1) (fr := false) C.1 hS (by omega) ?_)
    exact nm_r (nI_1 j) (K set st rfl (hok.resolve_left (by omega)))
  | succ d ih =>
    intro k hk set st hok K
    refine br_f (nI_nlt (by omega) (by omega)) (zy_sweep C hμ (fun set1 hsw hok1 => ?_))
    refine zy_assign (d := 2) (fr := false) C.1 hS (by omega) (nm_r (nI_1 k) (ih (k + 1) (by omega) set1 _ (Or.inr hok1) (fun set' st' hit hok' => K set' st' ?_ hok')))
    exact ⟨(zy_sv set1, zy_sv (zu st 0 N (zy_fa b_kind Dp S 2 false set1 st))), ⟨(zy_sv set1, zy_sv st), ⟨hsw, rfl⟩, rfl, zy_as⟩, hit⟩
theorem zy_ev24 {post : SY → Prop} {J8 : Int32 → Int32 → Int32 → Int32 → Int32 → Int32 → Int32 → (Nat → Int32) → (Nat → Int32) → (Nat → Int32) → (Nat → Int32) → (Nat → Int32) → (Nat → Int32) → (Nat → Int32) → (Nat → Int32) → (Nat → Int32) → Prop} {μ i : Nat} (hμ : μ < 3) (C : zy_C N S b_kind b_arg b_parent Kd F G Dp Lk At Pn b_link b_atom b_pins) :
    ∀ d k, k + d = S + 1 → ∀ set st, (k = 0 ∨ zy_ok N S set) → (∀ set' st', pg_It (zy_Rd N S b_kind b_arg F G Dp Lk At Pn μ 1) d (zy_sv set, zy_sv st) (zy_sv set', zy_sv st') → zy_ok N S set' → J8 (nI (i + 1)) (nI S) g_nMax (nI N) g_solved g_playNow g_pathLen b_link b_atom b_kind b_arg b_parent b_pins b_path set' (zu st' 0 N (zy_fa b_kind Dp S 0 false set' st'))) →
      wY_evaluate_24 post J8 (nI μ) (nI i) (d + 1) (nI k) (nI S) g_nMax (nI N) g_solved g_playNow g_pathLen b_link b_atom b_kind b_arg b_parent b_pins b_path set st := by
  have hS := C.2.2.1.2
  intro d
  induction d with
  | zero =>
    intro k hk set st hok K
    refine br_t (nI_lt (by omega) (by omega)) (zy_assign (d := 0) (fr := false) C.1 hS (by omega) ?_)
    exact nm_r (nI_1 i) (K set st rfl (hok.resolve_left (by omega)))
  | succ d ih =>
    intro k hk set st hok K
    refine br_f (nI_nlt (by omega) (by omega)) (zy_assign (d := 2) (fr := true) C.1 hS (by omega) ⟨S + 2, ?_⟩)
    refine zy_ev41 hμ C (S + 1) 0 (by omega) set _ (Or.inl rfl) (fun set1 st1 hit1 hok1 => ih (k + 1) (by omega) set1 _ (Or.inr hok1) (fun set' st' hit hok' => K set' st' ?_ hok'))
    exact ⟨(zy_sv set1, zy_sv (zu st1 0 N (zy_fa b_kind Dp S 1 false set1 st1))), ⟨(zy_sv set1, zy_sv st1), ⟨_, zy_fr (set := set) hS, hit1⟩, rfl, zy_as⟩, hit⟩
theorem zy_ev8 {post : SY → Prop} {μ : Nat} (hμ : μ < 3) (C : zy_C N S b_kind b_arg b_parent Kd F G Dp Lk At Pn b_link b_atom b_pins) :
    ∀ d k, k + d = S + 1 → ∀ set st, (k = 0 ∨ zy_ok N S set) → (∀ set' st', pg_It (zy_Rd N S b_kind b_arg F G Dp Lk At Pn μ 2) d (zy_sv set, zy_sv st) (zy_sv set', zy_sv st') → zy_ok N S set' → post ((nI S), g_nMax, (nI N), g_solved, g_playNow, g_pathLen, b_link, b_atom, b_kind, b_arg, b_parent, b_pins, b_path, set', st')) →
      wY_evaluate_8 post (nI μ) (d + 1) (nI k) (nI S) g_nMax (nI N) g_solved g_playNow g_pathLen b_link b_atom b_kind b_arg b_parent b_pins b_path set st := by
  have hS := C.2.2.1.2
  intro d
  induction d with
  | zero =>
    intro k hk set st hok K
    exact br_t (nI_lt (by omega) (by omega)) (K set st rfl (hok.resolve_left (by omega)))
  | succ d ih =>
    intro k hk set st hok K
    refine br_f (nI_nlt (by omega) (by omega)) (zy_assign (d := 1) (fr := true) C.1 hS (by omega) ⟨S + 2, ?_⟩)
    refine zy_ev24 hμ C (S + 1) 0 (by omega) set _ (Or.inl rfl) (fun set1 st1 hit1 hok1 => ih (k + 1) (by omega) set1 _ (Or.inr hok1) (fun set' st' hit hok' => K set' st' ?_ hok'))
    exact ⟨(zy_sv set1, zy_sv (zu st1 0 N (zy_fa b_kind Dp S 0 false set1 st1))), ⟨(zy_sv set1, zy_sv st1), ⟨_, zy_fr (set := set) hS, hit1⟩, rfl, zy_as⟩, hit⟩
theorem zy_evaluate {post : SY → Prop} {μ : Nat} (hμ : μ < 3) (C : zy_C N S b_kind b_arg b_parent Kd F G Dp Lk At Pn b_link b_atom b_pins)
    (K : ∀ x set st, zy_Ev N S b_kind b_arg F G Dp Lk At Pn μ 3 x (zy_sv set, zy_sv st) → zy_ok N S set → post ((nI S), g_nMax, (nI N), g_solved, g_playNow, g_pathLen, b_link, b_atom, b_kind, b_arg, b_parent, b_pins, b_path, set, st)) : wpY_evaluate post ((nI S), g_nMax, (nI N), g_solved, g_playNow, g_pathLen, b_link, b_atom, b_kind, b_arg, b_parent, b_pins, b_path, b_set, b_stand) (nI μ) := by
  have hS := C.2.2.1.2
  unfold wpY_evaluate
  refine zy_assign (d := 0) (fr := true) C.1 hS (by omega) ⟨S + 2, ?_⟩
  refine zy_ev8 hμ C (S + 1) 0 (by omega) b_set _ (Or.inl rfl) (fun set' st' hit hok => K (zy_sv b_set, zy_sv b_stand) set' st' ?_ hok)
  exact ⟨_, zy_fr (set := b_set) hS, hit⟩
end
end
section
/-! ===== the relation ===== -/
abbrev zr_Sv (N S : Nat) (sv : Int32) (K Ar Pa F G Lk At Pn Wn : Nat → Int32) : Prop :=
  sv = 0 ∨ (sv = 1 ∧ zf_Cpl N K Pa ∧ (∃ ch, pg_FC N S (zc_nx K F G) (zc_lg K Ar Lk Pn) (zc_own K Ar At) (zc_bk K) (zy_sv Wn) ch) ∧ zy_ok N S Wn)
abbrev zr_Pl (N S pl : Nat) (sv pm : Int32) (K Ar Lk Pn Ph : Nat → Int32) : Prop :=
  pl ≤ 71 ∧ (pm = 0 ∨ (sv = 1 ∧ 1 ≤ pl ∧ (∀ i, i < pl → ∃ n s, n < N ∧ s < S ∧ Ph i = nI (s * 16 + n)) ∧
    ((pm = 2 ∨ pm = 3) ∨ (pm = 1 ∧ (∀ i j, i < j → j < pl → Ph i ≠ Ph j) ∧ ∀ n s, n < N → s < S → Ph (pl - 1) = nI (s * 16 + n) → ∃ m, zc_lg K Ar Lk Pn (n, s) m))))
abbrev zr_I (N S rm pl : Nat) (sv pm : Int32) (Lk At K Ar Pa Kd F G Dp Pn Wn Ph Ch lk atm pn : Nat → Int32) : Prop :=
  ((2 ≤ S ∧ S ≤ 5) ∧ (4 ≤ rm ∧ rm ≤ 14) ∧ N ≤ rm) ∧
  zf_F N K Ar Pa Kd F G Dp ∧
  (zr_L S Lk ∧ zr_LY S Lk lk) ∧
  (zr_AY S At atm ∧ ∀ s b, bt (At s) b = true → b < 2) ∧
  (zr_P N S K Ar Lk Pn ∧ zr_PY Pn pn) ∧
  (∀ i, ∃ k, k < 5 ∧ Ch i = nI k) ∧
  zr_Sv N S sv K Ar Pa F G Lk At Pn Wn ∧
  zr_Pl N S pl sv pm K Ar Lk Pn Ph
def i_Rel (_ : Nat) (u : SX) (v : SY) : Prop :=
  ∃ (N S rm pl : Nat) (f_solved f_playMode f_forceBase f_outRow f_badRow f_reachRow : Int32) (a_linkSet a_atomSet a_kinds a_args a_parent a_kids a_first a_second a_depth a_pins a_win a_path a_mv a_choice a_ranks a_sets b_link b_atom b_pins b_set b_stand : Nat → Int32), u = ((nI S), (nI rm), (nI N), f_solved, f_playMode, (nI pl), f_forceBase, f_outRow, f_badRow, f_reachRow, a_linkSet, a_atomSet, a_kinds, a_args, a_parent, a_kids, a_first, a_second, a_depth, a_pins, a_win, a_path, a_mv, a_choice, a_ranks, a_sets) ∧ v = ((nI S), (nI rm), (nI N), f_solved, f_playMode, (nI pl), b_link, b_atom, a_kinds, a_args, a_parent, b_pins, a_path, b_set, b_stand) ∧ zr_I N S rm pl f_solved f_playMode a_linkSet a_atomSet a_kinds a_args a_parent a_kids a_first a_second a_depth a_pins a_win a_path a_choice b_link b_atom b_pins
theorem i_up {k : Nat} {u : SX} {v : SY} (h : i_Rel k u v) : i_Rel (k + 5) u v := h
theorem zr_el {k : Nat} {u : SX} {v : SY} {P : SX → SY → Prop} (h : ∀ (N S rm pl : Nat) (f_solved f_playMode f_forceBase f_outRow f_badRow f_reachRow : Int32) (a_linkSet a_atomSet a_kinds a_args a_parent a_kids a_first a_second a_depth a_pins a_win a_path a_mv a_choice a_ranks a_sets b_link b_atom b_pins b_set b_stand : Nat → Int32), zr_I N S rm pl f_solved f_playMode a_linkSet a_atomSet a_kinds a_args a_parent a_kids a_first a_second a_depth a_pins a_win a_path a_choice b_link b_atom b_pins → P ((nI S), (nI rm), (nI N), f_solved, f_playMode, (nI pl), f_forceBase, f_outRow, f_badRow, f_reachRow, a_linkSet, a_atomSet, a_kinds, a_args, a_parent, a_kids, a_first, a_second, a_depth, a_pins, a_win, a_path, a_mv, a_choice, a_ranks, a_sets) ((nI S), (nI rm), (nI N), f_solved, f_playMode, (nI pl), b_link, b_atom, a_kinds, a_args, a_parent, b_pins, a_path, b_set, b_stand)) (I : i_Rel k u v) : P u v := by
  obtain ⟨N, S, rm, pl, f_solved, f_playMode, f_forceBase, f_outRow, f_badRow, f_reachRow, a_linkSet, a_atomSet, a_kinds, a_args, a_parent, a_kids, a_first, a_second, a_depth, a_pins, a_win, a_path, a_mv, a_choice, a_ranks, a_sets, b_link, b_atom, b_pins, b_set, b_stand, eu, ev, hI⟩ := I
  subst eu
  subst ev
  exact h _ _ _ _ _ _ _ _ _ _ _ _ _ _ _ _ _ _ _ _ _ _ _ _ _ _ _ _ _ _ _ hI
theorem zr_in {k : Nat} {N S rm pl : Nat} {f_solved f_playMode f_forceBase f_outRow f_badRow f_reachRow : Int32} {a_linkSet a_atomSet a_kinds a_args a_parent a_kids a_first a_second a_depth a_pins a_win a_path a_mv a_choice a_ranks a_sets b_link b_atom b_pins b_set b_stand : Nat → Int32} (hI : zr_I N S rm pl f_solved f_playMode a_linkSet a_atomSet a_kinds a_args a_parent a_kids a_first a_second a_depth a_pins a_win a_path a_choice b_link b_atom b_pins) : i_Rel k ((nI S), (nI rm), (nI N), f_solved, f_playMode, (nI pl), f_forceBase, f_outRow, f_badRow, f_reachRow, a_linkSet, a_atomSet, a_kinds, a_args, a_parent, a_kids, a_first, a_second, a_depth, a_pins, a_win, a_path, a_mv, a_choice, a_ranks, a_sets) ((nI S), (nI rm), (nI N), f_solved, f_playMode, (nI pl), b_link, b_atom, a_kinds, a_args, a_parent, b_pins, a_path, b_set, b_stand) :=
  ⟨N, S, rm, pl, f_solved, f_playMode, f_forceBase, f_outRow, f_badRow, f_reachRow, a_linkSet, a_atomSet, a_kinds, a_args, a_parent, a_kids, a_first, a_second, a_depth, a_pins, a_win, a_path, a_mv, a_choice, a_ranks, a_sets, b_link, b_atom, b_pins, b_set, b_stand, rfl, rfl, hI⟩
/-! edit -/
section
variable {N S : Nat}
variable {f_room f_solved f_playMode f_pathLen f_forceBase f_outRow f_badRow f_reachRow : Int32} {a_linkSet a_atomSet a_kinds a_args a_parent a_kids a_first a_second a_depth a_pins a_win a_path a_mv a_choice a_ranks a_sets : Nat → Int32}
variable {g_nMax g_solved g_playNow g_pathLen : Int32} {b_link b_atom b_kind b_arg b_parent b_pins b_path b_set b_stand : Nat → Int32}
theorem zx_edit {post : SX → Prop} {x y : Int32} (K : post (x, f_room, y, 0, 0, 0, f_forceBase, f_outRow, f_badRow, f_reachRow, a_linkSet, a_atomSet, a_kinds, a_args, a_parent, a_kids, a_first, a_second, a_depth, (zu a_pins 0 70 (fun _ => -2)), a_win, a_path, a_mv, a_choice, a_ranks, a_sets)) : wpX_edit post (x, f_room, y, f_solved, f_playMode, f_pathLen, f_forceBase, f_outRow, f_badRow, f_reachRow, a_linkSet, a_atomSet, a_kinds, a_args, a_parent, a_kids, a_first, a_second, a_depth, a_pins, a_win, a_path, a_mv, a_choice, a_ranks, a_sets) := by
  have main : ∀ d j, j + d = 70 → wX_edit_2 post x f_room y f_solved f_playMode f_pathLen f_forceBase f_outRow f_badRow f_reachRow (d + 1) (nI j) a_linkSet a_atomSet a_kinds a_args a_parent a_kids a_first a_second a_depth (zu a_pins 0 j (fun _ => -2)) a_win a_path a_mv a_choice a_ranks a_sets := by
    intro d
    induction d with
    | zero =>
      intro j hj
      have e : j = 70 := by omega
      subst e
      exact br_t (by decide) K
    | succ d ih =>
      intro j hj
      have nx := ih (j + 1) (by omega)
      rw [← zu_s, Nat.zero_add] at nx
      refine br_f (nI_ge (b := 70) (by omega) (by decide)) ⟨zi_in (by omega) (by omega), ?_⟩
      rw [zi_c (by omega)]
      exact nm_e (nm_r (nI_1 j) nx)
  have := main 70 0 rfl
  rw [zu_0] at this
  exact ⟨71, this⟩
theorem zy_edit {post : SY → Prop} {x y : Int32} (K : post (x, g_nMax, y, 0, 0, 0, b_link, b_atom, b_kind, b_arg, b_parent, (zu b_pins 0 70 (fun _ => -2)), b_path, b_set, b_stand)) : wpY_edit post (x, g_nMax, y, g_solved, g_playNow, g_pathLen, b_link, b_atom, b_kind, b_arg, b_parent, b_pins, b_path, b_set, b_stand) := by
  have main : ∀ d j, j + d = 70 → wY_edit_2 post x g_nMax y g_solved g_playNow g_pathLen (d + 1) (nI j) b_link b_atom b_kind b_arg b_parent (zu b_pins 0 j (fun _ => -2)) b_path b_set b_stand := by
    intro d
    induction d with
    | zero =>
      intro j hj
      have e : j = 70 := by omega
      subst e
      exact br_t (by decide) K
    | succ d ih =>
      intro j hj
      have nx := ih (j + 1) (by omega)
      rw [← zu_s, Nat.zero_add] at nx
      refine br_f (nI_ge (b := 70) (by omega) (by decide)) ⟨zi_in (by omega) (by omega), ?_⟩
      rw [zi_c (by omega)]
      exact nm_e (nm_r (nI_1 j) nx)
  have := main 70 0 rfl
  rw [zu_0] at this
  exact ⟨71, this⟩
end
theorem zr_pin0 {N S : Nat} (hN : N ≤ 14) (hS : S ≤ 5) {K Ar Lk a b : Nat → Int32} : zr_P N S K Ar Lk (zu a 0 70 (fun _ => -2)) ∧ zr_PY (zu a 0 70 (fun _ => -2)) (zu b 0 70 (fun _ => -2)) := by
  have e : ∀ (a : Nat → Int32) i, i < 70 → zu a 0 70 (fun _ => -2) i = -2 := fun a i hi => by
    have := zu_in (a := a) (b := 0) (j := 70) (f := fun _ => (-2 : Int32)) hi
    rw [Nat.zero_add] at this
    exact this
  refine ⟨fun n s hn hs => Or.inl (e _ _ (by omega)), fun n s hn hs => ?_⟩
  rw [e _ _ (by omega), e _ _ (by omega)]
/-- after an edit nothing is solved and nothing is played -/
theorem zr_after {N S rm : Nat} {Lk At K Ar Pa Kd F G Dp Wn Ph Ch lk atm a b : Nat → Int32} (h0 : (2 ≤ S ∧ S ≤ 5) ∧ (4 ≤ rm ∧ rm ≤ 14) ∧ N ≤ rm) (h1 : zf_F N K Ar Pa Kd F G Dp) (h2 : zr_L S Lk ∧ zr_LY S Lk lk) (h3 : zr_AY S At atm ∧ ∀ s b, bt (At s) b = true → b < 2) (h4 : ∀ i, ∃ k, k < 5 ∧ Ch i = nI k) :
    zr_I N S rm 0 0 0 Lk At K Ar Pa Kd F G Dp (zu a 0 70 (fun _ => -2)) Wn Ph Ch lk atm (zu b 0 70 (fun _ => -2)) :=
  ⟨h0, h1, h2, h3, zr_pin0 h1.1 h0.1.2, h4, Or.inl rfl, Nat.zero_le _, Or.inl rfl⟩
theorem zr_F0 {K Ar Pa Kd F G Dp : Nat → Int32} : zf_F 0 K Ar Pa Kd F G Dp :=
  ⟨Nat.zero_le _, fun n hn => absurd hn (by omega), fun n hn => absurd hn (by omega), fun n hn => absurd hn (by omega), fun n hn => absurd hn (by omega), fun n hn => absurd hn (by omega), fun n hn => absurd hn (by omega), fun n hn => absurd hn (by omega)⟩
/-! the constructors -/
theorem zr_clamp2 (k0 : Int32) {A B : Int32 → Prop} (h : ∀ S, 2 ≤ S → S ≤ 5 → A (nI S)) (f : ∀ x, A x → B x) : ((2 ≤ k0 → ((k0 ≤ 5 → B k0) ∧ (¬ k0 ≤ 5 → B 5))) ∧ (¬ 2 ≤ k0 → B 2)) := by
  refine br_c (fun h2 => br_c (fun h5 => ?_) (fun _ => f _ (h 5 (by omega) (by omega)))) (fun _ => f _ (h 2 (by omega) (by omega)))
  have hn : ¬ k0 < 0 := by
    rw [Int32.lt_iff_toInt_lt]
    rw [Int32.le_iff_toInt_le] at h2
    have e2 : (2 : Int32).toInt = 2 := by decide
    have e0 : (0 : Int32).toInt = 0 := by decide
    omega
  obtain ⟨j, hj, e⟩ := nI_of2 (M := 5) (n := 5) (by decide) hn h5
  subst e
  have : 2 ≤ j := (nI_leI (a := 2) (by omega) (by omega)).mp h2
  exact f _ (h j this hj)
theorem zr_clamp4 (k0 : Int32) {A B : Int32 → Prop} (h : ∀ S, 4 ≤ S → S ≤ 14 → A (nI S)) (f : ∀ x, A x → B x) : ((4 ≤ k0 → ((k0 ≤ 14 → B k0) ∧ (¬ k0 ≤ 14 → B 14))) ∧ (¬ 4 ≤ k0 → B 4)) := by
  refine br_c (fun h2 => br_c (fun h5 => ?_) (fun _ => f _ (h 14 (by omega) (by omega)))) (fun _ => f _ (h 4 (by omega) (by omega)))
  have hn : ¬ k0 < 0 := by
    rw [Int32.lt_iff_toInt_lt]
    rw [Int32.le_iff_toInt_le] at h2
    have e2 : (4 : Int32).toInt = 4 := by decide
    have e0 : (0 : Int32).toInt = 0 := by decide
    omega
  obtain ⟨j, hj, e⟩ := nI_of2 (M := 14) (n := 14) (by decide) hn h5
  subst e
  have : 4 ≤ j := (nI_leI (a := 4) (by omega) (by omega)).mp h2
  exact f _ (h j this hj)
/-- one value for both sides -/
theorem zr_cl2 (k0 : Int32) : ∃ S, 2 ≤ S ∧ S ≤ 5 ∧ ∀ B : Int32 → Prop, B (nI S) → ((2 ≤ k0 → ((k0 ≤ 5 → B k0) ∧ (¬ k0 ≤ 5 → B 5))) ∧ (¬ 2 ≤ k0 → B 2)) := by
  by_cases h2 : 2 ≤ k0
  · by_cases h5 : k0 ≤ 5
    · have hn : ¬ k0 < 0 := by
        rw [Int32.lt_iff_toInt_lt]
        rw [Int32.le_iff_toInt_le] at h2
        have e2 : (2 : Int32).toInt = 2 := by decide
        have e0 : (0 : Int32).toInt = 0 := by decide
        omega
      obtain ⟨j, hj, e⟩ := nI_of2 (M := 5) (n := 5) (by decide) hn h5
      subst e
      have : 2 ≤ j := (nI_leI (a := 2) (by omega) (by omega)).mp h2
      exact ⟨j, this, hj, fun B hB => br_t h2 (br_t h5 hB)⟩
    · exact ⟨5, by omega, by omega, fun B hB => br_t h2 (br_f h5 hB)⟩
  · exact ⟨2, by omega, by omega, fun B hB => br_f h2 hB⟩
theorem zr_cl4 (k0 : Int32) : ∃ S, 4 ≤ S ∧ S ≤ 14 ∧ ∀ B : Int32 → Prop, B (nI S) → ((4 ≤ k0 → ((k0 ≤ 14 → B k0) ∧ (¬ k0 ≤ 14 → B 14))) ∧ (¬ 4 ≤ k0 → B 4)) := by
  by_cases h2 : 4 ≤ k0
  · by_cases h5 : k0 ≤ 14
    · have hn : ¬ k0 < 0 := by
        rw [Int32.lt_iff_toInt_lt]
        rw [Int32.le_iff_toInt_le] at h2
        have e2 : (4 : Int32).toInt = 4 := by decide
        have e0 : (0 : Int32).toInt = 0 := by decide
        omega
      obtain ⟨j, hj, e⟩ := nI_of2 (M := 14) (n := 14) (by decide) hn h5
      subst e
      have : 4 ≤ j := (nI_leI (a := 4) (by omega) (by omega)).mp h2
      exact ⟨j, this, hj, fun B hB => br_t h2 (br_t h5 hB)⟩
    · exact ⟨14, by omega, by omega, fun B hB => br_t h2 (br_f h5 hB)⟩
  · exact ⟨4, by omega, by omega, fun B hB => br_f h2 hB⟩
theorem zx_init209 {post : SX → Prop} {S rm : Nat} (K : post (nI S, nI rm, nI 0, 0, 0, nI 0, 112, 224, 238, 252, fun _ => 0, fun _ => 0, fun _ => 0, fun _ => 0, fun _ => 0, fun _ => 0, fun _ => 0, fun _ => 0, fun _ => 0, zu (fun _ => 0) 0 70 (fun _ => -2), fun _ => 0, fun _ => 0, fun _ => 0, fun _ => 0, fun _ => 0, fun _ => 0)) :
    ∃ n, wX_init_209 post (nI S) (nI rm) 0 0 0 0 112 224 238 252 n 0 (fun _ => 0) (fun _ => 0) (fun _ => 0) (fun _ => 0) (fun _ => 0) (fun _ => 0) (fun _ => 0) (fun _ => 0) (fun _ => 0) (fun _ => 0) (fun _ => 0) (fun _ => 0) (fun _ => 0) (fun _ => 0) (fun _ => 0) (fun _ => 0) := by
  have main : ∀ d j, j + d = 70 → wX_init_209 post (nI S) (nI rm) 0 0 0 0 112 224 238 252 (d + 1) (nI j) (fun _ => 0) (fun _ => 0) (fun _ => 0) (fun _ => 0) (fun _ => 0) (fun _ => 0) (fun _ => 0) (fun _ => 0) (fun _ => 0) (zu (fun _ => 0) 0 j (fun _ => -2)) (fun _ => 0) (fun _ => 0) (fun _ => 0) (fun _ => 0) (fun _ => 0) (fun _ => 0) := by
    intro d
    induction d with
    | zero =>
      intro j hj
      have e : j = 70 := by omega
      subst e
      exact br_t (by decide) K
    | succ d ih =>
      intro j hj
      have nx := ih (j + 1) (by omega)
      rw [← zu_s, Nat.zero_add] at nx
      refine br_f (nI_ge (b := 70) (by omega) (by decide)) ⟨zi_in (by omega) (by omega), ?_⟩
      rw [zi_c (by omega)]
      exact nm_e (nm_r (nI_1 j) nx)
  have := main 70 0 rfl
  rw [zu_0] at this
  exact ⟨71, this⟩
theorem i_vc0 (k0 : Int32) (k1 : Int32) : wpX_init (fun u => wpY_init (fun v => i_Rel 2 u v) k0 k1) k0 k1 := by
  obtain ⟨S, hS2, hS, cS⟩ := zr_cl2 k0
  obtain ⟨rm, hr4, hr, cR⟩ := zr_cl4 k1
  refine cS (fun z => wX_init_179 (fun u => wpY_init (fun v => i_Rel 2 u v) k0 k1) k1 z 0 0 0 0 0 0 112 224 238 252 (fun _ => 0) (fun _ => 0) (fun _ => 0) (fun _ => 0) (fun _ => 0) (fun _ => 0) (fun _ => 0) (fun _ => 0) (fun _ => 0) (fun _ => 0) (fun _ => 0) (fun _ => 0) (fun _ => 0) (fun _ => 0) (fun _ => 0) (fun _ => 0)) ?_
  refine cR (fun z => ∃ n209 : Nat, wX_init_209 (fun u => wpY_init (fun v => i_Rel 2 u v) k0 k1) (nI S) z 0 0 0 0 112 224 238 252 n209 0 (fun _ => 0) (fun _ => 0) (fun _ => 0) (fun _ => 0) (fun _ => 0) (fun _ => 0) (fun _ => 0) (fun _ => 0) (fun _ => 0) (fun _ => 0) (fun _ => 0) (fun _ => 0) (fun _ => 0) (fun _ => 0) (fun _ => 0) (fun _ => 0)) ?_
  refine zx_init209 ?_
  obtain ⟨u, hu⟩ : ∃ u : SX, u = (nI S, nI rm, nI 0, 0, 0, nI 0, 112, 224, 238, 252, fun _ => 0, fun _ => 0, fun _ => 0, fun _ => 0, fun _ => 0, fun _ => 0, fun _ => 0, fun _ => 0, fun _ => 0, zu (fun _ => 0) 0 70 (fun _ => -2), fun _ => 0, fun _ => 0, fun _ => 0, fun _ => 0, fun _ => 0, fun _ => 0) := ⟨_, rfl⟩
  rw [← hu]
  refine cS (fun z => wY_init_96 (fun v => i_Rel 2 u v) k1 z 0 0 0 0 0 0 (fun _ => 0) (fun _ => 0) (fun _ => 0) (fun _ => 0) (fun _ => 0) (fun _ => 0) (fun _ => 0) (fun _ => 0) (fun _ => 0)) ?_
  refine cR (fun z => wY_init_121 (fun v => i_Rel 2 u v) z (nI S) 0 0 0 0 0 (fun _ => 0) (fun _ => 0) (fun _ => 0) (fun _ => 0) (fun _ => 0) (fun _ => 0) (fun _ => 0) (fun _ => 0) (fun _ => 0)) ?_
  refine zy_edit ?_
  rw [hu]
  refine zr_in (zr_after ⟨⟨hS2, hS⟩, ⟨hr4, hr⟩, by omega⟩ zr_F0 ⟨fun i b hb => ?_, fun s a t _ _ _ => ⟨Or.inl rfl, ⟨fun z => ?_, fun z => absurd rfl z⟩⟩⟩ ⟨fun s a _ _ => ⟨Or.inl rfl, ⟨fun z => ?_, fun z => absurd rfl z⟩⟩, fun s b hb => ?_⟩ (fun i => ⟨0, by omega, rfl⟩))
  · rw [b_0] at hb; exact absurd hb Bool.false_ne_true
  · rw [b_0] at z; exact absurd z Bool.false_ne_true
  · rw [b_0] at z; exact absurd z Bool.false_ne_true
  · rw [b_0] at hb; exact absurd hb Bool.false_ne_true
end
section
/-! ===== the getters ===== -/
section
variable {N S rm pl : Nat} {f_solved f_playMode f_forceBase f_outRow f_badRow f_reachRow : Int32} {a_linkSet a_atomSet a_kinds a_args a_parent a_kids a_first a_second a_depth a_pins a_win a_path a_mv a_choice a_ranks a_sets b_link b_atom b_pins b_set b_stand : Nat → Int32}
theorem zi_play {Rp : Prop} (hR : Rp) : wpX_play (fun r => wpY_play (fun r' => r' = r ∧ Rp) ((nI S), (nI rm), (nI N), f_solved, f_playMode, (nI pl), b_link, b_atom, a_kinds, a_args, a_parent, b_pins, a_path, b_set, b_stand)) ((nI S), (nI rm), (nI N), f_solved, f_playMode, (nI pl), f_forceBase, f_outRow, f_badRow, f_reachRow, a_linkSet, a_atomSet, a_kinds, a_args, a_parent, a_kids, a_first, a_second, a_depth, a_pins, a_win, a_path, a_mv, a_choice, a_ranks, a_sets) := ⟨rfl, hR⟩
theorem zi_pathAt {Rp : Prop} (hI : zr_I N S rm pl f_solved f_playMode a_linkSet a_atomSet a_kinds a_args a_parent a_kids a_first a_second a_depth a_pins a_win a_path a_choice b_link b_atom b_pins) (hR : Rp) (v1 : Int32) : wpX_pathAt (fun r => wpY_pathAt (fun r' => r' = r ∧ Rp) ((nI S), (nI rm), (nI N), f_solved, f_playMode, (nI pl), b_link, b_atom, a_kinds, a_args, a_parent, b_pins, a_path, b_set, b_stand) v1) ((nI S), (nI rm), (nI N), f_solved, f_playMode, (nI pl), f_forceBase, f_outRow, f_badRow, f_reachRow, a_linkSet, a_atomSet, a_kinds, a_args, a_parent, a_kids, a_first, a_second, a_depth, a_pins, a_win, a_path, a_mv, a_choice, a_ranks, a_sets) v1 := by
  have hpl := hI.2.2.2.2.2.2.2.1
  by_cases h0 : f_playMode = 0
  · exact br_t h0 (br_t h0 ⟨rfl, hR⟩)
  · by_cases h1 : v1 < 0
    · exact br_f h0 (br_t h1 (br_f h0 (br_t h1 ⟨rfl, hR⟩)))
    · obtain ⟨j, hj, rfl⟩ := nI_of h1
      by_cases hl : j < pl
      · refine br_f h0 (br_f h1 (br_t (nI_lt hl (by omega)) ⟨zi_in (by omega) (by omega), ?_⟩))
        refine br_f h0 (br_f h1 (br_f (nI_ge hl (by omega)) (br_t (nI_le (b := 70) (by omega) (by decide)) ⟨zi_in (by omega) (by omega), rfl, hR⟩)))
      · exact br_f h0 (br_f h1 (br_f (nI_nlt (by omega) (by omega)) (br_f h0 (br_f h1 (br_t (nI_le (by omega) (by omega)) ⟨rfl, hR⟩)))))
theorem zi_nodeAt {Rp : Prop} (hI : zr_I N S rm pl f_solved f_playMode a_linkSet a_atomSet a_kinds a_args a_parent a_kids a_first a_second a_depth a_pins a_win a_path a_choice b_link b_atom b_pins) (hR : Rp) (v1 : Int32) : wpX_nodeAt (fun r => wpY_nodeAt (fun r' => r' = r ∧ Rp) ((nI S), (nI rm), (nI N), f_solved, f_playMode, (nI pl), b_link, b_atom, a_kinds, a_args, a_parent, b_pins, a_path, b_set, b_stand) v1) ((nI S), (nI rm), (nI N), f_solved, f_playMode, (nI pl), f_forceBase, f_outRow, f_badRow, f_reachRow, a_linkSet, a_atomSet, a_kinds, a_args, a_parent, a_kids, a_first, a_second, a_depth, a_pins, a_win, a_path, a_mv, a_choice, a_ranks, a_sets) v1 := by
  have hN := hI.2.1.1
  by_cases h1 : v1 < 0
  · refine br_t h1 (br_t h1 (br_t rfl ⟨rfl, hR⟩))
  · obtain ⟨j, hj, rfl⟩ := nI_of h1
    by_cases hl : j < N
    · refine br_f h1 (br_t (nI_lt hl (by omega)) ⟨zi_in (by omega) (by omega), zi_in (by omega) (by omega), ?_⟩)
      exact br_f h1 (br_f (nI_ge hl (by omega)) (br_f (by decide) ⟨zi_in (by omega) (by omega), zi_in (by omega) (by omega), rfl, hR⟩))
    · exact br_f h1 (br_f (nI_nlt (by omega) (by omega)) (br_f h1 (br_t (nI_le (by omega) (by omega)) (br_t rfl ⟨rfl, hR⟩))))
theorem zi_atoms {Rp : Prop} (hI : zr_I N S rm pl f_solved f_playMode a_linkSet a_atomSet a_kinds a_args a_parent a_kids a_first a_second a_depth a_pins a_win a_path a_choice b_link b_atom b_pins) (hR : Rp) (v1 : Int32) : wpX_atoms (fun r => wpY_atoms (fun r' => r' = r ∧ Rp) ((nI S), (nI rm), (nI N), f_solved, f_playMode, (nI pl), b_link, b_atom, a_kinds, a_args, a_parent, b_pins, a_path, b_set, b_stand) v1) ((nI S), (nI rm), (nI N), f_solved, f_playMode, (nI pl), f_forceBase, f_outRow, f_badRow, f_reachRow, a_linkSet, a_atomSet, a_kinds, a_args, a_parent, a_kids, a_first, a_second, a_depth, a_pins, a_win, a_path, a_mv, a_choice, a_ranks, a_sets) v1 := by
  have hS := hI.1.1.2
  obtain ⟨hAY, hA2⟩ := hI.2.2.2.1
  unfold wpX_atoms
  refine zx_isState hS (fun s hs e => br_f (by decide) ?_) (fun hno => br_t rfl ?_)
  · subst e
    refine ⟨zi_in (by omega) (by omega), ?_⟩
    rw [zi_c (by omega)]
    unfold wpY_atoms
    refine zy_isState hS (fun s' _ _ => br_f (by decide) ?_) (fun hno => absurd rfl (hno s hs))
    have e0 : nI s * 2 = nI (s * 2) := by rw [show (2 : Int32) = nI 2 from rfl, pk_mul]
    rw [e0, zi_c (by omega)]
    refine ⟨zi_in (by omega) (by omega), ?_⟩
    have a0 := (hAY s 0 hs (by omega)).2
    have a1 := (hAY s 1 hs (by omega)).2
    rw [Nat.add_zero] at a0
    -- the mask by its two bits
    have val : ∀ b0 b1 : Bool, bt (a_atomSet s) 0 = b0 → bt (a_atomSet s) 1 = b1 → (if b0 = true then (1 : Int32) else 0) + (if b1 = true then (2 : Int32) else 0) = a_atomSet s := by
      intro b0 b1 h0 h1
      apply b_ext
      intro i hi
      have key : ∀ b0 b1 : Bool, ∀ i, i < 32 → bt ((if b0 = true then (1 : Int32) else 0) + (if b1 = true then (2 : Int32) else 0)) i = (if i = 0 then b0 else if i = 1 then b1 else false) := by decide +kernel
      rw [key b0 b1 i hi]
      by_cases i0 : i = 0
      · rw [if_pos i0, i0, h0]
      · rw [if_neg i0]
        by_cases i1 : i = 1
        · rw [if_pos i1, i1, h1]
        · rw [if_neg i1]
          exact (Bool.eq_false_iff.mpr (fun z => by have := hA2 s i z; omega)).symm
    have fin : ∀ z0 : Int32, z0 = (if bt (a_atomSet s) 0 = true then (1 : Int32) else 0) → wY_atoms_26 (fun r' => r' = a_atomSet s ∧ Rp) (nI s) z0 (nI S) (nI rm) (nI N) f_solved f_playMode (nI pl) b_link b_atom a_kinds a_args a_parent b_pins a_path b_set b_stand := by
      intro z0 hz
      refine And.intro (by rw [e0, nI_1]; exact zi_in (by omega) (by omega)) ?_
      rw [e0, nI_1, zi_c (by omega), hz]
      by_cases g : b_atom (s * 2 + 1) = 0
      · refine br_t g ⟨?_, hR⟩
        have := val _ _ rfl rfl
        rw [if_neg (c := bt (a_atomSet s) 1 = true) (fun w => a1.mp w g)] at this
        exact this
      · refine br_f g ⟨?_, hR⟩
        have := val _ _ rfl rfl
        rw [if_pos (c := bt (a_atomSet s) 1 = true) (a1.mpr g)] at this
        exact this
    by_cases g : b_atom (s * 2) = 0
    · exact br_t g (fin 0 (by rw [if_neg (fun w => a0.mp w g)]))
    · exact br_f g (fin 1 (by rw [if_pos (a0.mpr g)]))
  · unfold wpY_atoms
    exact zy_isState hS (fun s hs e => absurd e (hno s hs)) (fun _ => br_t rfl ⟨rfl, hR⟩)
theorem zi_links {Rp : Prop} (hI : zr_I N S rm pl f_solved f_playMode a_linkSet a_atomSet a_kinds a_args a_parent a_kids a_first a_second a_depth a_pins a_win a_path a_choice b_link b_atom b_pins) (hR : Rp) (v1 v2 : Int32) : wpX_links (fun r => wpY_links (fun r' => r' = r ∧ Rp) ((nI S), (nI rm), (nI N), f_solved, f_playMode, (nI pl), b_link, b_atom, a_kinds, a_args, a_parent, b_pins, a_path, b_set, b_stand) v1 v2) ((nI S), (nI rm), (nI N), f_solved, f_playMode, (nI pl), f_forceBase, f_outRow, f_badRow, f_reachRow, a_linkSet, a_atomSet, a_kinds, a_args, a_parent, a_kids, a_first, a_second, a_depth, a_pins, a_win, a_path, a_mv, a_choice, a_ranks, a_sets) v1 v2 := by
  have hS := hI.1.1.2
  obtain ⟨hL, hLY⟩ := hI.2.2.1
  have no : (∀ s, s < S → v1 ≠ nI s) → wpY_links (fun r' => r' = -1 ∧ Rp) ((nI S), (nI rm), (nI N), f_solved, f_playMode, (nI pl), b_link, b_atom, a_kinds, a_args, a_parent, b_pins, a_path, b_set, b_stand) v1 v2 := by
    intro hno
    unfold wpY_links
    exact zy_isState hS (fun s hs e => absurd e (hno s hs)) (fun _ => br_t rfl ⟨rfl, hR⟩)
  unfold wpX_links
  refine zx_isState hS (fun s hs e => br_f (by decide) ?_) (fun hno => br_t rfl (no hno))
  subst e
  by_cases h1 : v2 < 0
  · refine br_t h1 ?_
    unfold wpY_links
    exact zy_isState hS (fun s' _ _ => br_f (by decide) (br_t h1 ⟨rfl, hR⟩)) (fun hno => absurd rfl (hno s hs))
  · obtain ⟨a, ha, rfl⟩ := nI_of h1
    by_cases hl : a < 2
    · refine br_f h1 (br_t (nI_le (b := 1) (by omega) (by decide)) ?_)
      rw [zi_2, zi_c (by omega)]
      refine ⟨zi_in (by omega) (by omega), ?_⟩
      unfold wpY_links
      refine zy_isState hS (fun s' _ _ => br_f (by decide) (br_f h1 (br_t (nI_le (b := 1) (by omega) (by decide)) ⟨S + 1, ?_⟩))) (fun hno => absurd rfl (hno s hs))
      have main : ∀ d t, t + d = S → wY_links_24 (fun r' => r' = a_linkSet (s * 2 + a) ∧ Rp) (nI s) (nI a) (nI S) (nI rm) (nI N) f_solved f_playMode (nI pl) b_link b_atom a_kinds a_args a_parent b_pins a_path b_set b_stand (d + 1) (zs_m (fun t => ¬ b_link ((s * 2 + a) * 5 + t) = 0) t) (nI t) := by
        intro d
        induction d with
        | zero =>
          intro t ht
          have e : t = S := by omega
          subst e
          refine br_t (nI_le (Nat.le_refl _) (by omega)) ⟨zb_ext fun i hi => ?_, hR⟩
          rw [zs_b _ t (by omega)]
          constructor
          · rintro ⟨z1, z2⟩
            exact (hLY s a i hs hl z1).2.mpr z2
          · intro z
            have := hL _ _ z
            exact ⟨this, (hLY s a i hs hl this).2.mp z⟩
        | succ d ih =>
          intro t ht
          have nx := ih (t + 1) (by omega)
          refine br_f (nI_ge (by omega) (by omega)) ?_
          rw [zi_2, zi_5, zi_c (by omega)]
          refine ⟨zi_in (by omega) (by omega), ?_⟩
          by_cases g : b_link ((s * 2 + a) * 5 + t) = 0
          · rw [zs_f (fun z => z g)] at nx
            exact br_t g (nm_r (Int32.add_zero _) (nm_r (nI_1 t) nx))
          · rw [zs_t g, ← zb_add (by omega) (fun i _ hi z => by have := ((zs_b _ t (by omega) i).mp z).1; omega)] at nx
            exact br_f g (nm_e (nm_r (nI_1 t) nx))
      exact main S 0 (by omega)
    · refine br_f h1 (br_f (nI_ge (a := 1) (by omega) ha) ?_)
      unfold wpY_links
      exact zy_isState hS (fun s' _ _ => br_f (by decide) (br_f h1 (br_f (nI_ge (a := 1) (by omega) ha) ⟨rfl, hR⟩))) (fun hno => absurd rfl (hno s hs))
/-- both sides ask first whether (s, n) is a position -/
theorem zi_pos {v1 v2 : Int32} {pX pY : Int32 → Prop} (hI : zr_I N S rm pl f_solved f_playMode a_linkSet a_atomSet a_kinds a_args a_parent a_kids a_first a_second a_depth a_pins a_win a_path a_choice b_link b_atom b_pins) (h1 : ∀ s n, s < S → n < N → v1 = nI s → v2 = nI n → zf_Cpl N a_kinds a_parent → pX 1) (h0 : (¬ ∃ s n, s < S ∧ n < N ∧ v1 = nI s ∧ v2 = nI n ∧ zf_Cpl N a_kinds a_parent) → pX 0) : wpX_inGame pX ((nI S), (nI rm), (nI N), f_solved, f_playMode, (nI pl), f_forceBase, f_outRow, f_badRow, f_reachRow, a_linkSet, a_atomSet, a_kinds, a_args, a_parent, a_kids, a_first, a_second, a_depth, a_pins, a_win, a_path, a_mv, a_choice, a_ranks, a_sets) v1 v2 :=
  zx_inGame hI.2.1.1 hI.1.1.2 hI.2.1.2.1 (fun n hn => (hI.2.1.2.2.2.2.1 n hn).1) (fun n hn => (hI.2.1.2.2.2.2.1 n hn).2) h1 h0
theorem zi_posY {v1 v2 : Int32} {pY : Int32 → Prop} (hI : zr_I N S rm pl f_solved f_playMode a_linkSet a_atomSet a_kinds a_args a_parent a_kids a_first a_second a_depth a_pins a_win a_path a_choice b_link b_atom b_pins) (h1 : ∀ s n, s < S → n < N → v1 = nI s → v2 = nI n → zf_Cpl N a_kinds a_parent → pY 1) (h0 : (¬ ∃ s n, s < S ∧ n < N ∧ v1 = nI s ∧ v2 = nI n ∧ zf_Cpl N a_kinds a_parent) → pY 0) : wpY_isPosition pY ((nI S), (nI rm), (nI N), f_solved, f_playMode, (nI pl), b_link, b_atom, a_kinds, a_args, a_parent, b_pins, a_path, b_set, b_stand) v1 v2 :=
  zy_isPos hI.2.1.1 hI.1.1.2 hI.2.1.2.1 (fun n hn => (hI.2.1.2.2.2.2.1 n hn).2) h1 h0
theorem zi_pinOf {Rp : Prop} (hI : zr_I N S rm pl f_solved f_playMode a_linkSet a_atomSet a_kinds a_args a_parent a_kids a_first a_second a_depth a_pins a_win a_path a_choice b_link b_atom b_pins) (hR : Rp) (v1 v2 : Int32) : wpX_pinOf (fun r => wpY_pinOf (fun r' => r' = r ∧ Rp) ((nI S), (nI rm), (nI N), f_solved, f_playMode, (nI pl), b_link, b_atom, a_kinds, a_args, a_parent, b_pins, a_path, b_set, b_stand) v1 v2) ((nI S), (nI rm), (nI N), f_solved, f_playMode, (nI pl), f_forceBase, f_outRow, f_badRow, f_reachRow, a_linkSet, a_atomSet, a_kinds, a_args, a_parent, a_kids, a_first, a_second, a_depth, a_pins, a_win, a_path, a_mv, a_choice, a_ranks, a_sets) v1 v2 := by
  have hN := hI.2.1.1
  have hS := hI.1.1.2
  unfold wpX_pinOf
  refine zi_pos (pY := fun _ => True) hI (fun s n hs hn e1 e2 hc => br_f (by decide) ?_) (fun hno => br_t rfl ?_)
  · subst e1 e2
    rw [zi_5, zi_c (by omega)]
    refine ⟨zi_in (by omega) (by omega), ?_⟩
    unfold wpY_pinOf
    refine zi_posY hI (fun _ _ _ _ _ _ _ => br_f (by decide) ?_) (fun hno => absurd ⟨s, n, hs, hn, rfl, rfl, hc⟩ hno)
    rw [zi_s14, zi_c (by omega)]
    exact ⟨zi_in (by omega) (by omega), hI.2.2.2.2.1.2 n s (by omega) (by omega), hR⟩
  · unfold wpY_pinOf
    exact zi_posY hI (fun s n hs hn e1 e2 hc => absurd ⟨s, n, hs, hn, e1, e2, hc⟩ hno) (fun _ => br_t rfl ⟨rfl, hR⟩)
theorem zi_owner {Rp : Prop} (hI : zr_I N S rm pl f_solved f_playMode a_linkSet a_atomSet a_kinds a_args a_parent a_kids a_first a_second a_depth a_pins a_win a_path a_choice b_link b_atom b_pins) (hR : Rp) (v1 v2 : Int32) : wpX_owner (fun r => wpY_owner (fun r' => r' = r ∧ Rp) ((nI S), (nI rm), (nI N), f_solved, f_playMode, (nI pl), b_link, b_atom, a_kinds, a_args, a_parent, b_pins, a_path, b_set, b_stand) v1 v2) ((nI S), (nI rm), (nI N), f_solved, f_playMode, (nI pl), f_forceBase, f_outRow, f_badRow, f_reachRow, a_linkSet, a_atomSet, a_kinds, a_args, a_parent, a_kids, a_first, a_second, a_depth, a_pins, a_win, a_path, a_mv, a_choice, a_ranks, a_sets) v1 v2 := by
  have hN := hI.2.1.1
  have hS := hI.1.1.2
  unfold wpX_owner
  refine zi_pos (pY := fun _ => True) hI (fun s n hs hn e1 e2 hc => br_f (by decide) ?_) (fun hno => br_t rfl ?_)
  · subst e1 e2
    refine zx_own (zf_C hI.2.1 hS) hn hs ?_
    unfold wpY_owner
    refine zi_posY hI (fun _ _ _ _ _ _ _ => br_f (by decide) ?_) (fun hno => absurd ⟨s, n, hs, hn, rfl, rfl, hc⟩ hno)
    exact zy_own hI.2.1.2.1 hI.2.2.2.1.1 hN hS hn hs ⟨rfl, hR⟩
  · unfold wpY_owner
    exact zi_posY hI (fun s n hs hn e1 e2 hc => absurd ⟨s, n, hs, hn, e1, e2, hc⟩ hno) (fun _ => br_t rfl ⟨rfl, hR⟩)
theorem zi_moves {Rp : Prop} (hI : zr_I N S rm pl f_solved f_playMode a_linkSet a_atomSet a_kinds a_args a_parent a_kids a_first a_second a_depth a_pins a_win a_path a_choice b_link b_atom b_pins) (hR : Rp) (v1 v2 : Int32) : wpX_moves (fun r => wpY_moves (fun r' => r' = r ∧ Rp) ((nI S), (nI rm), (nI N), f_solved, f_playMode, (nI pl), b_link, b_atom, a_kinds, a_args, a_parent, b_pins, a_path, b_set, b_stand) v1 v2) ((nI S), (nI rm), (nI N), f_solved, f_playMode, (nI pl), f_forceBase, f_outRow, f_badRow, f_reachRow, a_linkSet, a_atomSet, a_kinds, a_args, a_parent, a_kids, a_first, a_second, a_depth, a_pins, a_win, a_path, a_mv, a_choice, a_ranks, a_sets) v1 v2 := by
  have hN := hI.2.1.1
  have hS2 := hI.1.1.1
  have hS := hI.1.1.2
  unfold wpX_moves
  refine zi_pos (pY := fun _ => True) hI (fun s n hs hn e1 e2 hc => br_f (by decide) ?_) (fun hno => br_t rfl ?_)
  · subst e1 e2
    refine zx_legal hI.2.1.2.1 hI.2.2.2.2.1.1 hI.2.2.1.1 hN hS2 hS hn hs (fun x hx => ?_)
    unfold wpY_moves
    refine zi_posY hI (fun _ _ _ _ _ _ _ => br_f (by decide) ⟨6, ?_⟩) (fun hno => absurd ⟨s, n, hs, hn, rfl, rfl, hc⟩ hno)
    have main : ∀ d t, t + d = 5 → wY_moves_16 (fun r' => r' = x ∧ Rp) (nI s) (nI n) (nI S) (nI rm) (nI N) f_solved f_playMode (nI pl) b_link b_atom a_kinds a_args a_parent b_pins a_path b_set b_stand (d + 1) (zs_m (zc_lg a_kinds a_args a_linkSet a_pins (n, s)) t) (nI t) := by
      intro d
      induction d with
      | zero =>
        intro t ht
        have e : t = 5 := by omega
        subst e
        refine br_t (by decide) ⟨zb_ext fun i hi => ?_, hR⟩
        rw [zs_b _ 5 (by omega), hx i]
        exact ⟨fun z => z.2, fun z => ⟨zc_am_lt hS2 hS hI.2.2.1.1 z.1, z⟩⟩
      | succ d ih =>
        intro t ht
        have nx := ih (t + 1) (by omega)
        refine br_f (nI_ge (b := 5) (by omega) (by decide)) (zy_legalN hI.2.1.2.1 hI.2.2.1.2 hI.2.2.1.1 hI.2.2.2.2.1.2 hN hS hn hs (by omega) (fun g => br_f (by decide) ?_) (fun g => br_t rfl ?_))
        · rw [zs_t g, ← zb_add (by omega) (fun i _ hi z => by have := ((zs_b _ t (by omega) i).mp z).1; omega)] at nx
          exact nm_e (nm_r (nI_1 t) nx)
        · rw [zs_f g] at nx
          exact nm_r (Int32.add_zero _) (nm_r (nI_1 t) nx)
    exact main 5 0 rfl
  · unfold wpY_moves
    exact zi_posY hI (fun s n hs hn e1 e2 hc => absurd ⟨s, n, hs, hn, e1, e2, hc⟩ hno) (fun _ => br_t rfl ⟨rfl, hR⟩)
end
theorem i_vc_links {k : Nat} {u : SX} {v : SY} (I : i_Rel k u v) (hk : k + 5 ≤ 2562) (v1 : Int32) (v2 : Int32) : wpX_links (fun r => wpY_links (fun r' => r' = r ∧ i_Rel (k + 5) u v) v v1 v2) u v1 v2 :=
  zr_el (P := fun u v => wpX_links (fun r => wpY_links (fun r' => r' = r ∧ i_Rel (k + 5) u v) v v1 v2) u v1 v2) (fun _ _ _ _ _ _ _ _ _ _ _ _ _ _ _ _ _ _ _ _ _ _ _ _ _ _ _ _ _ _ _ hI => zi_links hI (zr_in hI) v1 v2) I
theorem i_vc_atoms {k : Nat} {u : SX} {v : SY} (I : i_Rel k u v) (hk : k + 5 ≤ 2562) (v1 : Int32) : wpX_atoms (fun r => wpY_atoms (fun r' => r' = r ∧ i_Rel (k + 5) u v) v v1) u v1 :=
  zr_el (P := fun u v => wpX_atoms (fun r => wpY_atoms (fun r' => r' = r ∧ i_Rel (k + 5) u v) v v1) u v1) (fun _ _ _ _ _ _ _ _ _ _ _ _ _ _ _ _ _ _ _ _ _ _ _ _ _ _ _ _ _ _ _ hI => zi_atoms hI (zr_in hI) v1) I
theorem i_vc_nodeAt {k : Nat} {u : SX} {v : SY} (I : i_Rel k u v) (hk : k + 5 ≤ 2562) (v1 : Int32) : wpX_nodeAt (fun r => wpY_nodeAt (fun r' => r' = r ∧ i_Rel (k + 5) u v) v v1) u v1 :=
  zr_el (P := fun u v => wpX_nodeAt (fun r => wpY_nodeAt (fun r' => r' = r ∧ i_Rel (k + 5) u v) v v1) u v1) (fun _ _ _ _ _ _ _ _ _ _ _ _ _ _ _ _ _ _ _ _ _ _ _ _ _ _ _ _ _ _ _ hI => zi_nodeAt hI (zr_in hI) v1) I
theorem i_vc_pinOf {k : Nat} {u : SX} {v : SY} (I : i_Rel k u v) (hk : k + 5 ≤ 2562) (v1 : Int32) (v2 : Int32) : wpX_pinOf (fun r => wpY_pinOf (fun r' => r' = r ∧ i_Rel (k + 5) u v) v v1 v2) u v1 v2 :=
  zr_el (P := fun u v => wpX_pinOf (fun r => wpY_pinOf (fun r' => r' = r ∧ i_Rel (k + 5) u v) v v1 v2) u v1 v2) (fun _ _ _ _ _ _ _ _ _ _ _ _ _ _ _ _ _ _ _ _ _ _ _ _ _ _ _ _ _ _ _ hI => zi_pinOf hI (zr_in hI) v1 v2) I
theorem i_vc_moves {k : Nat} {u : SX} {v : SY} (I : i_Rel k u v) (hk : k + 5 ≤ 2562) (v1 : Int32) (v2 : Int32) : wpX_moves (fun r => wpY_moves (fun r' => r' = r ∧ i_Rel (k + 5) u v) v v1 v2) u v1 v2 :=
  zr_el (P := fun u v => wpX_moves (fun r => wpY_moves (fun r' => r' = r ∧ i_Rel (k + 5) u v) v v1 v2) u v1 v2) (fun _ _ _ _ _ _ _ _ _ _ _ _ _ _ _ _ _ _ _ _ _ _ _ _ _ _ _ _ _ _ _ hI => zi_moves hI (zr_in hI) v1 v2) I
theorem i_vc_owner {k : Nat} {u : SX} {v : SY} (I : i_Rel k u v) (hk : k + 5 ≤ 2562) (v1 : Int32) (v2 : Int32) : wpX_owner (fun r => wpY_owner (fun r' => r' = r ∧ i_Rel (k + 5) u v) v v1 v2) u v1 v2 :=
  zr_el (P := fun u v => wpX_owner (fun r => wpY_owner (fun r' => r' = r ∧ i_Rel (k + 5) u v) v v1 v2) u v1 v2) (fun _ _ _ _ _ _ _ _ _ _ _ _ _ _ _ _ _ _ _ _ _ _ _ _ _ _ _ _ _ _ _ hI => zi_owner hI (zr_in hI) v1 v2) I
theorem i_vc_play {k : Nat} {u : SX} {v : SY} (I : i_Rel k u v) (hk : k + 5 ≤ 2562) : wpX_play (fun r => wpY_play (fun r' => r' = r ∧ i_Rel (k + 5) u v) v) u :=
  zr_el (P := fun u v => wpX_play (fun r => wpY_play (fun r' => r' = r ∧ i_Rel (k + 5) u v) v) u) (fun _ _ _ _ _ _ _ _ _ _ _ _ _ _ _ _ _ _ _ _ _ _ _ _ _ _ _ _ _ _ _ hI => zi_play (zr_in hI)) I
theorem i_vc_pathAt {k : Nat} {u : SX} {v : SY} (I : i_Rel k u v) (hk : k + 5 ≤ 2562) (v1 : Int32) : wpX_pathAt (fun r => wpY_pathAt (fun r' => r' = r ∧ i_Rel (k + 5) u v) v v1) u v1 :=
  zr_el (P := fun u v => wpX_pathAt (fun r => wpY_pathAt (fun r' => r' = r ∧ i_Rel (k + 5) u v) v v1) u v1) (fun _ _ _ _ _ _ _ _ _ _ _ _ _ _ _ _ _ _ _ _ _ _ _ _ _ _ _ _ _ _ _ hI => zi_pathAt hI (zr_in hI) v1) I
end
section
/-! ===== setLink, setAtom, pin ===== -/
theorem zb_and1 (m : Int32) {t : Nat} (ht : t < 32) : (m &&& ((1 : Int32) <<< (nI t &&& 31))) = 0 ↔ ¬ bt m t = true := by
  rw [zb_zero]
  constructor
  · intro h z
    refine h t ht ?_
    rw [b_and, zb_one ht ht, z, decide_eq_true rfl]; rfl
  · intro h i hi z
    rw [b_and, zb_one ht hi, Bool.and_eq_true, decide_eq_true_iff] at z
    rw [z.2] at z
    exact h z.1
theorem zn_bz {x : Int32} (h : x = 0 ∨ x = 1) : vp_nar .boolean x = x := by
  rcases h with rfl | rfl <;> rfl
section
variable {N S : Nat}
variable {f_room f_solved f_playMode f_pathLen f_forceBase f_outRow f_badRow f_reachRow : Int32} {a_linkSet a_atomSet a_kinds a_args a_parent a_kids a_first a_second a_depth a_pins a_win a_path a_mv a_choice a_ranks a_sets : Nat → Int32}
variable {g_nMax g_solved g_playNow g_pathLen : Int32} {b_link b_atom b_kind b_arg b_parent b_pins b_path b_set b_stand : Nat → Int32}
theorem zx_turn {post : SX → Prop} (K : post ((nI S), f_room, (nI N), 0, 0, 0, f_forceBase, f_outRow, f_badRow, f_reachRow, a_linkSet, a_atomSet, a_kinds, a_args, a_parent, a_kids, a_first, a_second, a_depth, a_pins, a_win, a_path, a_mv, a_choice, a_ranks, a_sets)) : wpX_turn post ((nI S), f_room, (nI N), f_solved, f_playMode, f_pathLen, f_forceBase, f_outRow, f_badRow, f_reachRow, a_linkSet, a_atomSet, a_kinds, a_args, a_parent, a_kids, a_first, a_second, a_depth, a_pins, a_win, a_path, a_mv, a_choice, a_ranks, a_sets) := K
theorem zy_turn {post : SY → Prop} (K : post ((nI S), g_nMax, (nI N), 0, 0, 0, b_link, b_atom, b_kind, b_arg, b_parent, b_pins, b_path, b_set, b_stand)) : wpY_turn post ((nI S), g_nMax, (nI N), g_solved, g_playNow, g_pathLen, b_link, b_atom, b_kind, b_arg, b_parent, b_pins, b_path, b_set, b_stand) := K
end
section
variable {N S rm pl : Nat} {f_solved f_playMode f_forceBase f_outRow f_badRow f_reachRow : Int32} {a_linkSet a_atomSet a_kinds a_args a_parent a_kids a_first a_second a_depth a_pins a_win a_path a_mv a_choice a_ranks a_sets b_link b_atom b_pins b_set b_stand : Nat → Int32}
theorem zi_setLink {k : Nat} (hI : zr_I N S rm pl f_solved f_playMode a_linkSet a_atomSet a_kinds a_args a_parent a_kids a_first a_second a_depth a_pins a_win a_path a_choice b_link b_atom b_pins) (v1 v2 v3 on : Int32) (hon : on = 0 ∨ on = 1) : wpX_setLink (fun r u' => wpY_setLink (fun r' v' => r' = r ∧ i_Rel k u' v') ((nI S), (nI rm), (nI N), f_solved, f_playMode, (nI pl), b_link, b_atom, a_kinds, a_args, a_parent, b_pins, a_path, b_set, b_stand) v1 v2 v3 on) ((nI S), (nI rm), (nI N), f_solved, f_playMode, (nI pl), f_forceBase, f_outRow, f_badRow, f_reachRow, a_linkSet, a_atomSet, a_kinds, a_args, a_parent, a_kids, a_first, a_second, a_depth, a_pins, a_win, a_path, a_mv, a_choice, a_ranks, a_sets) v1 v2 v3 on := by
  have hI' := hI
  obtain ⟨⟨⟨hS2, hS⟩, hrm⟩, hF, ⟨hL, hLY⟩, hA, hPP, hCh, hSv, hPl⟩ := hI'
  have R : i_Rel k ((nI S), (nI rm), (nI N), f_solved, f_playMode, (nI pl), f_forceBase, f_outRow, f_badRow, f_reachRow, a_linkSet, a_atomSet, a_kinds, a_args, a_parent, a_kids, a_first, a_second, a_depth, a_pins, a_win, a_path, a_mv, a_choice, a_ranks, a_sets) ((nI S), (nI rm), (nI N), f_solved, f_playMode, (nI pl), b_link, b_atom, a_kinds, a_args, a_parent, b_pins, a_path, b_set, b_stand) := zr_in hI
  unfold wpX_setLink
  refine zx_isState hS (fun s hs e => br_f (by decide) ?_) (fun hno => br_t rfl ?_)
  rotate_left
  · unfold wpY_setLink
    exact zy_isState hS (fun s hs e => absurd e (hno s hs)) (fun _ => br_t rfl ⟨rfl, R⟩)
  subst e
  refine zx_isState hS (fun t ht e => br_f (by decide) ?_) (fun hno => br_t rfl ?_)
  rotate_left
  · unfold wpY_setLink
    refine zy_isState hS (fun s' _ _ => br_f (by decide) ?_) (fun hno => absurd rfl (hno s hs))
    exact zy_isState hS (fun t ht e => absurd e (hno t ht)) (fun _ => br_t rfl ⟨rfl, R⟩)
  subst e
  -- Y up to the same place
  have toY : ∀ {Q : Int32 → SY → Prop}, ((v2 < 0 → Q (-1) ((nI S), (nI rm), (nI N), f_solved, f_playMode, (nI pl), b_link, b_atom, a_kinds, a_args, a_parent, b_pins, a_path, b_set, b_stand)) ∧ (¬ v2 < 0 → ((v2 ≤ 1 → (vp_in ((((nI s * 2) + v2) * 5) + nI t) 50 ∧ ((b_link ((((nI s * 2) + v2) * 5) + nI t).toNatClampNeg = on → Q 0 ((nI S), (nI rm), (nI N), f_solved, f_playMode, (nI pl), b_link, b_atom, a_kinds, a_args, a_parent, b_pins, a_path, b_set, b_stand)) ∧ (¬ b_link ((((nI s * 2) + v2) * 5) + nI t).toNatClampNeg = on → (vp_in ((((nI s * 2) + v2) * 5) + nI t) 50 ∧ ∀ a_link_40, a_link_40 = upd b_link ((((nI s * 2) + v2) * 5) + nI t).toNatClampNeg (vp_nar .boolean on) → wpY_edit (fun u => Q 1 u) ((nI S), (nI rm), (nI N), f_solved, f_playMode, (nI pl), a_link_40, b_atom, a_kinds, a_args, a_parent, b_pins, a_path, b_set, b_stand)))))) ∧ (¬ v2 ≤ 1 → Q (-1) ((nI S), (nI rm), (nI N), f_solved, f_playMode, (nI pl), b_link, b_atom, a_kinds, a_args, a_parent, b_pins, a_path, b_set, b_stand))))) → wpY_setLink Q ((nI S), (nI rm), (nI N), f_solved, f_playMode, (nI pl), b_link, b_atom, a_kinds, a_args, a_parent, b_pins, a_path, b_set, b_stand) (nI s) v2 (nI t) on := by
    intro Q h
    unfold wpY_setLink
    refine zy_isState hS (fun s' _ _ => br_f (by decide) ?_) (fun hno => absurd rfl (hno s hs))
    exact zy_isState hS (fun s' _ _ => br_f (by decide) h) (fun hno => absurd rfl (hno t ht))
  by_cases h1 : v2 < 0
  · exact br_t h1 (toY (br_t h1 ⟨rfl, R⟩))
  · obtain ⟨a, ha, rfl⟩ := nI_of h1
    refine br_f h1 ?_
    by_cases hl : a < 2
    · refine br_t (nI_le (b := 1) (by omega) (by decide)) (nm_r (zi_2 s a) (nm_e ⟨zi_in (by omega) (by omega), ?_⟩))
      rw [zi_c (by omega)]
      have lk := hLY s a t hs hl ht
      have idx : ((nI s * 2) + nI a) * 5 + nI t = nI ((s * 2 + a) * 5 + t) := by rw [zi_2, zi_5]
      -- equal: nothing changes
      have same : b_link ((s * 2 + a) * 5 + t) = on → wpY_setLink (fun r' v' => r' = 0 ∧ i_Rel k ((nI S), (nI rm), (nI N), f_solved, f_playMode, (nI pl), f_forceBase, f_outRow, f_badRow, f_reachRow, a_linkSet, a_atomSet, a_kinds, a_args, a_parent, a_kids, a_first, a_second, a_depth, a_pins, a_win, a_path, a_mv, a_choice, a_ranks, a_sets) v') ((nI S), (nI rm), (nI N), f_solved, f_playMode, (nI pl), b_link, b_atom, a_kinds, a_args, a_parent, b_pins, a_path, b_set, b_stand) (nI s) (nI a) (nI t) on := by
        intro e
        refine toY (br_f h1 (br_t (nI_le (b := 1) (by omega) (by decide)) ?_))
        rw [idx, zi_c (by omega)]
        exact ⟨zi_in (by omega) (by omega), br_t e ⟨rfl, R⟩⟩
      have diff : ¬ b_link ((s * 2 + a) * 5 + t) = on → (vp_in (nI (s * 2 + a)) 10 ∧ (vp_in (nI (s * 2 + a)) 10 ∧ ∀ L, L = upd a_linkSet (nI (s * 2 + a)).toNatClampNeg ((a_linkSet (nI (s * 2 + a)).toNatClampNeg) ^^^ ((1 : Int32) <<< (nI t &&& 31))) → wpX_edit (fun u => wpY_setLink (fun r' v' => r' = 1 ∧ i_Rel k u v') ((nI S), (nI rm), (nI N), f_solved, f_playMode, (nI pl), b_link, b_atom, a_kinds, a_args, a_parent, b_pins, a_path, b_set, b_stand) (nI s) (nI a) (nI t) on) ((nI S), (nI rm), (nI N), f_solved, f_playMode, (nI pl), f_forceBase, f_outRow, f_badRow, f_reachRow, L, a_atomSet, a_kinds, a_args, a_parent, a_kids, a_first, a_second, a_depth, a_pins, a_win, a_path, a_mv, a_choice, a_ranks, a_sets))) := by
        intro hne
        rw [zi_c (by omega)]
        refine ⟨zi_in (by omega) (by omega), zi_in (by omega) (by omega), nm_e (zx_edit ?_)⟩
        refine toY (br_f h1 (br_t (nI_le (b := 1) (by omega) (by decide)) ?_))
        rw [idx, zi_c (by omega)]
        refine ⟨zi_in (by omega) (by omega), br_f hne ⟨zi_in (by omega) (by omega), nm_r (congrArg (upd b_link ((s * 2 + a) * 5 + t)) (zn_bz hon)) (zy_edit ⟨rfl, ?_⟩)⟩⟩
        have nb : ∀ i, i < 32 → (bt (a_linkSet (s * 2 + a) ^^^ ((1 : Int32) <<< (nI t &&& 31))) i = true ↔ (if i = t then ¬ bt (a_linkSet (s * 2 + a)) i = true else bt (a_linkSet (s * 2 + a)) i = true)) := by
          intro i hi
          rw [zb_xor1 _ (by omega) hi]
          split
          · rw [Bool.not_eq_true', Bool.not_eq_true]
          · rfl
        refine zr_in (pl := 0) (zr_after hI.1 hF ⟨fun i b hb => ?_, fun s' a' t' hs' ha' ht' => ?_⟩ hA hCh)
        · by_cases e : i = s * 2 + a
          · rw [e, pk_us] at hb
            have hb32 := zb_lt hb
            rw [nb b hb32] at hb
            split at hb
            · omega
            · exact hL _ _ hb
          · rw [pk_un e] at hb; exact hL _ _ hb
        · by_cases e : (s' * 2 + a') * 5 + t' = (s * 2 + a) * 5 + t
          · have e1 : s' * 2 + a' = s * 2 + a := by omega
            have e2 : t' = t := by omega
            rw [e, e1, e2, pk_us, pk_us, nb t (by omega), if_pos rfl]
            refine ⟨hon, ?_⟩
            rw [lk.2]
            rcases lk.1 with z | z
            · rw [z] at hne ⊢
              rcases hon with w | w
              · exact absurd w.symm hne
              · rw [w]; exact ⟨fun _ => by decide, fun _ u => u rfl⟩
            · rw [z] at hne ⊢
              rcases hon with w | w
              · rw [w]; exact ⟨fun u => absurd (by decide) u, fun u => absurd rfl u⟩
              · exact absurd w.symm hne
          · rw [pk_un e]
            have lk' := hLY s' a' t' hs' ha' ht'
            refine ⟨lk'.1, ?_⟩
            rw [← lk'.2]
            by_cases e1 : s' * 2 + a' = s * 2 + a
            · rw [e1, pk_us, nb t' (by omega), if_neg (by omega)]
            · rw [pk_un e1]
      by_cases hb : bt (a_linkSet (s * 2 + a)) t = true
      · have l1 : b_link ((s * 2 + a) * 5 + t) = 1 := lk.1.resolve_left (lk.2.mp hb)
        refine br_f (fun z => (zb_and1 _ (by omega)).mp z hb) ?_
        by_cases e : (1 : Int32) = on
        · exact br_t e (same (l1.trans e))
        · exact br_f e (diff (fun z => e (l1.symm.trans z)))
      · have l0 : b_link ((s * 2 + a) * 5 + t) = 0 := Classical.byContradiction fun z => hb (lk.2.mpr z)
        refine br_t ((zb_and1 _ (by omega)).mpr hb) ?_
        by_cases e : (0 : Int32) = on
        · exact br_t e (same (l0.trans e))
        · exact br_f e (diff (fun z => e (l0.symm.trans z)))
    · exact br_f (nI_ge (a := 1) (by omega) ha) (toY (br_f h1 (br_f (nI_ge (a := 1) (by omega) ha) ⟨rfl, R⟩)))
theorem zi_setAtom {k : Nat} (hI : zr_I N S rm pl f_solved f_playMode a_linkSet a_atomSet a_kinds a_args a_parent a_kids a_first a_second a_depth a_pins a_win a_path a_choice b_link b_atom b_pins) (v1 v2 on : Int32) (hon : on = 0 ∨ on = 1) : wpX_setAtom (fun r u' => wpY_setAtom (fun r' v' => r' = r ∧ i_Rel k u' v') ((nI S), (nI rm), (nI N), f_solved, f_playMode, (nI pl), b_link, b_atom, a_kinds, a_args, a_parent, b_pins, a_path, b_set, b_stand) v1 v2 on) ((nI S), (nI rm), (nI N), f_solved, f_playMode, (nI pl), f_forceBase, f_outRow, f_badRow, f_reachRow, a_linkSet, a_atomSet, a_kinds, a_args, a_parent, a_kids, a_first, a_second, a_depth, a_pins, a_win, a_path, a_mv, a_choice, a_ranks, a_sets) v1 v2 on := by
  have hI' := hI
  obtain ⟨⟨⟨hS2, hS⟩, hrm⟩, hF, hL, ⟨hAY, hA2⟩, hPP, hCh, hSv, hPl⟩ := hI'
  have R : i_Rel k ((nI S), (nI rm), (nI N), f_solved, f_playMode, (nI pl), f_forceBase, f_outRow, f_badRow, f_reachRow, a_linkSet, a_atomSet, a_kinds, a_args, a_parent, a_kids, a_first, a_second, a_depth, a_pins, a_win, a_path, a_mv, a_choice, a_ranks, a_sets) ((nI S), (nI rm), (nI N), f_solved, f_playMode, (nI pl), b_link, b_atom, a_kinds, a_args, a_parent, b_pins, a_path, b_set, b_stand) := zr_in hI
  unfold wpX_setAtom
  refine zx_isState hS (fun s hs e => br_f (by decide) ?_) (fun hno => br_t rfl ?_)
  rotate_left
  · unfold wpY_setAtom
    exact zy_isState hS (fun s hs e => absurd e (hno s hs)) (fun _ => br_t rfl ⟨rfl, R⟩)
  subst e
  have toY : ∀ {Q : Int32 → SY → Prop}, ((v2 < 0 → Q (-1) ((nI S), (nI rm), (nI N), f_solved, f_playMode, (nI pl), b_link, b_atom, a_kinds, a_args, a_parent, b_pins, a_path, b_set, b_stand)) ∧ (¬ v2 < 0 → ((v2 ≤ 1 → (vp_in ((nI s * 2) + v2) 10 ∧ ((b_atom ((nI s * 2) + v2).toNatClampNeg = on → Q 0 ((nI S), (nI rm), (nI N), f_solved, f_playMode, (nI pl), b_link, b_atom, a_kinds, a_args, a_parent, b_pins, a_path, b_set, b_stand)) ∧ (¬ b_atom ((nI s * 2) + v2).toNatClampNeg = on → (vp_in ((nI s * 2) + v2) 10 ∧ ∀ A, A = upd b_atom ((nI s * 2) + v2).toNatClampNeg (vp_nar .boolean on) → wpY_edit (fun u => Q 1 u) ((nI S), (nI rm), (nI N), f_solved, f_playMode, (nI pl), b_link, A, a_kinds, a_args, a_parent, b_pins, a_path, b_set, b_stand)))))) ∧ (¬ v2 ≤ 1 → Q (-1) ((nI S), (nI rm), (nI N), f_solved, f_playMode, (nI pl), b_link, b_atom, a_kinds, a_args, a_parent, b_pins, a_path, b_set, b_stand))))) → wpY_setAtom Q ((nI S), (nI rm), (nI N), f_solved, f_playMode, (nI pl), b_link, b_atom, a_kinds, a_args, a_parent, b_pins, a_path, b_set, b_stand) (nI s) v2 on := by
    intro Q h
    unfold wpY_setAtom
    exact zy_isState hS (fun s' _ _ => br_f (by decide) h) (fun hno => absurd rfl (hno s hs))
  by_cases h1 : v2 < 0
  · exact br_t h1 (toY (br_t h1 ⟨rfl, R⟩))
  · obtain ⟨a, ha, rfl⟩ := nI_of h1
    refine br_f h1 ?_
    by_cases hl : a < 2
    · refine br_t (nI_le (b := 1) (by omega) (by decide)) (nm_e ⟨zi_in (by omega) (by omega), ?_⟩)
      rw [zi_c (by omega)]
      have lk := hAY s a hs hl
      have same : b_atom (s * 2 + a) = on → wpY_setAtom (fun r' v' => r' = 0 ∧ i_Rel k ((nI S), (nI rm), (nI N), f_solved, f_playMode, (nI pl), f_forceBase, f_outRow, f_badRow, f_reachRow, a_linkSet, a_atomSet, a_kinds, a_args, a_parent, a_kids, a_first, a_second, a_depth, a_pins, a_win, a_path, a_mv, a_choice, a_ranks, a_sets) v') ((nI S), (nI rm), (nI N), f_solved, f_playMode, (nI pl), b_link, b_atom, a_kinds, a_args, a_parent, b_pins, a_path, b_set, b_stand) (nI s) (nI a) on := by
        intro e
        refine toY (br_f h1 (br_t (nI_le (b := 1) (by omega) (by decide)) ?_))
        rw [zi_2, zi_c (by omega)]
        exact ⟨zi_in (by omega) (by omega), br_t e ⟨rfl, R⟩⟩
      have diff : ¬ b_atom (s * 2 + a) = on → (vp_in (nI s) 5 ∧ (vp_in (nI s) 5 ∧ ∀ L, L = upd a_atomSet (nI s).toNatClampNeg ((a_atomSet (nI s).toNatClampNeg) ^^^ ((1 : Int32) <<< (nI a &&& 31))) → wpX_edit (fun u => wpY_setAtom (fun r' v' => r' = 1 ∧ i_Rel k u v') ((nI S), (nI rm), (nI N), f_solved, f_playMode, (nI pl), b_link, b_atom, a_kinds, a_args, a_parent, b_pins, a_path, b_set, b_stand) (nI s) (nI a) on) ((nI S), (nI rm), (nI N), f_solved, f_playMode, (nI pl), f_forceBase, f_outRow, f_badRow, f_reachRow, a_linkSet, L, a_kinds, a_args, a_parent, a_kids, a_first, a_second, a_depth, a_pins, a_win, a_path, a_mv, a_choice, a_ranks, a_sets))) := by
        intro hne
        rw [zi_c (by omega)]
        refine ⟨zi_in (by omega) (by omega), zi_in (by omega) (by omega), nm_e (zx_edit ?_)⟩
        refine toY (br_f h1 (br_t (nI_le (b := 1) (by omega) (by decide)) ?_))
        rw [zi_2, zi_c (by omega)]
        refine ⟨zi_in (by omega) (by omega), br_f hne ⟨zi_in (by omega) (by omega), nm_r (congrArg (upd b_atom (s * 2 + a)) (zn_bz hon)) (zy_edit ⟨rfl, ?_⟩)⟩⟩
        have nb : ∀ i, i < 32 → (bt (a_atomSet s ^^^ ((1 : Int32) <<< (nI a &&& 31))) i = true ↔ (if i = a then ¬ bt (a_atomSet s) i = true else bt (a_atomSet s) i = true)) := by
          intro i hi
          rw [zb_xor1 _ (by omega) hi]
          split
          · rw [Bool.not_eq_true', Bool.not_eq_true]
          · rfl
        refine zr_in (pl := 0) (zr_after hI.1 hF hL ⟨fun s' a' hs' ha' => ?_, fun s' b hb => ?_⟩ hCh)
        · by_cases e : s' * 2 + a' = s * 2 + a
          · have e1 : s' = s := by omega
            have e2 : a' = a := by omega
            rw [e, e1, e2, pk_us, pk_us, nb a (by omega), if_pos rfl]
            refine ⟨hon, ?_⟩
            rw [lk.2]
            rcases lk.1 with z | z
            · rw [z] at hne ⊢
              rcases hon with w | w
              · exact absurd w.symm hne
              · rw [w]; exact ⟨fun _ => by decide, fun _ u => u rfl⟩
            · rw [z] at hne ⊢
              rcases hon with w | w
              · rw [w]; exact ⟨fun u => absurd (by decide) u, fun u => absurd rfl u⟩
              · exact absurd w.symm hne
          · rw [pk_un e]
            have lk' := hAY s' a' hs' ha'
            refine ⟨lk'.1, ?_⟩
            rw [← lk'.2]
            by_cases e1 : s' = s
            · rw [e1, pk_us, nb a' (by omega), if_neg (by omega)]
            · rw [pk_un e1]
        · by_cases e : s' = s
          · rw [e, pk_us] at hb
            have hb32 := zb_lt hb
            rw [nb b hb32] at hb
            split at hb
            · omega
            · exact hA2 _ _ hb
          · rw [pk_un e] at hb; exact hA2 _ _ hb
      by_cases hb : bt (a_atomSet s) a = true
      · have l1 : b_atom (s * 2 + a) = 1 := lk.1.resolve_left (lk.2.mp hb)
        refine br_f (fun z => (zb_and1 _ (by omega)).mp z hb) ?_
        by_cases e : (1 : Int32) = on
        · exact br_t e (same (l1.trans e))
        · exact br_f e (diff (fun z => e (l1.symm.trans z)))
      · have l0 : b_atom (s * 2 + a) = 0 := Classical.byContradiction fun z => hb (lk.2.mpr z)
        refine br_t ((zb_and1 _ (by omega)).mpr hb) ?_
        by_cases e : (0 : Int32) = on
        · exact br_t e (same (l0.trans e))
        · exact br_f e (diff (fun z => e (l0.symm.trans z)))
    · exact br_f (nI_ge (a := 1) (by omega) ha) (toY (br_f h1 (br_f (nI_ge (a := 1) (by omega) ha) ⟨rfl, R⟩)))
/-- a pin is set -/
theorem zr_pin_set {n s : Nat} {m : Int32} (hN : N ≤ 14) (hS : S ≤ 5) (hn : n < N) (hs : s < S) (h : zr_P N S a_kinds a_args a_linkSet a_pins ∧ zr_PY a_pins b_pins)
    (hm : m = -2 ∨ ∃ k, m = nI k ∧ (3 ≤ (a_kinds n).toInt ∧ (a_kinds n).toInt ≤ 6) ∧ zc_am a_kinds a_args a_linkSet (n, s) k) : zr_P N S a_kinds a_args a_linkSet (upd a_pins (n * 5 + s) m) ∧ zr_PY (upd a_pins (n * 5 + s) m) (upd b_pins (s * 14 + n) m) := by
  refine ⟨fun n' s' hn' hs' => ?_, fun n' s' hn' hs' => ?_⟩
  · by_cases e : n' * 5 + s' = n * 5 + s
    · have e1 : n' = n := by omega
      have e2 : s' = s := by omega
      rw [e, pk_us, e1, e2]
      exact hm
    · rw [pk_un e]; exact h.1 n' s' hn' hs'
  · by_cases e : n' * 5 + s' = n * 5 + s
    · have e1 : n' = n := by omega
      have e2 : s' = s := by omega
      rw [e, pk_us, e1, e2, pk_us]
    · rw [pk_un e, pk_un (by omega)]
      exact h.2 n' s' hn' hs'
theorem zi_pin {k : Nat} (hI : zr_I N S rm pl f_solved f_playMode a_linkSet a_atomSet a_kinds a_args a_parent a_kids a_first a_second a_depth a_pins a_win a_path a_choice b_link b_atom b_pins) (v1 v2 v3 : Int32) : wpX_pin (fun r u' => wpY_pin (fun r' v' => r' = r ∧ i_Rel k u' v') ((nI S), (nI rm), (nI N), f_solved, f_playMode, (nI pl), b_link, b_atom, a_kinds, a_args, a_parent, b_pins, a_path, b_set, b_stand) v1 v2 v3) ((nI S), (nI rm), (nI N), f_solved, f_playMode, (nI pl), f_forceBase, f_outRow, f_badRow, f_reachRow, a_linkSet, a_atomSet, a_kinds, a_args, a_parent, a_kids, a_first, a_second, a_depth, a_pins, a_win, a_path, a_mv, a_choice, a_ranks, a_sets) v1 v2 v3 := by
  have hI' := hI
  obtain ⟨⟨⟨hS2, hS⟩, hrm⟩, hF, ⟨hL, hLY⟩, hA, hPP, hCh, hSv, hPl⟩ := hI'
  have hN := hF.1
  have hK := hF.2.1
  have R : i_Rel k ((nI S), (nI rm), (nI N), f_solved, f_playMode, (nI pl), f_forceBase, f_outRow, f_badRow, f_reachRow, a_linkSet, a_atomSet, a_kinds, a_args, a_parent, a_kids, a_first, a_second, a_depth, a_pins, a_win, a_path, a_mv, a_choice, a_ranks, a_sets) ((nI S), (nI rm), (nI N), f_solved, f_playMode, (nI pl), b_link, b_atom, a_kinds, a_args, a_parent, b_pins, a_path, b_set, b_stand) := zr_in hI
  unfold wpX_pin
  refine zi_pos (pY := fun _ => True) hI (fun s n hs hn e1 e2 hc => br_f (by decide) ?_) (fun hno => br_t rfl ?_)
  rotate_left
  · unfold wpY_pin
    exact zi_posY hI (fun s n hs hn e1 e2 hc => absurd ⟨s, n, hs, hn, e1, e2, hc⟩ hno) (fun _ => br_t rfl ⟨rfl, R⟩)
  subst e1 e2
  obtain ⟨kk, k1, k9, ek⟩ := (hK n hn).1
  have toY : ∀ {Q : Int32 → SY → Prop}, (vp_in (nI n) 14 ∧ ((a_kinds (nI n).toNatClampNeg < 3 → Q (-1) ((nI S), (nI rm), (nI N), f_solved, f_playMode, (nI pl), b_link, b_atom, a_kinds, a_args, a_parent, b_pins, a_path, b_set, b_stand)) ∧ (¬ a_kinds (nI n).toNatClampNeg < 3 → (vp_in (nI n) 14 ∧ ((a_kinds (nI n).toNatClampNeg ≤ 6 → ((v3 = (-2) → wY_pin_50 Q (nI s) (nI n) v3 (nI S) (nI rm) (nI N) f_solved f_playMode (nI pl) b_link b_atom a_kinds a_args a_parent b_pins a_path b_set b_stand) ∧ (¬ v3 = (-2) → wpY_canMove (fun r_43 => ((r_43 = 0 → Q (-1) ((nI S), (nI rm), (nI N), f_solved, f_playMode, (nI pl), b_link, b_atom, a_kinds, a_args, a_parent, b_pins, a_path, b_set, b_stand)) ∧ (¬ r_43 = 0 → wY_pin_50 Q (nI s) (nI n) v3 (nI S) (nI rm) (nI N) f_solved f_playMode (nI pl) b_link b_atom a_kinds a_args a_parent b_pins a_path b_set b_stand))) ((nI S), (nI rm), (nI N), f_solved, f_playMode, (nI pl), b_link, b_atom, a_kinds, a_args, a_parent, b_pins, a_path, b_set, b_stand) (nI s) (nI n) v3))) ∧ (¬ a_kinds (nI n).toNatClampNeg ≤ 6 → Q (-1) ((nI S), (nI rm), (nI N), f_solved, f_playMode, (nI pl), b_link, b_atom, a_kinds, a_args, a_parent, b_pins, a_path, b_set, b_stand))))))) → wpY_pin Q ((nI S), (nI rm), (nI N), f_solved, f_playMode, (nI pl), b_link, b_atom, a_kinds, a_args, a_parent, b_pins, a_path, b_set, b_stand) (nI s) (nI n) v3 := by
    intro Q h
    unfold wpY_pin
    exact zi_posY hI (fun _ _ _ _ _ _ _ => br_f (by decide) h) (fun hno => absurd ⟨s, n, hs, hn, rfl, rfl, hc⟩ hno)
  rw [zi_c (by omega)] at toY
  rw [zi_c (by omega)]
  have i14 : vp_in (nI n) 14 := zi_in (by omega) (by omega)
  refine ⟨i14, ?_⟩
  by_cases h3 : a_kinds n < 3
  · exact br_t h3 (toY ⟨i14, br_t h3 ⟨rfl, R⟩⟩)
  refine br_f h3 ⟨i14, ?_⟩
  by_cases h6 : a_kinds n ≤ 6
  rotate_left
  · exact br_f h6 (toY ⟨i14, br_f h3 ⟨i14, br_f h6 ⟨rfl, R⟩⟩⟩)
  refine br_t h6 ?_
  have k36 : 3 ≤ (a_kinds n).toInt ∧ (a_kinds n).toInt ≤ 6 := by
    rw [ek] at h3 h6 ⊢
    rw [nI_toInt (by omega)]
    have a := mt (nI_ltI (a := kk) (b := 3) (by omega) (by omega)).mpr h3
    have b := (nI_leI (a := kk) (b := 6) (by omega) (by omega)).mp h6
    omega
  -- both sides write
  have wr : (v3 = -2 ∨ ∃ j, v3 = nI j ∧ (3 ≤ (a_kinds n).toInt ∧ (a_kinds n).toInt ≤ 6) ∧ zc_am a_kinds a_args a_linkSet (n, s) j) → (∀ {Q : Int32 → SY → Prop}, wY_pin_50 Q (nI s) (nI n) v3 (nI S) (nI rm) (nI N) f_solved f_playMode (nI pl) b_link b_atom a_kinds a_args a_parent b_pins a_path b_set b_stand → wpY_pin Q ((nI S), (nI rm), (nI N), f_solved, f_playMode, (nI pl), b_link, b_atom, a_kinds, a_args, a_parent, b_pins, a_path, b_set, b_stand) (nI s) (nI n) v3) →
      wX_pin_68 (fun r u' => wpY_pin (fun r' v' => r' = r ∧ i_Rel k u' v') ((nI S), (nI rm), (nI N), f_solved, f_playMode, (nI pl), b_link, b_atom, a_kinds, a_args, a_parent, b_pins, a_path, b_set, b_stand) (nI s) (nI n) v3) (nI s) (nI n) v3 (nI S) (nI rm) (nI N) f_solved f_playMode (nI pl) f_forceBase f_outRow f_badRow f_reachRow a_linkSet a_atomSet a_kinds a_args a_parent a_kids a_first a_second a_depth a_pins a_win a_path a_mv a_choice a_ranks a_sets := by
    intro hv toY2
    refine nm_r (zi_5 n s) ⟨zi_in (by omega) (by omega), ?_⟩
    rw [zi_c (by omega)]
    have pe := hPP.2 n s (by omega) (by omega)
    by_cases e : a_pins (n * 5 + s) = v3
    · refine br_t e (toY2 ?_)
      refine And.intro (by rw [zi_s14]; exact zi_in (by omega) (by omega)) ?_
      rw [zi_s14, zi_c (by omega)]
      exact br_t (pe.trans e) ⟨rfl, R⟩
    · refine br_f e ⟨zi_in (by omega) (by omega), nm_e (zx_turn (toY2 ?_))⟩
      refine And.intro (by rw [zi_s14]; exact zi_in (by omega) (by omega)) ?_
      rw [zi_s14, zi_c (by omega)]
      refine br_f (fun z => e (pe.symm.trans z)) ⟨zi_in (by omega) (by omega), nm_e (zy_turn ⟨rfl, ?_⟩)⟩
      exact zr_in (pl := 0) ⟨hI.1, hF, ⟨hL, hLY⟩, hA, zr_pin_set hN hS hn hs hPP hv, hCh, Or.inl rfl, Nat.zero_le _, Or.inl rfl⟩
  by_cases hm2 : v3 = -2
  · exact br_t hm2 (wr (Or.inl hm2) (fun h => toY ⟨i14, br_f h3 ⟨i14, br_t h6 (br_t hm2 h)⟩⟩))
  · refine br_f hm2 (zx_allMoves hK hN hS hn hs (fun x hx => ?_))
    have noY : (∀ j, j < 5 → v3 = nI j → ¬ zc_am a_kinds a_args a_linkSet (n, s) j) → wpY_pin (fun r' v' => r' = -1 ∧ i_Rel k ((nI S), (nI rm), (nI N), f_solved, f_playMode, (nI pl), f_forceBase, f_outRow, f_badRow, f_reachRow, a_linkSet, a_atomSet, a_kinds, a_args, a_parent, a_kids, a_first, a_second, a_depth, a_pins, a_win, a_path, a_mv, a_choice, a_ranks, a_sets) v') ((nI S), (nI rm), (nI N), f_solved, f_playMode, (nI pl), b_link, b_atom, a_kinds, a_args, a_parent, b_pins, a_path, b_set, b_stand) (nI s) (nI n) v3 := fun hno => toY ⟨i14, br_f h3 ⟨i14, br_t h6 (br_f hm2 (zy_canMove hK hLY hL hN hS hn hs (fun j hj e ha => absurd ha (hno j hj e)) (fun _ => br_t rfl ⟨rfl, R⟩)))⟩⟩
    by_cases hneg : v3 < 0
    · exact br_t hneg (noY (fun j hj e => absurd hneg (by rw [e]; exact nI_pos (by omega))))
    · obtain ⟨j, hj, rfl⟩ := nI_of hneg
      refine br_f hneg ?_
      by_cases h4 : j < 5
      · refine br_f (nI_nlt (a := 4) (by omega) (by decide)) ?_
        by_cases hb : bt x j = true
        · have ha := (hx j).mp hb
          refine br_f (fun z => (zb_sh0 _ (by omega)).mp z hb) (wr (Or.inr ⟨j, rfl, k36, ha⟩) (fun h => toY ⟨i14, br_f h3 ⟨i14, br_t h6 (br_f hm2 (zy_canMove hK hLY hL hN hS hn hs (fun _ _ _ _ => br_f (by decide) h) (fun hno => absurd ha (hno j h4 rfl))))⟩⟩))
        · refine br_t ((zb_sh0 _ (by omega)).mpr hb) (noY (fun i hi e z => hb ((hx j).mpr ?_)))
          rw [(nI_eq hj (by omega)).mp e]; exact z
      · refine br_t (nI_lt (a := 4) (by omega) hj) (noY (fun i hi e => ?_))
        have := (nI_eq hj (by omega)).mp e
        omega
end
theorem i_vc_setLink {k : Nat} {u : SX} {v : SY} (I : i_Rel k u v) (hk : k + 5 ≤ 2562) (v1 : Int32) (v2 : Int32) (v3 : Int32) (v4 : Int32) : wpX_setLink (fun r u' => wpY_setLink (fun r' v' => r' = r ∧ i_Rel (k + 5) u' v') v v1 v2 v3 (lw_bz v4)) u v1 v2 v3 (lw_bz v4) :=
  zr_el (P := fun u v => wpX_setLink (fun r u' => wpY_setLink (fun r' v' => r' = r ∧ i_Rel (k + 5) u' v') v v1 v2 v3 (lw_bz v4)) u v1 v2 v3 (lw_bz v4)) (fun _ _ _ _ _ _ _ _ _ _ _ _ _ _ _ _ _ _ _ _ _ _ _ _ _ _ _ _ _ _ _ hI => zi_setLink hI v1 v2 v3 (lw_bz v4) (lw_bz_01 v4)) I
theorem i_vc_setAtom {k : Nat} {u : SX} {v : SY} (I : i_Rel k u v) (hk : k + 5 ≤ 2562) (v1 : Int32) (v2 : Int32) (v3 : Int32) : wpX_setAtom (fun r u' => wpY_setAtom (fun r' v' => r' = r ∧ i_Rel (k + 5) u' v') v v1 v2 (lw_bz v3)) u v1 v2 (lw_bz v3) :=
  zr_el (P := fun u v => wpX_setAtom (fun r u' => wpY_setAtom (fun r' v' => r' = r ∧ i_Rel (k + 5) u' v') v v1 v2 (lw_bz v3)) u v1 v2 (lw_bz v3)) (fun _ _ _ _ _ _ _ _ _ _ _ _ _ _ _ _ _ _ _ _ _ _ _ _ _ _ _ _ _ _ _ hI => zi_setAtom hI v1 v2 (lw_bz v3) (lw_bz_01 v3)) I
theorem i_vc_pin {k : Nat} {u : SX} {v : SY} (I : i_Rel k u v) (hk : k + 5 ≤ 2562) (v1 : Int32) (v2 : Int32) (v3 : Int32) : wpX_pin (fun r u' => wpY_pin (fun r' v' => r' = r ∧ i_Rel (k + 5) u' v') v v1 v2 v3) u v1 v2 v3 :=
  zr_el (P := fun u v => wpX_pin (fun r u' => wpY_pin (fun r' v' => r' = r ∧ i_Rel (k + 5) u' v') v v1 v2 v3) u v1 v2 v3) (fun _ _ _ _ _ _ _ _ _ _ _ _ _ _ _ _ _ _ _ _ _ _ _ _ _ _ _ _ _ _ _ hI => zi_pin hI v1 v2 v3) I
end
section
/-! ===== dropNode, dual ===== -/
def zd (x : Int32) : Int32 := if x = 9 then 9 else if x &&& 1 = 1 then x + 1 else x - 1
theorem zd_nI : ∀ k, k < 10 → 1 ≤ k → zd (nI k) = nI (if k = 9 then 9 else if k % 2 = 1 then k + 1 else k - 1) := by decide +kernel
theorem zd_g1 : ∀ k, k < 10 → 1 ≤ k → (zd (nI k) = 9 ↔ nI k = 9) := by decide +kernel
theorem zd_g2 : ∀ k, k < 10 → 1 ≤ k → ((zd (nI k) = 7 ∨ zd (nI k) = 8) ↔ (nI k = 7 ∨ nI k = 8)) := by decide +kernel
theorem zd_g3 : ∀ k, k < 10 → 1 ≤ k → ((zd (nI k) = 1 ∨ zd (nI k) = 2) ↔ (nI k = 1 ∨ nI k = 2)) := by decide +kernel
theorem zd_g4 : ∀ k, k < 10 → 1 ≤ k → ((zd (nI k) = 3 ∨ zd (nI k) = 4) ↔ (nI k = 3 ∨ nI k = 4)) := by decide +kernel
theorem zd_g5 : ∀ k, k < 10 → 1 ≤ k → ((zd (nI k) = 5 ∨ zd (nI k) = 6) ↔ (nI k = 5 ∨ nI k = 6)) := by decide +kernel
theorem zd_g6 : ∀ k, k < 10 → 1 ≤ k → zf_ar (zd (nI k)) = zf_ar (nI k) := by decide +kernel
theorem zd_grp (k : Nat) (h : k < 10) (h1 : 1 ≤ k) : ((zd (nI k) = 9 ↔ nI k = 9) ∧ ((zd (nI k) = 7 ∨ zd (nI k) = 8) ↔ (nI k = 7 ∨ nI k = 8)) ∧ ((zd (nI k) = 1 ∨ zd (nI k) = 2) ↔ (nI k = 1 ∨ nI k = 2)) ∧ ((zd (nI k) = 3 ∨ zd (nI k) = 4) ↔ (nI k = 3 ∨ nI k = 4)) ∧ ((zd (nI k) = 5 ∨ zd (nI k) = 6) ↔ (nI k = 5 ∨ nI k = 6)) ∧ zf_ar (zd (nI k)) = zf_ar (nI k)) :=
  ⟨zd_g1 k h h1, zd_g2 k h h1, zd_g3 k h h1, zd_g4 k h h1, zd_g5 k h h1, zd_g6 k h h1⟩
theorem zd_36 : ∀ k, k < 10 → 1 ≤ k → ((3 ≤ (zd (nI k)).toInt ∧ (zd (nI k)).toInt ≤ 6) ↔ (3 ≤ (nI k).toInt ∧ (nI k).toInt ≤ 6)) := by decide +kernel
section
variable {N S : Nat} {K K' Ar Pa Kd F G Dp Lk Pn : Nat → Int32}
theorem zf_dual (hd : ∀ n, n < N → K' n = zd (K n)) (h : zf_F N K Ar Pa Kd F G Dp) : zf_F N K' Ar Pa Kd F G Dp := by
  obtain ⟨hN, h1, h2, h3, h4, h5, h6, h8⟩ := h
  have grp : ∀ n, n < N → ((K' n = 9 ↔ K n = 9) ∧ ((K' n = 7 ∨ K' n = 8) ↔ (K n = 7 ∨ K n = 8)) ∧ ((K' n = 1 ∨ K' n = 2) ↔ (K n = 1 ∨ K n = 2)) ∧ ((K' n = 3 ∨ K' n = 4) ↔ (K n = 3 ∨ K n = 4)) ∧ ((K' n = 5 ∨ K' n = 6) ↔ (K n = 5 ∨ K n = 6)) ∧ zf_ar (K' n) = zf_ar (K n)) := by
    intro n hn
    obtain ⟨k, k1, k9, e⟩ := (h1 n hn).1
    rw [hd n hn, e]
    exact zd_grp k (by omega) k1
  have hb : ∀ n, n < N → zf_b K' n = zf_b K n := by
    intro n hn
    by_cases z : zc_bd K n
    · rw [zf_b1 z, zf_b1 ((grp n hn).2.1.mpr z)]
    · rw [zf_b0 z, zf_b0 (fun w => z ((grp n hn).2.1.mp w))]
  refine ⟨hN, fun n hn => ⟨?_, fun z => (h1 n hn).2.1 ((grp n hn).2.2.1.mp z), fun z => (h1 n hn).2.2 ((grp n hn).2.2.2.2.1.mp z)⟩, fun n hn z => ?_, h3, fun n hn => ⟨(h4 n hn).1, ?_⟩, h5, fun n hn z => h6 n hn (fun w => z ((grp n hn).1.mpr w)), fun n hn => ?_⟩
  · obtain ⟨k, k1, k9, e⟩ := (h1 n hn).1
    refine ⟨if k = 9 then 9 else if k % 2 = 1 then k + 1 else k - 1, ?_, ?_, ?_⟩
    · split
      · omega
      · split <;> omega
    · split
      · omega
      · split <;> omega
    · rw [hd n hn, e]; exact zd_nI k (by omega) k1
  · obtain ⟨a, b, ha, e1, e2, hbn, hbd, htr, hdep⟩ := h2 n hn ((grp n hn).1.mp z)
    exact ⟨a, b, ha, e1, e2, hbn, (grp b (by omega)).2.1.mpr hbd, htr, hdep⟩
  · rw [(grp n hn).2.2.2.2.2]; exact (h4 n hn).2
  · obtain ⟨d, d1, d2, d3, d4, d5⟩ := h8 n hn
    refine ⟨d, d1, d2, d3, fun z => d4 ((grp n hn).2.1.mp z), fun q hq e => ?_⟩
    rw [hb q (by omega)]; exact d5 q hq e
theorem zr_P_dual (hd : ∀ n, n < N → K' n = zd (K n)) (hK : zr_K N K Ar) (h : zr_P N S K Ar Lk Pn) : zr_P N S K' Ar Lk Pn := by
  intro n s hn hs
  rcases h n s hn hs with z | ⟨j, e, h36, ha⟩
  · exact Or.inl z
  · obtain ⟨k, k1, k9, ek⟩ := (hK n hn).1
    have g := zd_grp k (by omega) k1
    have g2 := zd_36 k (by omega) k1
    rw [← ek, ← hd n hn] at g g2
    refine Or.inr ⟨j, e, g2.mpr h36, ?_⟩
    rcases ha with w | w | w
    · exact Or.inl ⟨g.2.2.2.1.mpr w.1, w.2⟩
    · exact Or.inr (Or.inl ⟨g.2.2.2.2.1.mpr w.1, w.2⟩)
    · refine Or.inr (Or.inr ⟨?_, w.2⟩)
      rcases w.1 with u | u | u
      · exact (g.2.1.mpr (Or.inl u)).elim Or.inl (fun v => Or.inr (Or.inl v))
      · exact (g.2.1.mpr (Or.inr u)).elim Or.inl (fun v => Or.inr (Or.inl v))
      · exact Or.inr (Or.inr (g.1.mpr u))
/-- the last node goes -/
theorem zf_drop {M q : Nat} (h : zf_F (M + 1) K Ar Pa Kd F G Dp) (hq : q < M) (hp : Pa M = nI q) : zf_F M K Ar Pa (upd Kd q (nI (zf_ct Pa q M))) F G Dp := by
  obtain ⟨hN, h1, h2, h3, h4, h5, h6, h8⟩ := h
  have ctq : ∀ n, n ≠ q → n < M → zf_ct Pa n (M + 1) = zf_ct Pa n M := fun n hne hn => zf_ct_f (fun z => hne ((nI_eq (by omega) (by omega)).mp (z.2.symm.trans hp)))
  have ctqq : zf_ct Pa q (M + 1) = zf_ct Pa q M + 1 := zf_ct_t hq hp
  have ctle : ∀ n, zf_ct Pa n M ≤ zf_ct Pa n (M + 1) := fun n => zf_ct_mono Pa n M 1
  refine ⟨by omega, fun n hn => h1 n (by omega), fun n hn => h2 n (by omega), fun n hn => h3 n (by omega), fun n hn => ?_, fun n hn => h5 n (by omega), fun n hn hk => ⟨fun z => ?_, fun z => ?_⟩, fun n hn => h8 n (by omega)⟩
  · have := h4 n (by omega)
    by_cases e : n = q
    · subst e
      rw [pk_us]
      exact ⟨rfl, by omega⟩
    · rw [pk_un e, ← ctq n e hn]
      exact this
  · obtain ⟨c, ec, hc⟩ := (h6 n (by omega) hk).1 (by have := ctle n; omega)
    refine ⟨c, ec, hc.1, ?_, hc.2.2.1, hc.2.2.2⟩
    have := hc.2.1
    have h' := hc.2.2.2
    rcases Nat.lt_or_ge c M with w | w
    · exact w
    · have e : c = M := by omega
      rw [e] at h'; omega
  · obtain ⟨c, ec, hc⟩ := (h6 n (by omega) hk).2 (by have := ctle n; omega)
    refine ⟨c, ec, hc.1, ?_, hc.2.2.1, hc.2.2.2⟩
    have := hc.2.1
    have h' := hc.2.2.2
    rcases Nat.lt_or_ge c M with w | w
    · exact w
    · have e : c = M := by omega
      rw [e] at h'; omega
end
section
variable {N S rm pl : Nat} {f_solved f_playMode f_forceBase f_outRow f_badRow f_reachRow : Int32} {a_linkSet a_atomSet a_kinds a_args a_parent a_kids a_first a_second a_depth a_pins a_win a_path a_mv a_choice a_ranks a_sets b_link b_atom b_pins b_set b_stand : Nat → Int32}
theorem zi_dropNode {k : Nat} (hI : zr_I N S rm pl f_solved f_playMode a_linkSet a_atomSet a_kinds a_args a_parent a_kids a_first a_second a_depth a_pins a_win a_path a_choice b_link b_atom b_pins) : wpX_dropNode (fun r u' => wpY_dropNode (fun r' v' => r' = r ∧ i_Rel k u' v') ((nI S), (nI rm), (nI N), f_solved, f_playMode, (nI pl), b_link, b_atom, a_kinds, a_args, a_parent, b_pins, a_path, b_set, b_stand)) ((nI S), (nI rm), (nI N), f_solved, f_playMode, (nI pl), f_forceBase, f_outRow, f_badRow, f_reachRow, a_linkSet, a_atomSet, a_kinds, a_args, a_parent, a_kids, a_first, a_second, a_depth, a_pins, a_win, a_path, a_mv, a_choice, a_ranks, a_sets) := by
  have hI' := hI
  obtain ⟨⟨hSS, hrm, hNr⟩, hF, hL, hA, hPP, hCh, hSv, hPl⟩ := hI'
  have hN := hF.1
  rcases Nat.eq_zero_or_pos N with e | e
  · subst e
    exact br_t rfl (br_t rfl ⟨rfl, zr_in hI⟩)
  · obtain ⟨M, rfl⟩ : ∃ M, N = M + 1 := ⟨N - 1, by omega⟩
    refine br_f (nI_ne0 (by omega) (by omega)) (nm_r (nI_pred M) ⟨zi_in (by omega) (by omega), ?_⟩)
    rw [zi_c (by omega)]
    -- Y
    have toY : ∀ {r : Int32} {u' : SX}, r = nI M → i_Rel k u' ((nI S), (nI rm), (nI M), 0, 0, (nI 0), b_link, b_atom, a_kinds, a_args, a_parent, (zu b_pins 0 70 (fun _ => -2)), a_path, b_set, b_stand) → wpY_dropNode (fun r' v' => r' = r ∧ i_Rel k u' v') ((nI S), (nI rm), (nI (M + 1)), f_solved, f_playMode, (nI pl), b_link, b_atom, a_kinds, a_args, a_parent, b_pins, a_path, b_set, b_stand) := by
      intro r u' er h
      exact br_f (nI_ne0 (by omega) (by omega)) (nm_r (nI_pred M) (zy_edit ⟨er.symm, h⟩))
    rcases Nat.eq_zero_or_pos M with e0 | e0
    · subst e0
      refine nm_r ((hF.2.2.2.1 0 (by omega)).1 rfl) (br_t (by decide) (zx_edit (toY rfl ?_)))
      exact zr_in (pl := 0) (zr_after ⟨hSS, hrm, by omega⟩ zr_F0 hL hA hCh)
    · obtain ⟨q, hq, ep⟩ := (hF.2.2.2.1 M (by omega)).2 e0
      refine nm_r ep (br_f (nI_pos (by omega)) ⟨zi_in (by omega) (by omega), zi_in (by omega) (by omega), ?_⟩)
      rw [zi_c (by omega)]
      have ek : a_kids q - 1 = nI (zf_ct a_parent q M) := by
        rw [(hF.2.2.2.2.1 q (by omega)).1, zf_ct_t hq ep, nI_pred]
      refine nm_r (congrArg (upd a_kids q) ek) (zx_edit (toY rfl ?_))
      exact zr_in (pl := 0) (zr_after ⟨hSS, hrm, by omega⟩ (zf_drop hF hq ep) hL hA hCh)
theorem zi_dual {k : Nat} (hI : zr_I N S rm pl f_solved f_playMode a_linkSet a_atomSet a_kinds a_args a_parent a_kids a_first a_second a_depth a_pins a_win a_path a_choice b_link b_atom b_pins) : wpX_dual (fun r u' => wpY_dual (fun r' v' => r' = r ∧ i_Rel k u' v') ((nI S), (nI rm), (nI N), f_solved, f_playMode, (nI pl), b_link, b_atom, a_kinds, a_args, a_parent, b_pins, a_path, b_set, b_stand)) ((nI S), (nI rm), (nI N), f_solved, f_playMode, (nI pl), f_forceBase, f_outRow, f_badRow, f_reachRow, a_linkSet, a_atomSet, a_kinds, a_args, a_parent, a_kids, a_first, a_second, a_depth, a_pins, a_win, a_path, a_mv, a_choice, a_ranks, a_sets) := by
  have hI' := hI
  obtain ⟨⟨hSS, hrm, hNr⟩, hF, hL, hA, hPP, hCh, hSv, hPl⟩ := hI'
  have hN := hF.1
  have hK := hF.2.1
  rcases Nat.eq_zero_or_pos N with e | e
  · subst e
    exact br_t rfl (br_t rfl ⟨rfl, zr_in hI⟩)
  · refine br_f (nI_ne0 (by omega) (by omega)) ⟨N + 1, ?_⟩
    have dk : ∀ j, j < N → zu a_kinds 0 j (fun n => zd (a_kinds n)) j = a_kinds j := fun j _ => zu_out (by omega)
    have mainY : ∀ {Q : Int32 → SY → Prop}, Q (nI N) ((nI S), (nI rm), (nI N), 0, 0, (nI 0), b_link, b_atom, (zu a_kinds 0 N (fun n => zd (a_kinds n))), a_args, a_parent, b_pins, a_path, b_set, b_stand) → ∀ d j, j + d = N → wY_dual_11 Q (nI S) (nI rm) (nI N) f_solved f_playMode (nI pl) (d + 1) (nI j) b_link b_atom (zu a_kinds 0 j (fun n => zd (a_kinds n))) a_args a_parent b_pins a_path b_set b_stand := by
      intro Q hQ d
      induction d with
      | zero =>
        intro j hj
        have ej : j = N := by omega
        subst ej
        exact br_t (nI_le (Nat.le_refl _) (by omega)) hQ
      | succ d ih =>
        intro j hj
        have nx := ih (j + 1) (by omega)
        rw [← zu_s, Nat.zero_add] at nx
        refine br_f (nI_ge (by omega) (by omega)) ⟨zi_in (by omega) (by omega), ?_⟩
        rw [zi_c (by omega), dk j (by omega)]
        by_cases h9 : a_kinds j = 9
        · have : zd (a_kinds j) = a_kinds j := by rw [h9]; decide
          rw [this, zu_same (dk j (by omega))] at nx
          exact br_t h9 (nm_r (nI_1 j) nx)
        · refine br_f h9 ⟨zi_in (by omega) (by omega), zi_in (by omega) (by omega), ?_⟩
          by_cases ho : a_kinds j &&& 1 = 1
          · have : zd (a_kinds j) = a_kinds j + 1 := by unfold zd; rw [if_neg h9, if_pos ho]
            rw [this] at nx
            exact br_t ho ⟨zi_in (by omega) (by omega), nm_e (nm_r (nI_1 j) nx)⟩
          · have : zd (a_kinds j) = a_kinds j + (-1) := by unfold zd; rw [if_neg h9, if_neg ho, Int32.sub_eq_add_neg]
            rw [this] at nx
            exact br_f ho ⟨zi_in (by omega) (by omega), nm_e (nm_r (nI_1 j) nx)⟩
    have mainX : ∀ {Q : Int32 → SX → Prop}, Q (nI N) ((nI S), (nI rm), (nI N), 0, 0, (nI 0), f_forceBase, f_outRow, f_badRow, f_reachRow, a_linkSet, a_atomSet, (zu a_kinds 0 N (fun n => zd (a_kinds n))), a_args, a_parent, a_kids, a_first, a_second, a_depth, a_pins, a_win, a_path, a_mv, a_choice, a_ranks, a_sets) → ∀ d j, j + d = N → wX_dual_11 Q (nI S) (nI rm) (nI N) f_solved f_playMode (nI pl) f_forceBase f_outRow f_badRow f_reachRow (d + 1) (nI j) a_linkSet a_atomSet (zu a_kinds 0 j (fun n => zd (a_kinds n))) a_args a_parent a_kids a_first a_second a_depth a_pins a_win a_path a_mv a_choice a_ranks a_sets := by
      intro Q hQ d
      induction d with
      | zero =>
        intro j hj
        have ej : j = N := by omega
        subst ej
        exact br_t (nI_le (Nat.le_refl _) (by omega)) hQ
      | succ d ih =>
        intro j hj
        have nx := ih (j + 1) (by omega)
        rw [← zu_s, Nat.zero_add] at nx
        refine br_f (nI_ge (by omega) (by omega)) ⟨zi_in (by omega) (by omega), ?_⟩
        rw [zi_c (by omega), dk j (by omega)]
        by_cases h9 : a_kinds j = 9
        · have : zd (a_kinds j) = 9 := by rw [h9]; decide
          rw [this] at nx
          refine br_t h9 ⟨zi_in (by omega) (by omega), ?_⟩
          exact nm_e (nm_r (nI_1 j) nx)
        · refine br_f h9 ?_
          by_cases ho : a_kinds j &&& 1 = 1
          · have : zd (a_kinds j) = a_kinds j + 1 := by unfold zd; rw [if_neg h9, if_pos ho]
            rw [this] at nx
            refine br_t ho ⟨zi_in (by omega) (by omega), ?_⟩
            exact nm_e (nm_r (nI_1 j) nx)
          · have : zd (a_kinds j) = a_kinds j - 1 := by unfold zd; rw [if_neg h9, if_neg ho]
            rw [this] at nx
            refine br_f ho ⟨zi_in (by omega) (by omega), ?_⟩
            exact nm_e (nm_r (nI_1 j) nx)
    have hd : ∀ n, n < N → zu a_kinds 0 N (fun n => zd (a_kinds n)) n = zd (a_kinds n) := fun n hn => by
      have := zu_in (a := a_kinds) (b := 0) (j := N) (f := fun n => zd (a_kinds n)) hn
      rw [Nat.zero_add] at this
      exact this
    have rel : i_Rel k ((nI S), (nI rm), (nI N), 0, 0, (nI 0), f_forceBase, f_outRow, f_badRow, f_reachRow, a_linkSet, a_atomSet, (zu a_kinds 0 N (fun n => zd (a_kinds n))), a_args, a_parent, a_kids, a_first, a_second, a_depth, a_pins, a_win, a_path, a_mv, a_choice, a_ranks, a_sets) ((nI S), (nI rm), (nI N), 0, 0, (nI 0), b_link, b_atom, (zu a_kinds 0 N (fun n => zd (a_kinds n))), a_args, a_parent, b_pins, a_path, b_set, b_stand) :=
      zr_in (pl := 0) ⟨⟨hSS, hrm, hNr⟩, zf_dual hd hF, hL, hA, ⟨zr_P_dual hd hK hPP.1, hPP.2⟩, hCh, Or.inl rfl, Nat.zero_le _, Or.inl rfl⟩
    have fx := mainX (Q := fun r u' => wpY_dual (fun r' v' => r' = r ∧ i_Rel k u' v') ((nI S), (nI rm), (nI N), f_solved, f_playMode, (nI pl), b_link, b_atom, a_kinds, a_args, a_parent, b_pins, a_path, b_set, b_stand)) (by
      have fy := mainY (Q := fun r' v' => r' = nI N ∧ i_Rel k ((nI S), (nI rm), (nI N), 0, 0, (nI 0), f_forceBase, f_outRow, f_badRow, f_reachRow, a_linkSet, a_atomSet, (zu a_kinds 0 N (fun n => zd (a_kinds n))), a_args, a_parent, a_kids, a_first, a_second, a_depth, a_pins, a_win, a_path, a_mv, a_choice, a_ranks, a_sets) v') ⟨rfl, rel⟩ N 0 (by omega)
      rw [zu_0] at fy
      exact br_f (nI_ne0 (by omega) (by omega)) ⟨N + 1, fy⟩) N 0 (by omega)
    rw [zu_0] at fx
    exact fx
end
theorem i_vc_dropNode {k : Nat} {u : SX} {v : SY} (I : i_Rel k u v) (hk : k + 5 ≤ 2562) : wpX_dropNode (fun r u' => wpY_dropNode (fun r' v' => r' = r ∧ i_Rel (k + 5) u' v') v) u :=
  zr_el (P := fun u v => wpX_dropNode (fun r u' => wpY_dropNode (fun r' v' => r' = r ∧ i_Rel (k + 5) u' v') v) u) (fun _ _ _ _ _ _ _ _ _ _ _ _ _ _ _ _ _ _ _ _ _ _ _ _ _ _ _ _ _ _ _ hI => zi_dropNode hI) I
theorem i_vc_dual {k : Nat} {u : SX} {v : SY} (I : i_Rel k u v) (hk : k + 5 ≤ 2562) : wpX_dual (fun r u' => wpY_dual (fun r' v' => r' = r ∧ i_Rel (k + 5) u' v') v) u :=
  zr_el (P := fun u v => wpX_dual (fun r u' => wpY_dual (fun r' v' => r' = r ∧ i_Rel (k + 5) u' v') v) u) (fun _ _ _ _ _ _ _ _ _ _ _ _ _ _ _ _ _ _ _ _ _ _ _ _ _ _ _ _ _ _ _ hI => zi_dual hI) I
end
section
/-! ===== node ===== -/
abbrev zf_Fit (kd arg : Int32) (ar : Nat) : Prop := ((kd = 1 ∨ kd = 2) → arg = 0 ∨ arg = 1) ∧ ((kd = 5 ∨ kd = 6) → arg = 0 ∨ arg = 1 ∨ arg = 2) ∧ (kd = 9 → ∃ l, l < ar ∧ arg = nI l) ∧ ((kd = 7 ∨ kd = 8) → ar < 3)
def zf_av (kd arg : Int32) : Int32 := if kd = 3 ∨ kd = 4 ∨ kd = 7 ∨ kd = 8 then 0 else arg
theorem zi_r01 (x : Int32) : (¬ x < 0 ∧ ¬ 1 < x) ↔ (x = 0 ∨ x = 1) := by
  constructor
  · rintro ⟨a, b⟩
    obtain ⟨j, hj, rfl⟩ := nI_of a
    have := mt (nI_ltI (a := 1) (b := j) (by omega) hj).mpr b
    have : j = 0 ∨ j = 1 := by omega
    rcases this with rfl | rfl
    · exact Or.inl rfl
    · exact Or.inr rfl
  · rintro (rfl | rfl) <;> decide
theorem zi_r02 (x : Int32) : (¬ x < 0 ∧ ¬ 2 < x) ↔ (x = 0 ∨ x = 1 ∨ x = 2) := by
  constructor
  · rintro ⟨a, b⟩
    obtain ⟨j, hj, rfl⟩ := nI_of a
    have := mt (nI_ltI (a := 2) (b := j) (by omega) hj).mpr b
    have : j = 0 ∨ j = 1 ∨ j = 2 := by omega
    rcases this with rfl | rfl | rfl
    · exact Or.inl rfl
    · exact Or.inr (Or.inl rfl)
    · exact Or.inr (Or.inr rfl)
  · rintro (rfl | rfl | rfl) <;> decide
section
variable {N S : Nat} {K K' Ar Ar' Pa Pa' Kd Kd' F F' G G' Dp Dp' : Nat → Int32}
theorem zf_ct_congr {n : Nat} : ∀ j, (∀ k, k < j → Pa' k = Pa k) → zf_ct Pa' n j = zf_ct Pa n j
  | 0, _ => rfl
  | j + 1, h => by
    rw [zf_ct_s, zf_ct_s, zf_ct_congr j (fun k hk => h k (by omega)), h j (by omega)]
theorem zf_root {kk : Nat} {arg : Int32} (k1 : 1 ≤ kk) (k9 : kk ≤ 9) (hf : zf_Fit (nI kk) arg 0) (e1 : K' 0 = nI kk) (e2 : Ar' 0 = zf_av (nI kk) arg) (e3 : Pa' 0 = -1) (e4 : Kd' 0 = 0) (e5 : F' 0 = 0) (e6 : G' 0 = 0) (e7 : Dp' 0 = 0) : zf_F 1 K' Ar' Pa' Kd' F' G' Dp' := by
  have ct0 : zf_ct Pa' 0 1 = 0 := zf_ct_0 Pa' 0 1 (by omega)
  have z : ∀ {P : Nat → Prop}, P 0 → ∀ n, n < 1 → P n := fun h n hn => by
    have : n = 0 := by omega
    rw [this]; exact h
  refine ⟨by omega, z ⟨⟨kk, k1, k9, e1⟩, fun h => ?_, fun h => ?_⟩, z (fun h => ?_), z ⟨fun _ => e3, fun h => absurd h (by omega)⟩, z ⟨by rw [e4, ct0]; rfl, by rw [ct0]; exact Nat.zero_le _⟩, z ⟨⟨0, by omega, e5⟩, ⟨0, by omega, e6⟩⟩, z (fun _ => ⟨fun h => absurd h (by rw [ct0]; omega), fun h => absurd h (by rw [ct0]; omega)⟩), z ⟨0, by omega, e7, fun _ => rfl, fun _ => by omega, fun q hq => absurd hq (by omega)⟩⟩
  · rw [e1] at h
    rw [e2]
    have : zf_av (nI kk) arg = arg := if_neg (fun w => by rcases h with h | h <;> rw [h] at w <;> exact absurd w (by decide))
    rw [this]; exact hf.1 h
  · rw [e1] at h
    rw [e2]
    have : zf_av (nI kk) arg = arg := if_neg (fun w => by rcases h with h | h <;> rw [h] at w <;> exact absurd w (by decide))
    rw [this]; exact hf.2.1 h
  · rw [e1] at h
    obtain ⟨l, hl, _⟩ := hf.2.2.1 h
    omega
theorem zf_add {kk q ar : Nat} {arg : Int32} (h : zf_F N K Ar Pa Kd F G Dp) (hN : N < 14) (k1 : 1 ≤ kk) (k9 : kk ≤ 9) (hf : zf_Fit (nI kk) arg ar) (hq : q < N) (hop : zf_op N K Pa q) (har : ar = zc_dep Dp q + zf_b K q)
    (aK : ∀ n, n < N → K' n = K n) (aA : ∀ n, n < N → Ar' n = Ar n) (aP : ∀ n, n < N → Pa' n = Pa n) (aD : ∀ n, n < N → Dp' n = Dp n)
    (e1 : K' N = nI kk) (e2 : Ar' N = zf_av (nI kk) arg) (e3 : Pa' N = nI q) (e4 : Kd' N = 0) (e6 : G' N = 0) (e7 : Dp' N = nI ar)
    (kd : ∀ n, n < N → n ≠ q → Kd' n = Kd n) (kq : Kd' q = nI (zf_ct Pa q N + 1))
    (f1 : ∀ n, n < N → n ≠ q → F' n = F n ∧ G' n = G n) (f2 : zf_ct Pa q N = 0 → F' q = nI N ∧ G' q = G q) (f3 : ¬ zf_ct Pa q N = 0 → F' q = F q ∧ G' q = nI N)
    (fN : (¬ nI kk = 9 ∧ F' N = 0) ∨ (nI kk = 9 ∧ ∃ l b, l < ar ∧ arg = nI l ∧ F' N = nI b ∧ zc_bd K b ∧ (b = q ∨ Relation.TransGen (zc_par Pa) q b) ∧ zc_dep Dp b + 1 + l = ar)) :
    zf_F (N + 1) K' Ar' Pa' Kd' F' G' Dp' := by
  have hPD := zf_PD_of h
  obtain ⟨_, h1, h2, h3, h4, h5, h6, h8⟩ := h
  have qd := (zf_PD_d hPD hq).2
  have hb1 := zf_b_le K q
  have ar4 : ar < 4 := by
    by_cases z : zc_bd K q
    · obtain ⟨d, _, d2, _, d4, _⟩ := h8 q hq
      have : zc_dep Dp q = d := by show (Dp q).toNatClampNeg = d; rw [d2, zi_c (by have := d4 z; omega)]
      have := d4 z
      omega
    · rw [zf_b0 z] at har; omega
  have hq9 : ¬ K q = 9 := fun z => by
    unfold zf_op at hop
    rw [z, show zf_ar 9 = 0 from by decide] at hop
    omega
  have dep : ∀ n, n < N → zc_dep Dp' n = zc_dep Dp n := fun n hn => by show (Dp' n).toNatClampNeg = (Dp n).toNatClampNeg; rw [aD n hn]
  have depN : zc_dep Dp' N = ar := by show (Dp' N).toNatClampNeg = ar; rw [e7, zi_c (by omega)]
  have zb : ∀ n, n < N → zf_b K' n = zf_b K n := fun n hn => by unfold zf_b; rw [aK n hn]
  have bdc : ∀ n, n < N → (zc_bd K' n ↔ zc_bd K n) := fun n hn => by unfold zc_bd; rw [aK n hn]
  have ct : ∀ n j, j ≤ N → zf_ct Pa' n j = zf_ct Pa n j := fun n j hj => zf_ct_congr j (fun k hk => aP k (by omega))
  have ctq : zf_ct Pa' q (N + 1) = zf_ct Pa q N + 1 := by rw [zf_ct_t hq e3, ct q N (Nat.le_refl _)]
  have ctn : ∀ n, n < N → n ≠ q → zf_ct Pa' n (N + 1) = zf_ct Pa n N := fun n hn hne => by
    rw [zf_ct_f (fun z => hne ((nI_eq (by omega) (by omega)).mp (z.2.symm.trans e3))), ct n N (Nat.le_refl _)]
  have ctN : zf_ct Pa' N (N + 1) = 0 := zf_ct_0 Pa' N (N + 1) (Nat.le_refl _)
  have chain : ∀ n b, n < N → Relation.TransGen (zc_par Pa) n b → Relation.TransGen (zc_par Pa') n b := fun n b hn hc =>
    (pg_monoI (I := fun x => x < N) (fun x y e hx => ⟨Nat.lt_trans e.1 hx, e.1, e.2.1, by rw [aP x hx]; exact e.2.2⟩) hc hn).2
  have lastc : ∀ n, n < N + 1 → n < N ∨ n = N := fun n hn => by omega
  refine ⟨by omega, fun n hn => ?_, fun n hn hk => ?_, fun n hn => ?_, fun n hn => ?_, fun n hn => ?_, fun n hn hk => ?_, fun n hn => ?_⟩
  · rcases lastc n hn with w | w
    · rw [aK n w, aA n w]; exact h1 n w
    · subst w
      rw [e1, e2]
      refine ⟨⟨kk, k1, k9, rfl⟩, fun z => ?_, fun z => ?_⟩
      · have : zf_av (nI kk) arg = arg := if_neg (fun w => by rcases z with z | z <;> rw [z] at w <;> exact absurd w (by decide))
        rw [this]; exact hf.1 z
      · have : zf_av (nI kk) arg = arg := if_neg (fun w => by rcases z with z | z <;> rw [z] at w <;> exact absurd w (by decide))
        rw [this]; exact hf.2.1 z
  · rcases lastc n hn with w | w
    · rw [aK n w] at hk
      obtain ⟨a, b, ha, g1, g2, hbn, hbd, htr, hdep⟩ := h2 n w hk
      have hne : n ≠ q := fun z => hq9 (by rw [← z]; exact hk)
      refine ⟨a, b, ha, by rw [aA n w]; exact g1, by rw [(f1 n w hne).1]; exact g2, hbn, (bdc b (by omega)).mpr hbd, chain n b w htr, ?_⟩
      rw [dep b (by omega), dep n w]; exact hdep
    · subst w
      rw [e1] at hk
      rcases fN with z | ⟨_, l, b, hl, ea, eb, hbd, han, hdep⟩
      · exact absurd hk z.1
      · have hbq : b ≤ q := by
          rcases han with z | z
          · omega
          · have := zf_par_lt z; omega
        have : zf_av (nI kk) arg = arg := if_neg (fun w => by rw [hk] at w; exact absurd w (by decide))
        have st : zc_par Pa' n q := ⟨hq, by omega, e3⟩
        refine ⟨l, b, by omega, by rw [e2, this]; exact ea, eb, by omega, (bdc b (by omega)).mpr hbd, ?_, by rw [depN, dep b (by omega)]; exact hdep⟩
        rcases han with z | z
        · rw [z]; exact .single st
        · exact (Relation.TransGen.single st).trans (chain q b hq z)
  · rcases lastc n hn with w | w
    · rw [aP n w]; exact h3 n w
    · subst w
      exact ⟨fun z => absurd z (by omega), fun _ => ⟨q, hq, e3⟩⟩
  · rcases lastc n hn with w | w
    · rw [aK n w]
      by_cases e : n = q
      · subst e
        unfold zf_op at hop
        rw [ctq, kq]
        exact ⟨rfl, hop⟩
      · rw [ctn n w e, kd n w e]; exact h4 n w
    · subst w
      rw [ctN, e4]
      exact ⟨rfl, Nat.zero_le _⟩
  · rcases lastc n hn with w | w
    · by_cases e : n = q
      · subst e
        by_cases z : zf_ct Pa n N = 0
        · rw [(f2 z).1, (f2 z).2]; exact ⟨⟨N, by omega, rfl⟩, (h5 n w).2⟩
        · rw [(f3 z).1, (f3 z).2]; exact ⟨(h5 n w).1, ⟨N, by omega, rfl⟩⟩
      · rw [(f1 n w e).1, (f1 n w e).2]; exact h5 n w
    · subst w
      rw [e6]
      refine ⟨?_, ⟨0, by omega, rfl⟩⟩
      rcases fN with z | ⟨_, l, b, _, _, eb, _, han, _⟩
      · exact ⟨0, by omega, z.2⟩
      · have hbq : b ≤ q := by
          rcases han with z | z
          · omega
          · have := zf_par_lt z; omega
        exact ⟨b, by omega, eb⟩
  · rcases lastc n hn with w | w
    · rw [aK n w] at hk
      have lift : ∀ i c, zf_Ch N Pa n i c → zf_Ch (N + 1) Pa' n i c := fun i c hc => ⟨hc.1, by have := hc.2.1; omega, by rw [aP c hc.2.1]; exact hc.2.2.1, by rw [ct n c (by have := hc.2.1; omega)]; exact hc.2.2.2⟩
      by_cases e : n = q
      · subst e
        rw [ctq]
        have hop' := hop
        unfold zf_op at hop'
        have ha2 := zf_ar_le (K n)
        by_cases z : zf_ct Pa n N = 0
        · refine ⟨fun _ => ⟨N, (f2 z).1, hq, by omega, e3, by rw [ct n N (Nat.le_refl _)]; exact z⟩, fun g => by omega⟩
        · refine ⟨fun _ => ?_, fun _ => ⟨N, (f3 z).2, hq, by omega, e3, by rw [ct n N (Nat.le_refl _)]; omega⟩⟩
          obtain ⟨c, ec, hc⟩ := (h6 n w hk).1 (by omega)
          exact ⟨c, by rw [(f3 z).1]; exact ec, lift 0 c hc⟩
      · rw [ctn n w e, (f1 n w e).1, (f1 n w e).2]
        refine ⟨fun g => ?_, fun g => ?_⟩
        · obtain ⟨c, ec, hc⟩ := (h6 n w hk).1 g
          exact ⟨c, ec, lift 0 c hc⟩
        · obtain ⟨c, ec, hc⟩ := (h6 n w hk).2 g
          exact ⟨c, ec, lift 1 c hc⟩
    · subst w
      rw [ctN]
      exact ⟨fun g => absurd g (by omega), fun g => absurd g (by omega)⟩
  · rcases lastc n hn with w | w
    · obtain ⟨d, d1, d2, d3, d4, d5⟩ := h8 n w
      refine ⟨d, d1, by rw [aD n w]; exact d2, d3, fun z => d4 ((bdc n w).mp z), fun q' hq' e => ?_⟩
      rw [dep q' (by omega), zb q' (by omega)]
      exact d5 q' hq' (by rw [← aP n w]; exact e)
    · subst w
      refine ⟨ar, ar4, e7, fun z => absurd z (by omega), fun z => ?_, fun q' hq' e => ?_⟩
      · unfold zc_bd at z
        rw [e1] at z
        exact hf.2.2.2 z
      · have : q' = q := (nI_eq (by omega) (by omega)).mp (e.symm.trans e3)
        rw [this, dep q hq, zb q hq]; exact har
end
section
variable {N S : Nat}
variable {f_room f_solved f_playMode f_pathLen f_forceBase f_outRow f_badRow f_reachRow : Int32} {a_linkSet a_atomSet a_kinds a_args a_parent a_kids a_first a_second a_depth a_pins a_win a_path a_mv a_choice a_ranks a_sets : Nat → Int32}
variable {g_nMax g_solved g_playNow g_pathLen : Int32} {b_link b_atom b_kind b_arg b_parent b_pins b_path b_set b_stand : Nat → Int32}
theorem zx_argFits {post : Int32 → Prop} {kk ar : Nat} {arg : Int32} (k1 : 1 ≤ kk) (k9 : kk ≤ 9) (har : ar < 1000) (h1 : zf_Fit (nI kk) arg ar → post 1) (h0 : ¬ zf_Fit (nI kk) arg ar → post 0) : wpX_argFits post ((nI S), f_room, (nI N), f_solved, f_playMode, f_pathLen, f_forceBase, f_outRow, f_badRow, f_reachRow, a_linkSet, a_atomSet, a_kinds, a_args, a_parent, a_kids, a_first, a_second, a_depth, a_pins, a_win, a_path, a_mv, a_choice, a_ranks, a_sets) (nI kk) arg (nI ar) := by
  have c10 : (zf_Fit (nI kk) arg ar ↔ (arg = 0 ∨ arg = 1)) → wX_argFits_10 post arg (nI S) f_room (nI N) f_solved f_playMode f_pathLen f_forceBase f_outRow f_badRow f_reachRow a_linkSet a_atomSet a_kinds a_args a_parent a_kids a_first a_second a_depth a_pins a_win a_path a_mv a_choice a_ranks a_sets := by
    intro he
    have r := zi_r01 arg
    by_cases a : arg < 0
    · exact br_t a (h0 (fun z => (r.mpr (he.mp z)).1 a))
    · refine br_f a ?_
      by_cases b : 1 < arg
      · exact br_t b (h0 (fun z => (r.mpr (he.mp z)).2 b))
      · exact br_f b (h1 (he.mpr (r.mp ⟨a, b⟩)))
  have c36 : (zf_Fit (nI kk) arg ar ↔ (arg = 0 ∨ arg = 1 ∨ arg = 2)) → wX_argFits_36 post arg (nI S) f_room (nI N) f_solved f_playMode f_pathLen f_forceBase f_outRow f_badRow f_reachRow a_linkSet a_atomSet a_kinds a_args a_parent a_kids a_first a_second a_depth a_pins a_win a_path a_mv a_choice a_ranks a_sets := by
    intro he
    have r := zi_r02 arg
    by_cases a : arg < 0
    · exact br_t a (h0 (fun z => (r.mpr (he.mp z)).1 a))
    · refine br_f a ?_
      by_cases b : 2 < arg
      · exact br_t b (h0 (fun z => (r.mpr (he.mp z)).2 b))
      · exact br_f b (h1 (he.mpr (r.mp ⟨a, b⟩)))
  have c84 : (zf_Fit (nI kk) arg ar ↔ ar < 3) → wX_argFits_84 post (nI ar) (nI S) f_room (nI N) f_solved f_playMode f_pathLen f_forceBase f_outRow f_badRow f_reachRow a_linkSet a_atomSet a_kinds a_args a_parent a_kids a_first a_second a_depth a_pins a_win a_path a_mv a_choice a_ranks a_sets := by
    intro he
    by_cases a : ar < 3
    · exact br_f (nI_ge (b := 3) a (by decide)) (h1 (he.mpr a))
    · exact br_t (nI_le (a := 3) (by omega) (by omega)) (h0 (fun z => a (he.mp z)))
  have : kk = 1 ∨ kk = 2 ∨ kk = 3 ∨ kk = 4 ∨ kk = 5 ∨ kk = 6 ∨ kk = 7 ∨ kk = 8 ∨ kk = 9 := by omega
  rcases this with rfl | rfl | rfl | rfl | rfl | rfl | rfl | rfl | rfl
  · exact br_t (by decide) (c10 ⟨fun z => z.1 (by decide), fun z => ⟨fun _ => z, fun w => absurd w (by decide), fun w => absurd w (by decide), fun w => absurd w (by decide)⟩⟩)
  · exact br_f (by decide) (br_t (by decide) (c10 ⟨fun z => z.1 (by decide), fun z => ⟨fun _ => z, fun w => absurd w (by decide), fun w => absurd w (by decide), fun w => absurd w (by decide)⟩⟩))
  · exact br_f (by decide) (br_f (by decide) (br_f (by decide) (br_f (by decide) (br_f (by decide) (br_f (by decide) (br_f (by decide) (h1 ⟨fun w => absurd w (by decide), fun w => absurd w (by decide), fun w => absurd w (by decide), fun w => absurd w (by decide)⟩)))))))
  · exact br_f (by decide) (br_f (by decide) (br_f (by decide) (br_f (by decide) (br_f (by decide) (br_f (by decide) (br_f (by decide) (h1 ⟨fun w => absurd w (by decide), fun w => absurd w (by decide), fun w => absurd w (by decide), fun w => absurd w (by decide)⟩)))))))
  · exact br_f (by decide) (br_f (by decide) (br_t (by decide) (c36 ⟨fun z => z.2.1 (by decide), fun z => ⟨fun w => absurd w (by decide), fun _ => z, fun w => absurd w (by decide), fun w => absurd w (by decide)⟩⟩)))
  · exact br_f (by decide) (br_f (by decide) (br_f (by decide) (br_t (by decide) (c36 ⟨fun z => z.2.1 (by decide), fun z => ⟨fun w => absurd w (by decide), fun _ => z, fun w => absurd w (by decide), fun w => absurd w (by decide)⟩⟩))))
  · exact br_f (by decide) (br_f (by decide) (br_f (by decide) (br_f (by decide) (br_f (by decide) (br_t (by decide) (c84 ⟨fun z => z.2.2.2 (by decide), fun z => ⟨fun w => absurd w (by decide), fun w => absurd w (by decide), fun w => absurd w (by decide), fun _ => z⟩⟩))))))
  · exact br_f (by decide) (br_f (by decide) (br_f (by decide) (br_f (by decide) (br_f (by decide) (br_f (by decide) (br_t (by decide) (c84 ⟨fun z => z.2.2.2 (by decide), fun z => ⟨fun w => absurd w (by decide), fun w => absurd w (by decide), fun w => absurd w (by decide), fun _ => z⟩⟩)))))))
  · refine br_f (by decide) (br_f (by decide) (br_f (by decide) (br_f (by decide) (br_t (by decide) ?_))))
    by_cases a : arg < 0
    · refine br_t a (h0 (fun z => ?_))
      obtain ⟨l, hl, e⟩ := z.2.2.1 (by decide)
      rw [e] at a
      exact absurd a (nI_pos (by omega))
    · obtain ⟨j, hj, rfl⟩ := nI_of a
      refine br_f a ?_
      by_cases hl : j < ar
      · exact br_f (nI_ge hl (by omega)) (h1 ⟨fun w => absurd w (by decide), fun w => absurd w (by decide), fun _ => ⟨j, hl, rfl⟩, fun w => absurd w (by decide)⟩)
      · refine br_t (nI_le (by omega) hj) (h0 (fun z => ?_))
        obtain ⟨l, hl', e⟩ := z.2.2.1 (by decide)
        have := (nI_eq hj (by omega)).mp e
        omega
/-- Y's checks -/
theorem zy_checks {post : Int32 → SY → Prop} {kk ar : Nat} {arg up : Int32} (k1 : 1 ≤ kk) (k9 : kk ≤ 9) (har : ar < 1000) (h1 : zf_Fit (nI kk) arg ar → wY_node_124 post (nI kk) arg up (nI S) g_nMax (nI N) g_solved g_playNow g_pathLen b_link b_atom b_kind b_arg b_parent b_pins b_path b_set b_stand) (h0 : ¬ zf_Fit (nI kk) arg ar → post (-1) ((nI S), g_nMax, (nI N), g_solved, g_playNow, g_pathLen, b_link, b_atom, b_kind, b_arg, b_parent, b_pins, b_path, b_set, b_stand)) :
    ((nI kk = 1 → wY_node_53 post (nI kk) arg up (nI ar) (nI S) g_nMax (nI N) g_solved g_playNow g_pathLen b_link b_atom b_kind b_arg b_parent b_pins b_path b_set b_stand) ∧ (¬ nI kk = 1 → ((nI kk = 2 → wY_node_53 post (nI kk) arg up (nI ar) (nI S) g_nMax (nI N) g_solved g_playNow g_pathLen b_link b_atom b_kind b_arg b_parent b_pins b_path b_set b_stand) ∧ (¬ nI kk = 2 → wY_node_64 post (nI kk) arg up (nI ar) (nI S) g_nMax (nI N) g_solved g_playNow g_pathLen b_link b_atom b_kind b_arg b_parent b_pins b_path b_set b_stand)))) := by
  have c104 : (nI kk = 7 ∨ nI kk = 8) → wY_node_104 post (nI kk) arg up (nI ar) (nI S) g_nMax (nI N) g_solved g_playNow g_pathLen b_link b_atom b_kind b_arg b_parent b_pins b_path b_set b_stand := by
    intro hk
    have c116 : wY_node_116 post (nI kk) arg up (nI ar) (nI S) g_nMax (nI N) g_solved g_playNow g_pathLen b_link b_atom b_kind b_arg b_parent b_pins b_path b_set b_stand := by
      by_cases a : ar < 3
      · refine br_t (nI_lt (b := 3) a (by decide)) (h1 ⟨fun w => ?_, fun w => ?_, fun w => ?_, fun _ => a⟩)
        · rcases hk with h | h <;> rw [h] at w <;> exact absurd w (by decide)
        · rcases hk with h | h <;> rw [h] at w <;> exact absurd w (by decide)
        · rcases hk with h | h <;> rw [h] at w <;> exact absurd w (by decide)
      · exact br_f (nI_nlt (b := 3) (by omega) (by omega)) (h0 (fun z => a (z.2.2.2 hk)))
    by_cases h7 : nI kk = 7
    · exact br_t h7 c116
    · exact br_f h7 (br_t (hk.resolve_left h7) c116)
  have n104 : ¬ (nI kk = 7 ∨ nI kk = 8) → zf_Fit (nI kk) arg ar → wY_node_104 post (nI kk) arg up (nI ar) (nI S) g_nMax (nI N) g_solved g_playNow g_pathLen b_link b_atom b_kind b_arg b_parent b_pins b_path b_set b_stand := fun hk hf => br_f (fun z => hk (Or.inl z)) (br_f (fun z => hk (Or.inr z)) (h1 hf))
  have : kk = 1 ∨ kk = 2 ∨ kk = 3 ∨ kk = 4 ∨ kk = 5 ∨ kk = 6 ∨ kk = 7 ∨ kk = 8 ∨ kk = 9 := by omega
  have c53 : (nI kk = 1 ∨ nI kk = 2) → wY_node_53 post (nI kk) arg up (nI ar) (nI S) g_nMax (nI N) g_solved g_playNow g_pathLen b_link b_atom b_kind b_arg b_parent b_pins b_path b_set b_stand := by
    intro hk
    have r := zi_r01 arg
    have ne : ∀ {i : Int32}, i ≠ 1 → i ≠ 2 → ¬ nI kk = i := fun a b e => hk.elim (fun w => a (e.symm.trans w)) (fun w => b (e.symm.trans w))
    by_cases a : arg < 0
    · exact br_t a (h0 (fun z => (r.mpr (z.1 hk)).1 a))
    · refine br_f a ?_
      by_cases b : arg ≤ 1
      · refine br_t b (br_f (ne (by decide) (by decide)) (br_f (ne (by decide) (by decide)) (br_f (ne (by decide) (by decide)) (n104 (fun z => z.elim (ne (by decide) (by decide)) (ne (by decide) (by decide))) ⟨fun _ => r.mp ⟨a, Int32.not_lt.mpr b⟩, fun w => w.elim (fun u => absurd u (ne (by decide) (by decide))) (fun u => absurd u (ne (by decide) (by decide))), fun w => absurd w (ne (by decide) (by decide)), fun w => w.elim (fun u => absurd u (ne (by decide) (by decide))) (fun u => absurd u (ne (by decide) (by decide)))⟩))))
      · exact br_f b (h0 (fun z => (r.mpr (z.1 hk)).2 (Int32.not_le.mp b)))
  have c75 : (nI kk = 5 ∨ nI kk = 6) → wY_node_75 post (nI kk) arg up (nI ar) (nI S) g_nMax (nI N) g_solved g_playNow g_pathLen b_link b_atom b_kind b_arg b_parent b_pins b_path b_set b_stand := by
    intro hk
    have r := zi_r02 arg
    have ne : ∀ {i : Int32}, i ≠ 5 → i ≠ 6 → ¬ nI kk = i := fun a b e => hk.elim (fun w => a (e.symm.trans w)) (fun w => b (e.symm.trans w))
    by_cases a : arg < 0
    · exact br_t a (h0 (fun z => (r.mpr (z.2.1 hk)).1 a))
    · refine br_f a ?_
      by_cases b : arg ≤ 2
      · refine br_t b (br_f (ne (by decide) (by decide)) (n104 (fun z => z.elim (ne (by decide) (by decide)) (ne (by decide) (by decide))) ⟨fun w => w.elim (fun u => absurd u (ne (by decide) (by decide))) (fun u => absurd u (ne (by decide) (by decide))), fun _ => r.mp ⟨a, Int32.not_lt.mpr b⟩, fun w => absurd w (ne (by decide) (by decide)), fun w => w.elim (fun u => absurd u (ne (by decide) (by decide))) (fun u => absurd u (ne (by decide) (by decide)))⟩))
      · exact br_f b (h0 (fun z => (r.mpr (z.2.1 hk)).2 (Int32.not_le.mp b)))
  rcases this with rfl | rfl | rfl | rfl | rfl | rfl | rfl | rfl | rfl
  · exact br_t (by decide) (c53 (by decide))
  · exact br_f (by decide) (br_t (by decide) (c53 (by decide)))
  · exact br_f (by decide) (br_f (by decide) (br_f (by decide) (br_f (by decide) (br_f (by decide) (n104 (by decide) ⟨fun w => absurd w (by decide), fun w => absurd w (by decide), fun w => absurd w (by decide), fun w => absurd w (by decide)⟩)))))
  · exact br_f (by decide) (br_f (by decide) (br_f (by decide) (br_f (by decide) (br_f (by decide) (n104 (by decide) ⟨fun w => absurd w (by decide), fun w => absurd w (by decide), fun w => absurd w (by decide), fun w => absurd w (by decide)⟩)))))
  · exact br_f (by decide) (br_f (by decide) (br_t (by decide) (c75 (by decide))))
  · exact br_f (by decide) (br_f (by decide) (br_f (by decide) (br_t (by decide) (c75 (by decide)))))
  · exact br_f (by decide) (br_f (by decide) (br_f (by decide) (br_f (by decide) (br_f (by decide) (c104 (by decide))))))
  · exact br_f (by decide) (br_f (by decide) (br_f (by decide) (br_f (by decide) (br_f (by decide) (c104 (by decide))))))
  · refine br_f (by decide) (br_f (by decide) (br_f (by decide) (br_f (by decide) (br_t (by decide) ?_))))
    by_cases a : arg < 0
    · refine br_t a (h0 (fun z => ?_))
      obtain ⟨l, hl, e⟩ := z.2.2.1 (by decide)
      rw [e] at a
      exact absurd a (nI_pos (by omega))
    · obtain ⟨j, hj, rfl⟩ := nI_of a
      refine br_f a ?_
      by_cases hl : j < ar
      · exact br_t (nI_lt hl (by omega)) (n104 (by decide) ⟨fun w => absurd w (by decide), fun w => absurd w (by decide), fun _ => ⟨j, hl, rfl⟩, fun w => absurd w (by decide)⟩)
      · refine br_f (nI_nlt (by omega) hj) (h0 (fun z => ?_))
        obtain ⟨l, hl', e⟩ := z.2.2.1 (by decide)
        have := (nI_eq hj (by omega)).mp e
        omega
/-- Y enters the node -/
theorem zy_node124 {post : Int32 → SY → Prop} {kk : Nat} {arg up : Int32} (hN : N < 14) (K : post (nI N) ((nI S), g_nMax, (nI (N + 1)), 0, 0, 0, b_link, b_atom, (upd b_kind N (nI kk)), (upd b_arg N (zf_av (nI kk) arg)), (upd b_parent N up), (zu b_pins 0 70 (fun _ => -2)), b_path, b_set, b_stand)) : wY_node_124 post (nI kk) arg up (nI S) g_nMax (nI N) g_solved g_playNow g_pathLen b_link b_atom b_kind b_arg b_parent b_pins b_path b_set b_stand := by
  refine And.intro (zi_in (by omega) (by omega)) ?_
  rw [zi_c (by omega)]
  refine nm_e ?_
  have fin : ∀ z0, z0 = zf_av (nI kk) arg → wY_node_169 post up z0 (nI N) (nI S) g_nMax (nI N) g_solved g_playNow g_pathLen b_link b_atom (upd b_kind N (nI kk)) b_arg b_parent b_pins b_path b_set b_stand := by
    intro z0 hz
    refine And.intro (zi_in (by omega) (by omega)) ?_
    rw [zi_c (by omega), hz]
    refine nm_e ⟨zi_in (by omega) (by omega), nm_e (nm_r (nI_1 N) (zy_edit ?_))⟩
    show post (nI (N + 1) - 1) _
    rw [nI_pred]
    exact K
  by_cases a : nI kk = 3
  · exact br_t a (fin 0 (by unfold zf_av; rw [if_pos (Or.inl a)]))
  · refine br_f a ?_
    by_cases b : nI kk = 4
    · exact br_t b (fin 0 (by unfold zf_av; rw [if_pos (Or.inr (Or.inl b))]))
    · refine br_f b ?_
      by_cases c : nI kk = 7
      · exact br_t c (fin 0 (by unfold zf_av; rw [if_pos (Or.inr (Or.inr (Or.inl c)))]))
      · refine br_f c ?_
        by_cases d : nI kk = 8
        · exact br_t d (fin 0 (by unfold zf_av; rw [if_pos (Or.inr (Or.inr (Or.inr d)))]))
        · exact br_f d (fin arg (by unfold zf_av; rw [if_neg (fun z => z.elim a (fun z => z.elim b (fun z => z.elim c d)))]))
/-- X enters the node: the tables first -/
theorem zx_node68 {post : Int32 → SX → Prop} {kk ar : Nat} {arg up : Int32} (hN : N < 14) (k1 : 1 ≤ kk) (k9 : kk ≤ 9) (har : ar < 1000)
    (h1 : zf_Fit (nI kk) arg ar → wX_node_140 post (nI kk) arg up (nI ar) (nI N) (zf_av (nI kk) arg) (nI N) (nI S) f_room (nI N) f_solved f_playMode f_pathLen f_forceBase f_outRow f_badRow f_reachRow a_linkSet a_atomSet (upd a_kinds N (nI kk)) a_args a_parent a_kids a_first a_second a_depth a_pins a_win a_path a_mv a_choice a_ranks a_sets) (h0 : ¬ zf_Fit (nI kk) arg ar → post (-1) ((nI S), f_room, (nI N), f_solved, f_playMode, f_pathLen, f_forceBase, f_outRow, f_badRow, f_reachRow, a_linkSet, a_atomSet, a_kinds, a_args, a_parent, a_kids, a_first, a_second, a_depth, a_pins, a_win, a_path, a_mv, a_choice, a_ranks, a_sets)) : wX_node_68 post (nI kk) arg up (nI ar) (nI S) f_room (nI N) f_solved f_playMode f_pathLen f_forceBase f_outRow f_badRow f_reachRow a_linkSet a_atomSet a_kinds a_args a_parent a_kids a_first a_second a_depth a_pins a_win a_path a_mv a_choice a_ranks a_sets := by
  unfold wX_node_68
  refine zx_argFits k1 k9 har (fun hf => br_f (by decide) ?_) (fun hf => br_t rfl (h0 hf))
  have h1' := h1 hf
  have fin1 : (nI kk = 3 ∨ nI kk = 4 ∨ nI kk = 7 ∨ nI kk = 8) → wX_node_109 post (nI kk) arg up (nI ar) (nI N) (nI S) f_room (nI N) f_solved f_playMode f_pathLen f_forceBase f_outRow f_badRow f_reachRow a_linkSet a_atomSet a_kinds a_args a_parent a_kids a_first a_second a_depth a_pins a_win a_path a_mv a_choice a_ranks a_sets := by
    intro hk
    refine And.intro (zi_in (by omega) (by omega)) ?_
    rw [zi_c (by omega)]
    unfold zf_av at h1'
    rw [if_pos hk] at h1'
    exact nm_e (br_f (by decide) h1')
  by_cases a : nI kk = 3
  · exact br_t a (fin1 (Or.inl a))
  · refine br_f a ?_
    by_cases b : nI kk = 4
    · exact br_t b (fin1 (Or.inr (Or.inl b)))
    · refine br_f b ?_
      by_cases c : nI kk = 7
      · exact br_t c (fin1 (Or.inr (Or.inr (Or.inl c))))
      · refine br_f c ?_
        by_cases d : nI kk = 8
        · exact br_t d (fin1 (Or.inr (Or.inr (Or.inr d))))
        · refine br_f d (And.intro (zi_in (by omega) (by omega)) ?_)
          rw [zi_c (by omega)]
          unfold zf_av at h1'
          rw [if_neg (fun z => z.elim a (fun z => z.elim b (fun z => z.elim c d)))] at h1'
          exact nm_e (br_t rfl h1')
end
end
section
/-! ===== node, the whole ===== -/
section
variable {N S : Nat}
variable {f_room f_solved f_playMode f_pathLen f_forceBase f_outRow f_badRow f_reachRow : Int32} {a_linkSet a_atomSet a_kinds a_args a_parent a_kids a_first a_second a_depth a_pins a_win a_path a_mv a_choice a_ranks a_sets : Nat → Int32}
/-- the root -/
theorem zx_node140r {post : Int32 → SX → Prop} {kk : Nat} {arg av : Int32} (k9 : ¬ nI kk = 9)
    (K : post (nI 0) ((nI S), f_room, (nI 1), 0, 0, 0, f_forceBase, f_outRow, f_badRow, f_reachRow, a_linkSet, a_atomSet, a_kinds, (upd a_args 0 av), (upd a_parent 0 (-1)), (upd a_kids 0 0), (upd a_first 0 0), (upd a_second 0 0), (upd a_depth 0 (nI 0)), (zu a_pins 0 70 (fun _ => -2)), a_win, a_path, a_mv, a_choice, a_ranks, a_sets)) :
    wX_node_140 post (nI kk) arg (-1) (nI 0) (nI 0) av (nI 0) (nI S) f_room (nI 0) f_solved f_playMode f_pathLen f_forceBase f_outRow f_badRow f_reachRow a_linkSet a_atomSet a_kinds a_args a_parent a_kids a_first a_second a_depth a_pins a_win a_path a_mv a_choice a_ranks a_sets := by
  have i0 : vp_in (nI 0) 14 := zi_in (by omega) (by omega)
  refine And.intro i0 (nm_e ⟨i0, nm_e ⟨i0, nm_e ⟨i0, nm_e ⟨i0, nm_e ⟨i0, nm_e ?_⟩⟩⟩⟩⟩)
  exact br_f k9 (br_t (by decide) (nm_r (show nI 0 + 1 = nI 1 from nI_1 0) (zx_edit K)))
/-- below a node q -/
theorem zx_node140q {post : Int32 → SX → Prop} {kk ar q : Nat} {arg av : Int32} (hN : N < 14) (hq : q < N) (hPD : zf_PD N a_kinds a_parent a_depth) (har : ar = zc_dep a_depth q + zf_b a_kinds q) (hK : ∀ n, n < N → a_kinds n = a_kinds n) (hfit : zf_Fit (nI kk) arg ar)
    {Kn : Nat → Int32} (hKn : ∀ n, n < N → Kn n = a_kinds n)
    (K : ∀ rb F2 G2, ((¬ nI kk = 9 ∧ rb = 0) ∨ (nI kk = 9 ∧ ∃ l b, l < ar ∧ arg = nI l ∧ rb = nI b ∧ zc_bd a_kinds b ∧ (b = q ∨ Relation.TransGen (zc_par a_parent) q b) ∧ zc_dep a_depth b + 1 + l = ar)) →
      ((a_kids q = 0 ∧ F2 = upd (upd a_first N rb) q (nI N) ∧ G2 = upd a_second N 0) ∨ (¬ a_kids q = 0 ∧ F2 = upd a_first N rb ∧ G2 = upd (upd a_second N 0) q (nI N))) →
      post (nI N) ((nI S), f_room, (nI (N + 1)), 0, 0, 0, f_forceBase, f_outRow, f_badRow, f_reachRow, a_linkSet, a_atomSet, Kn, (upd a_args N av), (upd a_parent N (nI q)), (upd (upd a_kids N 0) q (a_kids q + 1)), F2, G2, (upd a_depth N (nI ar)), (zu a_pins 0 70 (fun _ => -2)), a_win, a_path, a_mv, a_choice, a_ranks, a_sets)) :
    wX_node_140 post (nI kk) arg (nI q) (nI ar) (nI N) av (nI N) (nI S) f_room (nI N) f_solved f_playMode f_pathLen f_forceBase f_outRow f_badRow f_reachRow a_linkSet a_atomSet Kn a_args a_parent a_kids a_first a_second a_depth a_pins a_win a_path a_mv a_choice a_ranks a_sets := by
  have i0 : vp_in (nI N) 14 := zi_in (by omega) (by omega)
  have iq : vp_in (nI q) 14 := zi_in (by omega) (by omega)
  have cN : (nI N).toNatClampNeg = N := zi_c (by omega)
  have cq : (nI q).toNatClampNeg = q := zi_c (by omega)
  -- the end, from join 201 on
  have end201 : ∀ rb, ((¬ nI kk = 9 ∧ rb = 0) ∨ (nI kk = 9 ∧ ∃ l b, l < ar ∧ arg = nI l ∧ rb = nI b ∧ zc_bd a_kinds b ∧ (b = q ∨ Relation.TransGen (zc_par a_parent) q b) ∧ zc_dep a_depth b + 1 + l = ar)) → ∀ F1, F1 = upd a_first N rb → wX_node_201 post (nI q) (nI N) (nI S) f_room (nI N) f_solved f_playMode f_pathLen f_forceBase f_outRow f_badRow f_reachRow a_linkSet a_atomSet Kn (upd a_args N av) (upd a_parent N (nI q)) (upd a_kids N 0) F1 (upd a_second N 0) (upd a_depth N (nI ar)) a_pins a_win a_path a_mv a_choice a_ranks a_sets := by
    intro rb hrb F1 hF1
    subst hF1
    have ek : upd a_kids N 0 q = a_kids q := pk_un (by omega)
    have e233 : ∀ F2 G2, ((a_kids q = 0 ∧ F2 = upd (upd a_first N rb) q (nI N) ∧ G2 = upd a_second N 0) ∨ (¬ a_kids q = 0 ∧ F2 = upd a_first N rb ∧ G2 = upd (upd a_second N 0) q (nI N))) → wX_node_233 post (nI q) (nI N) (nI S) f_room (nI N) f_solved f_playMode f_pathLen f_forceBase f_outRow f_badRow f_reachRow a_linkSet a_atomSet Kn (upd a_args N av) (upd a_parent N (nI q)) (upd a_kids N 0) F2 G2 (upd a_depth N (nI ar)) a_pins a_win a_path a_mv a_choice a_ranks a_sets := by
      intro F2 G2 h
      refine And.intro iq ?_
      rw [cq, ek]
      exact ⟨iq, nm_e (nm_r (nI_1 N) (zx_edit (K rb F2 G2 hrb h)))⟩
    refine br_f (nI_pos (by omega)) ⟨iq, ?_⟩
    rw [cq, ek]
    by_cases z : a_kids q = 0
    · exact br_t z ⟨iq, nm_e (e233 _ _ (Or.inl ⟨z, rfl, rfl⟩))⟩
    · exact br_f z ⟨iq, nm_e (e233 _ _ (Or.inr ⟨z, rfl, rfl⟩))⟩
  refine And.intro i0 ?_
  rw [cN]
  refine nm_e ⟨i0, nm_e ⟨i0, nm_e ⟨i0, nm_e ⟨i0, nm_e ⟨i0, nm_e ?_⟩⟩⟩⟩⟩
  by_cases h9 : nI kk = 9
  · refine br_t h9 ?_
    obtain ⟨l, hl, rfl⟩ := hfit.2.2.1 h9
    -- the tables agree below N
    have hPD' : zf_PD N Kn (upd a_parent N (nI q)) (upd a_depth N (nI ar)) := by
      obtain ⟨p1, p2, p3⟩ := hPD
      refine ⟨p1, fun n hn => by rw [pk_un (by omega)]; exact p2 n hn, fun n hn => ?_⟩
      obtain ⟨d, d1, d2, d3, d4, d5⟩ := p3 n hn
      refine ⟨d, d1, by rw [pk_un (by omega)]; exact d2, d3, fun z => d4 (by unfold zc_bd at z ⊢; rw [hKn n hn] at z; exact z), fun q' hq' e => ?_⟩
      rw [pk_un (by omega)] at e
      have := d5 q' hq' e
      have e1 : zc_dep (upd a_depth N (nI ar)) q' = zc_dep a_depth q' := by show (upd a_depth N (nI ar) q').toNatClampNeg = _; rw [pk_un (by omega)]
      have e2 : zf_b Kn q' = zf_b a_kinds q' := by unfold zf_b; rw [hKn q' (by omega)]
      rw [e1, e2]; exact this
    have dq : ∀ n, n < N → zc_dep (upd a_depth N (nI ar)) n = zc_dep a_depth n := fun n hn => by show (upd a_depth N (nI ar) n).toNatClampNeg = _; rw [pk_un (by omega)]
    have bq : zf_b Kn q = zf_b a_kinds q := by unfold zf_b; rw [hKn q hq]
    refine zx_ba hPD' hq (by rw [dq q hq, bq]; omega) (fun b hbd han hdep => ⟨i0, nm_e (end201 (nI b) (Or.inr ⟨h9, l, b, hl, rfl, rfl, ?_⟩) _ ?_)⟩)
    · have hbq : b ≤ q := by
        rcases han with z | z
        · omega
        · have := zf_par_lt z; omega
      rw [dq b (by omega), dq q hq, bq] at hdep
      refine ⟨by unfold zc_bd at hbd ⊢; rw [hKn b (by omega)] at hbd; exact hbd, ?_, by omega⟩
      rcases han with z | z
      · exact Or.inl z
      · exact Or.inr (pg_monoI (I := fun x => x < N) (fun x y e hx => ⟨Nat.lt_trans e.1 hx, e.1, e.2.1, by have := e.2.2; rw [pk_un (by omega)] at this; exact this⟩) z hq).2
    · funext x
      unfold upd
      split <;> rfl
  · exact br_f h9 (end201 0 (Or.inl ⟨h9, rfl⟩) _ rfl)
end
section
variable {N S rm pl : Nat} {f_solved f_playMode f_forceBase f_outRow f_badRow f_reachRow : Int32} {a_linkSet a_atomSet a_kinds a_args a_parent a_kids a_first a_second a_depth a_pins a_win a_path a_mv a_choice a_ranks a_sets b_link b_atom b_pins b_set b_stand : Nat → Int32}
theorem zi_node {k : Nat} (hI : zr_I N S rm pl f_solved f_playMode a_linkSet a_atomSet a_kinds a_args a_parent a_kids a_first a_second a_depth a_pins a_win a_path a_choice b_link b_atom b_pins) (v1 v2 : Int32) : wpX_node (fun r u' => wpY_node (fun r' v' => r' = r ∧ i_Rel k u' v') ((nI S), (nI rm), (nI N), f_solved, f_playMode, (nI pl), b_link, b_atom, a_kinds, a_args, a_parent, b_pins, a_path, b_set, b_stand) v1 v2) ((nI S), (nI rm), (nI N), f_solved, f_playMode, (nI pl), f_forceBase, f_outRow, f_badRow, f_reachRow, a_linkSet, a_atomSet, a_kinds, a_args, a_parent, a_kids, a_first, a_second, a_depth, a_pins, a_win, a_path, a_mv, a_choice, a_ranks, a_sets) v1 v2 := by
  have hI' := hI
  obtain ⟨⟨hSS, hrm, hNr⟩, hF, hL, hA, hPP, hCh, hSv, hPl⟩ := hI'
  have hN := hF.1
  have hK := hF.2.1
  have hkd : ∀ n, n < N → a_kids n = nI (zf_ct a_parent n N) := fun n hn => (hF.2.2.2.2.1 n hn).1
  have hle : ∀ n, n < N → zf_ct a_parent n N ≤ zf_ar (a_kinds n) := fun n hn => (hF.2.2.2.2.1 n hn).2
  have R : i_Rel k ((nI S), (nI rm), (nI N), f_solved, f_playMode, (nI pl), f_forceBase, f_outRow, f_badRow, f_reachRow, a_linkSet, a_atomSet, a_kinds, a_args, a_parent, a_kids, a_first, a_second, a_depth, a_pins, a_win, a_path, a_mv, a_choice, a_ranks, a_sets) ((nI S), (nI rm), (nI N), f_solved, f_playMode, (nI pl), b_link, b_atom, a_kinds, a_args, a_parent, b_pins, a_path, b_set, b_stand) := zr_in hI
  by_cases g1 : v1 < 1
  · exact br_t g1 (br_t g1 ⟨rfl, R⟩)
  by_cases g9 : 9 < v1
  · exact br_f g1 (br_t g9 (br_f g1 (br_t g9 ⟨rfl, R⟩)))
  obtain ⟨kk, k1, k9, rfl⟩ : ∃ kk, 1 ≤ kk ∧ kk ≤ 9 ∧ v1 = nI kk := by
    have hn : ¬ v1 < 0 := by
      rw [Int32.lt_iff_toInt_lt] at g1 ⊢
      have e1 : (1 : Int32).toInt = 1 := by decide
      have e0 : (0 : Int32).toInt = 0 := by decide
      omega
    obtain ⟨j, hj, rfl⟩ := nI_of hn
    have a := mt (nI_ltI (a := j) (b := 1) hj (by omega)).mpr g1
    have b := mt (nI_ltI (a := 9) (b := j) (by omega) hj).mpr g9
    exact ⟨j, by omega, by omega, rfl⟩
  refine br_f g1 (br_f g9 ?_)
  -- Y up to the open node
  have noY : zf_Cpl N a_kinds a_parent ∨ ¬ N < rm → wpY_node (fun r' v' => r' = -1 ∧ i_Rel k ((nI S), (nI rm), (nI N), f_solved, f_playMode, (nI pl), f_forceBase, f_outRow, f_badRow, f_reachRow, a_linkSet, a_atomSet, a_kinds, a_args, a_parent, a_kids, a_first, a_second, a_depth, a_pins, a_win, a_path, a_mv, a_choice, a_ranks, a_sets) v') ((nI S), (nI rm), (nI N), f_solved, f_playMode, (nI pl), b_link, b_atom, a_kinds, a_args, a_parent, b_pins, a_path, b_set, b_stand) (nI kk) v2 := by
    intro h
    refine br_f g1 (br_f g9 (zy_complete hN hK hle (fun _ => br_f (by decide) ⟨rfl, R⟩) (fun hc => br_t rfl (br_f (nI_nlt (by have := h.resolve_left hc; omega) (by omega)) ⟨rfl, R⟩))))
  by_cases hroom : N < rm
  rotate_left
  · exact br_f (nI_nlt (by omega) (by omega)) (noY (Or.inr hroom))
  refine br_t (nI_lt hroom (by omega)) ?_
  refine zx_openNode hN hK hkd (fun q hq hop hhi => ?_) (fun hno => ?_)
  · -- below q
    have hPD := zf_PD_of hF
    have hqd := zf_PD_d hPD hq
    obtain ⟨ar, har⟩ : ∃ ar, ar = zc_dep a_depth q + zf_b a_kinds q := ⟨_, rfl⟩
    have hb1 := zf_b_le a_kinds q
    have ncp : ¬ zf_Cpl N a_kinds a_parent := fun z => by
      have := z.2 q hq
      unfold zf_op at hop
      omega
    have toY : ∀ {Q : Int32 → SY → Prop}, (zf_Fit (nI kk) v2 ar → Q (nI N) ((nI S), (nI rm), (nI (N + 1)), 0, 0, (nI 0), b_link, b_atom, (upd a_kinds N (nI kk)), (upd a_args N (zf_av (nI kk) v2)), (upd a_parent N (nI q)), (zu b_pins 0 70 (fun _ => -2)), a_path, b_set, b_stand)) → (¬ zf_Fit (nI kk) v2 ar → Q (-1) ((nI S), (nI rm), (nI N), f_solved, f_playMode, (nI pl), b_link, b_atom, a_kinds, a_args, a_parent, b_pins, a_path, b_set, b_stand)) → wpY_node Q ((nI S), (nI rm), (nI N), f_solved, f_playMode, (nI pl), b_link, b_atom, a_kinds, a_args, a_parent, b_pins, a_path, b_set, b_stand) (nI kk) v2 := by
      intro Q h1 h0
      refine br_f g1 (br_f g9 (zy_complete hN hK hle (fun hc => absurd hc ncp) (fun _ => br_t rfl (br_t (nI_lt hroom (by omega)) (zy_openNode hN hK (fun q' hq' hop' hhi' => ?_) (fun hno => absurd hop (hno q hq)))))))
      have e : q' = q := by
        rcases Nat.lt_or_ge q' q with z | z
        · exact absurd hop (hhi' q z hq)
        · rcases Nat.lt_or_ge q q' with w | w
          · exact absurd hop' (hhi q' w hq')
          · omega
      subst e
      refine zy_bf hPD hq ?_
      rw [← har]
      exact zy_checks k1 k9 (by omega) (fun hf => zy_node124 (by omega) (h1 hf)) h0
    have x42 : wX_node_42 (fun r u' => wpY_node (fun r' v' => r' = r ∧ i_Rel k u' v') ((nI S), (nI rm), (nI N), f_solved, f_playMode, (nI pl), b_link, b_atom, a_kinds, a_args, a_parent, b_pins, a_path, b_set, b_stand) (nI kk) v2) (nI kk) v2 (nI q) (nI S) (nI rm) (nI N) f_solved f_playMode (nI pl) f_forceBase f_outRow f_badRow f_reachRow a_linkSet a_atomSet a_kinds a_args a_parent a_kids a_first a_second a_depth a_pins a_win a_path a_mv a_choice a_ranks a_sets := by
      refine br_f (nI_pos (by omega)) ⟨zi_in (by omega) (by omega), ?_⟩
      rw [zi_c (by omega), hqd.1]
      have x68 : wX_node_68 (fun r u' => wpY_node (fun r' v' => r' = r ∧ i_Rel k u' v') ((nI S), (nI rm), (nI N), f_solved, f_playMode, (nI pl), b_link, b_atom, a_kinds, a_args, a_parent, b_pins, a_path, b_set, b_stand) (nI kk) v2) (nI kk) v2 (nI q) (nI ar) (nI S) (nI rm) (nI N) f_solved f_playMode (nI pl) f_forceBase f_outRow f_badRow f_reachRow a_linkSet a_atomSet a_kinds a_args a_parent a_kids a_first a_second a_depth a_pins a_win a_path a_mv a_choice a_ranks a_sets := by
        refine zx_node68 (by omega) k1 k9 (by omega) (fun hf => ?_) (fun hf => toY (fun z => absurd z hf) (fun _ => ⟨rfl, R⟩))
        refine zx_node140q (by omega) hq hPD har (fun _ _ => rfl) hf (fun n hn => pk_un (by omega)) (fun rb F2 G2 hrb hFG => ?_)
        refine toY (fun _ => ⟨rfl, ?_⟩) (fun z => absurd hf z)
        have kq : a_kids q + 1 = nI (zf_ct a_parent q N + 1) := by rw [hkd q hq, nI_1]
        have kz : a_kids q = 0 ↔ zf_ct a_parent q N = 0 := by
          rw [hkd q hq]
          have := zf_ct_lt (Pa := a_parent) (n := q) N
          exact nI_eq (b := 0) (by omega) (by omega)
        have hFN : F2 N = rb ∧ G2 N = 0 := by
          rcases hFG with ⟨_, e1, e2⟩ | ⟨_, e1, e2⟩
          · rw [e1, e2, pk_un (by omega), pk_us, pk_us]; exact ⟨rfl, rfl⟩
          · rw [e1, e2, pk_us, pk_un (by omega), pk_us]; exact ⟨rfl, rfl⟩
        refine zr_in (pl := 0) (zr_after ⟨hSS, hrm, by omega⟩ (zf_add (q := q) (ar := ar) (arg := v2) (kk := kk) hF (by omega) k1 k9 hf hq hop har (fun n hn => pk_un (by omega)) (fun n hn => pk_un (by omega)) (fun n hn => pk_un (by omega)) (fun n hn => pk_un (by omega)) pk_us pk_us pk_us (by rw [pk_un (by omega), pk_us]) hFN.2 pk_us (fun n hn hne => by rw [pk_un hne, pk_un (by omega)]) (by rw [pk_us]; exact kq) (fun n hn hne => ?_) (fun z => ?_) (fun z => ?_) ?_) hL hA hCh)
        · rcases hFG with ⟨_, e1, e2⟩ | ⟨_, e1, e2⟩
          · rw [e1, e2, pk_un hne, pk_un (by omega), pk_un (by omega)]; exact ⟨rfl, rfl⟩
          · rw [e1, e2, pk_un (by omega), pk_un hne, pk_un (by omega)]; exact ⟨rfl, rfl⟩
        · rcases hFG with ⟨_, e1, e2⟩ | ⟨w, _, _⟩
          · rw [e1, e2, pk_us, pk_un (by omega)]; exact ⟨rfl, rfl⟩
          · exact absurd (kz.mpr z) w
        · rcases hFG with ⟨w, _, _⟩ | ⟨_, e1, e2⟩
          · exact absurd (kz.mp w) z
          · rw [e1, e2, pk_un (by omega), pk_us]; exact ⟨rfl, rfl⟩
        · rw [hFN.1]; exact hrb
      refine nm_e (zx_binder (by omega) (fun hb => br_f (by decide) ?_) (fun hb => br_t rfl ?_))
      · rw [zf_b1 hb] at har
        refine nm_r (nI_1 _) ?_
        rw [← har]; exact x68
      · rw [zf_b0 hb, Nat.add_zero] at har
        rw [← har]; exact x68
    refine br_c (fun _ => x42) (fun _ => br_t (nI_pos' (by omega)) x42)
  · rcases Nat.eq_zero_or_pos N with e | e
    · -- the root
      subst e
      have ncp : ¬ zf_Cpl 0 a_kinds a_parent := fun z => absurd z.1 (by omega)
      have toY : ∀ {Q : Int32 → SY → Prop}, (zf_Fit (nI kk) v2 0 → Q (nI 0) ((nI S), (nI rm), (nI (0 + 1)), 0, 0, (nI 0), b_link, b_atom, (upd a_kinds 0 (nI kk)), (upd a_args 0 (zf_av (nI kk) v2)), (upd a_parent 0 (-1)), (zu b_pins 0 70 (fun _ => -2)), a_path, b_set, b_stand)) → (¬ zf_Fit (nI kk) v2 0 → Q (-1) ((nI S), (nI rm), (nI 0), f_solved, f_playMode, (nI pl), b_link, b_atom, a_kinds, a_args, a_parent, b_pins, a_path, b_set, b_stand)) → wpY_node Q ((nI S), (nI rm), (nI 0), f_solved, f_playMode, (nI pl), b_link, b_atom, a_kinds, a_args, a_parent, b_pins, a_path, b_set, b_stand) (nI kk) v2 := by
        intro Q h1 h0
        refine br_f g1 (br_f g9 (zy_complete hN hK hle (fun hc => absurd hc ncp) (fun _ => br_t rfl (br_t (nI_lt hroom (by omega)) (zy_openNode hN hK (fun q' hq' _ _ => absurd hq' (by omega)) (fun _ => ?_))))))
        refine zy_bfm ?_
        exact zy_checks (ar := 0) k1 k9 (by omega) (fun hf => zy_node124 (by omega) (h1 hf)) h0
      refine br_t (by decide) (br_t (by decide) ?_)
      refine zx_node68 (N := 0) (ar := 0) (by omega) k1 k9 (by omega) (fun hf => ?_) (fun hf => toY (fun z => absurd z hf) (fun _ => ⟨rfl, R⟩))
      have k9' : ¬ nI kk = 9 := fun z => by
        obtain ⟨l, hl, _⟩ := hf.2.2.1 z
        omega
      refine zx_node140r k9' (toY (fun _ => ⟨rfl, ?_⟩) (fun z => absurd hf z))
      exact zr_in (N := 1) (pl := 0) (zr_after ⟨hSS, hrm, by omega⟩ (zf_root k1 k9 hf pk_us pk_us pk_us pk_us pk_us pk_us pk_us) hL hA hCh)
    · refine br_f (nI_nle e (by omega)) (br_f (by decide) (noY (Or.inl ⟨e, fun n hn => ?_⟩)))
      have a := hno n hn
      have b := hle n hn
      unfold zf_op at a
      omega
end
theorem i_vc_node {k : Nat} {u : SX} {v : SY} (I : i_Rel k u v) (hk : k + 5 ≤ 2562) (v1 : Int32) (v2 : Int32) : wpX_node (fun r u' => wpY_node (fun r' v' => r' = r ∧ i_Rel (k + 5) u' v') v v1 v2) u v1 v2 :=
  zr_el (P := fun u v => wpX_node (fun r u' => wpY_node (fun r' v' => r' = r ∧ i_Rel (k + 5) u' v') v v1 v2) u v1 v2) (fun _ _ _ _ _ _ _ _ _ _ _ _ _ _ _ _ _ _ _ _ _ _ _ _ _ _ _ _ _ _ _ hI => zi_node hI v1 v2) I
end
section
/-! ===== solve, value, sure ===== -/
def zsum (f : Nat → Int32) : Nat → Int32
  | 0 => 0
  | n + 1 => zsum f n + f n
theorem zsum_congr {f g : Nat → Int32} : ∀ n, (∀ i, i < n → f i = g i) → zsum f n = zsum g n
  | 0, _ => rfl
  | n + 1, h => by
    show zsum f n + f n = zsum g n + g n
    rw [zsum_congr n (fun i hi => h i (by omega)), h n (by omega)]
theorem zb_s_tail {m : Int32} {S : Nat} (h : ∀ b, bt m b = true → b < S) : ∀ d, S + d ≤ 32 → zb_s m (S + d) = zb_s m S
  | 0, _ => rfl
  | d + 1, hd => by
    show zb_s m (S + d) + ((m >>> (nI (S + d) &&& 31)) &&& 1) = zb_s m S
    rw [zb_s_tail h d (by omega), (zb_sh0 m (by omega)).mpr (fun z => by have := h _ z; omega), Int32.add_zero]
theorem zb_s5 {m : Int32} {S : Nat} (hS : S ≤ 5) (h : ∀ b, bt m b = true → b < S) : zb_s m 5 = zb_s m S := by
  have := zb_s_tail h (5 - S) (by omega)
  rw [show S + (5 - S) = 5 by omega] at this
  exact this
section
variable {N S : Nat} {F G Dp Kd Lk At Pn : Nat → Int32}
variable {g_nMax g_solved g_playNow g_pathLen : Int32} {b_link b_atom b_kind b_arg b_parent b_pins b_path b_set b_stand : Nat → Int32}
theorem zy_wonBy0 {post : Int32 → SY → Prop} (C : zy_C N S b_kind b_arg b_parent Kd F G Dp Lk At Pn b_link b_atom b_pins)
    (K : ∀ x set st, zy_Ev N S b_kind b_arg F G Dp Lk At Pn 0 3 x (zy_sv set, zy_sv st) → zy_ok N S set → post (zsum (fun n => zb_s (set n) S) N) ((nI S), g_nMax, (nI N), g_solved, g_playNow, g_pathLen, b_link, b_atom, b_kind, b_arg, b_parent, b_pins, b_path, set, st)) : wpY_wonBy0 post ((nI S), g_nMax, (nI N), g_solved, g_playNow, g_pathLen, b_link, b_atom, b_kind, b_arg, b_parent, b_pins, b_path, b_set, b_stand) := by
  have hN := C.1.1
  have hS := C.2.2.1.2
  unfold wpY_wonBy0
  refine zy_evaluate (μ := 0) (by omega) C (fun x set st hev hok => ⟨N + 1, ?_⟩)
  have inner : ∀ (J9 : Int32 → Int32 → Prop) (n : Nat) (acc : Int32), n < N → J9 (acc + zb_s (set n) S) (nI (n + 1)) → ∀ d s, s + d = S → wY_wonBy0_19 post J9 (nI n) (nI S) g_nMax (nI N) g_solved g_playNow g_pathLen b_link b_atom b_kind b_arg b_parent b_pins b_path set st (d + 1) (acc + zb_s (set n) s) (nI s) := by
    intro J9 n acc hn hJ d
    induction d with
    | zero =>
      intro s hs
      have e : s = S := by omega
      subst e
      exact br_t (nI_le (Nat.le_refl _) (by omega)) (nm_r (nI_1 n) hJ)
    | succ d ih =>
      intro s hs
      refine br_f (nI_ge (by omega) (by omega)) ⟨zi_in (by omega) (by omega), ?_⟩
      rw [zi_c (by omega)]
      refine nm_r (Int32.add_assoc _ _ _) (nm_r (nI_1 s) (ih (s + 1) (by omega)))
  have main : ∀ d j, j + d = N → wY_wonBy0_9 post (nI S) g_nMax (nI N) g_solved g_playNow g_pathLen b_link b_atom b_kind b_arg b_parent b_pins b_path set st (d + 1) (zsum (fun n => zb_s (set n) S) j) (nI j) := by
    intro d
    induction d with
    | zero =>
      intro j hj
      have e : j = N := by omega
      subst e
      exact br_t (nI_le (Nat.le_refl _) (by omega)) (K x set st hev hok)
    | succ d ih =>
      intro j hj
      have := inner _ j (zsum (fun n => zb_s (set n) S) j) (by omega) (ih (j + 1) (by omega)) S 0 (by omega)
      rw [show zb_s (set j) 0 = 0 from rfl, Int32.add_zero] at this
      exact br_f (nI_ge (by omega) (by omega)) ⟨S + 1, this⟩
  exact main N 0 (by omega)
end
/-- two masks of states that hold the same -/
theorem zr_mask {x y : Int32} {S : Nat} (hx : ∀ b, bt x b = true → b < S) (hy : ∀ b, bt y b = true → b < S) (h : ∀ b, b < S → (bt x b = true ↔ bt y b = true)) : x = y :=
  zb_ext fun i _ => ⟨fun z => (h i (hx i z)).mp z, fun z => (h i (hy i z)).mpr z⟩
section
variable {N S rm pl : Nat} {f_solved f_playMode f_forceBase f_outRow f_badRow f_reachRow : Int32} {a_linkSet a_atomSet a_kinds a_args a_parent a_kids a_first a_second a_depth a_pins a_win a_path a_mv a_choice a_ranks a_sets b_link b_atom b_pins b_set b_stand : Nat → Int32}
theorem zi_YC (hI : zr_I N S rm pl f_solved f_playMode a_linkSet a_atomSet a_kinds a_args a_parent a_kids a_first a_second a_depth a_pins a_win a_path a_choice b_link b_atom b_pins) (hc : zf_Cpl N a_kinds a_parent) : zy_C N S a_kinds a_args a_parent a_kids a_first a_second a_depth a_linkSet a_atomSet a_pins b_link b_atom b_pins :=
  ⟨hI.2.1, hc, hI.1.1, hI.2.2.1.1, hI.2.2.2.2.1.1, hI.2.2.1.2, hI.2.2.2.1.1, hI.2.2.2.2.1.2⟩
theorem zi_St (hI : zr_I N S rm pl f_solved f_playMode a_linkSet a_atomSet a_kinds a_args a_parent a_kids a_first a_second a_depth a_pins a_win a_path a_choice b_link b_atom b_pins) (hc : zf_Cpl N a_kinds a_parent) : pg_St N S (zc_nx a_kinds a_first a_second) (zc_vr a_kinds) (zc_bd a_kinds) (zc_dep a_depth) (zc_anc a_parent) (zc_lg a_kinds a_args a_linkSet a_pins) (zc_own a_kinds a_args a_atomSet) (zc_bk a_kinds) :=
  zf_St hI.2.1 hc hI.1.1.1 hI.1.1.2 hI.2.2.1.1 hI.2.2.2.2.1.1
/-- a table of moves that holds a game's moves -/
theorem zi_MSt {M : Nat → Int32} {lg : pg_M} (hI : zr_I N S rm pl f_solved f_playMode a_linkSet a_atomSet a_kinds a_args a_parent a_kids a_first a_second a_depth a_pins a_win a_path a_choice b_link b_atom b_pins) (hc : zf_Cpl N a_kinds a_parent) (hsub : ∀ p m, pg_D N S p → lg p m → zc_lg a_kinds a_args a_linkSet a_pins p m) (h2 : ∀ p, pg_D N S p → (zc_own a_kinds a_args a_atomSet) p = 2 → lg p 0) (hM : ∀ n s, n < N → s < S → ∀ b, bt (M (n * 5 + s)) b = true ↔ lg (n, s) b) :
    zx_M N S a_kinds M ∧ pg_St N S (zc_nx a_kinds a_first a_second) (zc_vr a_kinds) (zc_bd a_kinds) (zc_dep a_depth) (zc_anc a_parent) (zc_mv M) (zc_own a_kinds a_args a_atomSet) (zc_bk a_kinds) ∧ ∀ p m, pg_D N S p → (zc_mv M p m ↔ lg p m) := by
  have e : ∀ p m, pg_D N S p → (zc_mv M p m ↔ lg p m) := fun p m hp => hM p.1 p.2 hp.1 hp.2 m
  refine ⟨fun n s m hn hs hb => zf_lgM hI.2.1 hI.2.2.1.1 (hsub (n, s) m ⟨hn, hs⟩ ((hM n s hn hs m).mp hb)).1, ?_, e⟩
  have H := zi_St hI hc
  refine pg_St_sub H (fun p m hp hm => hsub p m hp ((e p m hp).mp hm)) (fun _ _ => Iff.rfl) (fun p hp ho => (e p 0 hp).mpr (h2 p hp ho)) H.2.2.2.2.2.2.2.2.2.2
theorem zi_load {post : SX → Prop} (hI : zr_I N S rm pl f_solved f_playMode a_linkSet a_atomSet a_kinds a_args a_parent a_kids a_first a_second a_depth a_pins a_win a_path a_choice b_link b_atom b_pins) (hc : zf_Cpl N a_kinds a_parent)
    (K : ∀ M, (∀ n s, n < N → s < S → ∀ b, bt (M (n * 5 + s)) b = true ↔ zc_lg a_kinds a_args a_linkSet a_pins (n, s) b) → zx_M N S a_kinds M → pg_St N S (zc_nx a_kinds a_first a_second) (zc_vr a_kinds) (zc_bd a_kinds) (zc_dep a_depth) (zc_anc a_parent) (zc_mv M) (zc_own a_kinds a_args a_atomSet) (zc_bk a_kinds) → (∀ p m, pg_D N S p → (zc_mv M p m ↔ zc_lg a_kinds a_args a_linkSet a_pins p m)) → post ((nI S), (nI rm), (nI N), f_solved, f_playMode, (nI pl), f_forceBase, f_outRow, f_badRow, f_reachRow, a_linkSet, a_atomSet, a_kinds, a_args, a_parent, a_kids, a_first, a_second, a_depth, a_pins, a_win, a_path, M, a_choice, a_ranks, a_sets)) : wpX_loadMoves post ((nI S), (nI rm), (nI N), f_solved, f_playMode, (nI pl), f_forceBase, f_outRow, f_badRow, f_reachRow, a_linkSet, a_atomSet, a_kinds, a_args, a_parent, a_kids, a_first, a_second, a_depth, a_pins, a_win, a_path, a_mv, a_choice, a_ranks, a_sets) := by
  refine zx_loadMoves hI.2.1.2.1 hI.2.2.2.2.1.1 hI.2.2.1.1 hI.2.1.1 hI.1.1.1 hI.1.1.2 (fun M hM => ?_)
  have H := zi_St hI hc
  obtain ⟨a, b, c⟩ := zi_MSt hI hc (fun _ _ _ z => z) (fun p hp ho => (H.2.2.2.2.2.2.1 p hp ho 0).mpr rfl) hM
  exact K M hM a b c
/-- what is solved is the evaluation -/
theorem zi_win (hI : zr_I N S rm pl f_solved f_playMode a_linkSet a_atomSet a_kinds a_args a_parent a_kids a_first a_second a_depth a_pins a_win a_path a_choice b_link b_atom b_pins) (hc : zf_Cpl N a_kinds a_parent) {W : pg_S} {ch : pg_P → Nat} (hfc : pg_FC N S (zc_nx a_kinds a_first a_second) (zc_lg a_kinds a_args a_linkSet a_pins) (zc_own a_kinds a_args a_atomSet) (zc_bk a_kinds) W ch) {x : pg_X} {set st : Nat → Int32} (hev : zy_Ev N S a_kinds a_args a_first a_second a_depth a_linkSet a_atomSet a_pins 0 3 x (zy_sv set, zy_sv st)) {p : pg_P} (hp : pg_D N S p) : zy_sv set p ↔ W p := by
  unfold zy_Ev at hev
  rw [zy_om0] at hev
  exact pg_T1 (zi_St hI hc) hfc hev hp
theorem zi_sum {post : Int32 → SX → Prop} {sv : Int32} {win : Nat → Int32} (hN : N ≤ 14) (K : post (zsum (fun n => zb_s (win n) 5) N) ((nI S), (nI rm), (nI N), sv, f_playMode, (nI pl), f_forceBase, f_outRow, f_badRow, f_reachRow, a_linkSet, a_atomSet, a_kinds, a_args, a_parent, a_kids, a_first, a_second, a_depth, a_pins, win, a_path, a_mv, a_choice, a_ranks, a_sets)) : ∃ n, wX_solve_65 post (nI S) (nI rm) (nI N) sv f_playMode (nI pl) f_forceBase f_outRow f_badRow f_reachRow a_linkSet a_atomSet a_kinds a_args a_parent a_kids a_first a_second a_depth a_pins win a_path a_mv a_choice a_ranks a_sets n 0 0 := by
  have main : ∀ d j, j + d = N → wX_solve_65 post (nI S) (nI rm) (nI N) sv f_playMode (nI pl) f_forceBase f_outRow f_badRow f_reachRow a_linkSet a_atomSet a_kinds a_args a_parent a_kids a_first a_second a_depth a_pins win a_path a_mv a_choice a_ranks a_sets (d + 1) (zsum (fun n => zb_s (win n) 5) j) (nI j) := by
    intro d
    induction d with
    | zero =>
      intro j hj
      have e : j = N := by omega
      subst e
      exact br_t (nI_le (Nat.le_refl _) (by omega)) K
    | succ d ih =>
      intro j hj
      refine br_f (nI_ge (by omega) (by omega)) ⟨zi_in (by omega) (by omega), ?_⟩
      rw [zi_c (by omega)]
      exact zx_bits (nm_e (nm_r (nI_1 j) (ih (j + 1) (by omega))))
  exact ⟨N + 1, main N 0 (by omega)⟩
/-- the counts agree -/
theorem zi_count (hS : S ≤ 5) {win set : Nat → Int32} (hw : zy_ok N S win) (hs : zy_ok N S set) (h : ∀ p, pg_D N S p → (zy_sv set p ↔ zy_sv win p)) : zsum (fun n => zb_s (set n) S) N = zsum (fun n => zb_s (win n) 5) N := by
  refine zsum_congr N (fun n hn => ?_)
  have e : set n = win n := zr_mask (fun b hb => hs n b hn hb) (fun b hb => hw n b hn hb) (fun b hb => h (n, b) ⟨hn, hb⟩)
  rw [e, zb_s5 hS (fun b hb => hw n b hn hb)]
theorem zi_solve {k : Nat} (hI : zr_I N S rm pl f_solved f_playMode a_linkSet a_atomSet a_kinds a_args a_parent a_kids a_first a_second a_depth a_pins a_win a_path a_choice b_link b_atom b_pins) : wpX_solve (fun r u' => wpY_solve (fun r' v' => r' = r ∧ i_Rel k u' v') ((nI S), (nI rm), (nI N), f_solved, f_playMode, (nI pl), b_link, b_atom, a_kinds, a_args, a_parent, b_pins, a_path, b_set, b_stand)) ((nI S), (nI rm), (nI N), f_solved, f_playMode, (nI pl), f_forceBase, f_outRow, f_badRow, f_reachRow, a_linkSet, a_atomSet, a_kinds, a_args, a_parent, a_kids, a_first, a_second, a_depth, a_pins, a_win, a_path, a_mv, a_choice, a_ranks, a_sets) := by
  have hI' := hI
  obtain ⟨⟨hSS, hrm, hNr⟩, hF, hL, hA, hPP, hCh, hSv, hPl⟩ := hI'
  have hN := hF.1
  have hK := hF.2.1
  have hkd : ∀ n, n < N → a_kids n = nI (zf_ct a_parent n N) := fun n hn => (hF.2.2.2.2.1 n hn).1
  have hle : ∀ n, n < N → zf_ct a_parent n N ≤ zf_ar (a_kinds n) := fun n hn => (hF.2.2.2.2.1 n hn).2
  unfold wpX_solve
  refine zx_complete hN hK hkd hle (fun hc => br_f (by decide) ?_) (fun hc => br_t rfl ?_)
  rotate_left
  · unfold wpY_solve
    exact zy_complete hN hK hle (fun z => absurd z hc) (fun _ => br_t rfl ⟨rfl, zr_in hI⟩)
  -- Y
  have toY : ∀ {u' : SX} {win : Nat → Int32}, zy_ok N S win → (∃ ch, pg_FC N S (zc_nx a_kinds a_first a_second) (zc_lg a_kinds a_args a_linkSet a_pins) (zc_own a_kinds a_args a_atomSet) (zc_bk a_kinds) (zy_sv win) ch) → (∀ set st, i_Rel k u' ((nI S), (nI rm), (nI N), 1, f_playMode, (nI pl), b_link, b_atom, a_kinds, a_args, a_parent, b_pins, a_path, set, st)) → wpY_solve (fun r' v' => r' = zsum (fun n => zb_s (win n) 5) N ∧ i_Rel k u' v') ((nI S), (nI rm), (nI N), f_solved, f_playMode, (nI pl), b_link, b_atom, a_kinds, a_args, a_parent, b_pins, a_path, b_set, b_stand) := by
    intro u' win hok ⟨ch, hfc⟩ hrel
    unfold wpY_solve
    refine zy_complete hN hK hle (fun _ => br_f (by decide) ?_) (fun z => absurd hc z)
    refine zy_wonBy0 (zi_YC hI hc) (fun x set st hev hoks => ⟨?_, hrel set st⟩)
    exact zi_count hSS.2 hok hoks (fun p hp => zi_win hI hc hfc hev hp)
  rcases hSv with hsv | ⟨hsv, _, hfc, hok⟩
  · refine br_t hsv (zi_load hI hc (fun M _ HM H eM => ?_))
    refine zx_decompose (zf_C hF hSS.2) HM H hCh (fun ch ranks sets hfc hok hch => ⟨N + 1, ?_⟩)
    have hfc' : pg_FC N S (zc_nx a_kinds a_first a_second) (zc_lg a_kinds a_args a_linkSet a_pins) (zc_own a_kinds a_args a_atomSet) (zc_bk a_kinds) (zc_R N S sets 224) (zc_ch ch) := pg_FC_mv (fun p m hp => (eM p m hp).symm) hfc
    have hpm : f_playMode = 0 := by
      rcases hPl.2 with z | z
      · exact z
      · exact absurd (hsv.symm.trans z.1) (by decide)
    have we : ∀ n, n < N → zu a_win 0 N (fun n => sets (224 + n)) n = sets (224 + n) := fun n hn => by
      have := zu_in (a := a_win) (b := 0) (j := N) (f := fun n => sets (224 + n)) hn
      rw [Nat.zero_add] at this
      exact this
    have wok : zy_ok N S (zu a_win 0 N (fun n => sets (224 + n))) := fun n b hn hb => by
      rw [we n hn] at hb
      rcases Nat.lt_or_ge b S with z | z
      · exact z
      · exact absurd hb (hok n b hn z)
    have wfc : ∃ ch, pg_FC N S (zc_nx a_kinds a_first a_second) (zc_lg a_kinds a_args a_linkSet a_pins) (zc_own a_kinds a_args a_atomSet) (zc_bk a_kinds) (zy_sv (zu a_win 0 N (fun n => sets (224 + n)))) ch := ⟨_, pg_FC_W (fun p hp => by
      show bt (zu a_win 0 N (fun n => sets (224 + n)) p.1) p.2 = true ↔ _
      rw [we p.1 hp.1]
      exact ⟨fun z => ⟨hp, z⟩, fun z => z.2⟩) hfc'⟩
    have main : ∀ d j, j + d = N → wX_solve_26 (fun r u' => wpY_solve (fun r' v' => r' = r ∧ i_Rel k u' v') ((nI S), (nI rm), (nI N), f_solved, f_playMode, (nI pl), b_link, b_atom, a_kinds, a_args, a_parent, b_pins, a_path, b_set, b_stand)) (nI S) (nI rm) (nI N) f_solved f_playMode (nI pl) f_forceBase f_outRow f_badRow f_reachRow (d + 1) (nI j) a_linkSet a_atomSet a_kinds a_args a_parent a_kids a_first a_second a_depth a_pins (zu a_win 0 j (fun n => sets (224 + n))) a_path M ch ranks sets := by
      intro d
      induction d with
      | zero =>
        intro j hj
        have e : j = N := by omega
        subst e
        refine br_t (nI_le (Nat.le_refl _) (by omega)) (zi_sum hN ?_)
        exact toY wok wfc (fun set st => zr_in ⟨⟨hSS, hrm, hNr⟩, hF, hL, hA, hPP, hch, Or.inr ⟨rfl, hc, wfc, wok⟩, hPl.1, Or.inl hpm⟩)
      | succ d ih =>
        intro j hj
        have nx := ih (j + 1) (by omega)
        rw [← zu_s, Nat.zero_add] at nx
        refine br_f (nI_ge (by omega) (by omega)) ?_
        rw [show (224 : Int32) + nI j = nI (224 + j) from nI_add 224 j, zi_c (by omega), zi_c (by omega)]
        exact ⟨zi_in (by omega) (by omega), zi_in (by omega) (by omega), nm_e (nm_r (nI_1 j) nx)⟩
    have := main N 0 (by omega)
    rw [zu_0] at this
    exact this
  · refine br_f (by rw [hsv]; decide) (zi_sum hN ?_)
    refine toY hok hfc (fun set st => ?_)
    rw [hsv]
    rw [hsv] at hI
    exact zr_in hI
theorem zi_value {k : Nat} (hI : zr_I N S rm pl f_solved f_playMode a_linkSet a_atomSet a_kinds a_args a_parent a_kids a_first a_second a_depth a_pins a_win a_path a_choice b_link b_atom b_pins) (v1 : Int32) : wpX_value (fun r => wpY_value (fun r' v' => r' = r ∧ i_Rel k ((nI S), (nI rm), (nI N), f_solved, f_playMode, (nI pl), f_forceBase, f_outRow, f_badRow, f_reachRow, a_linkSet, a_atomSet, a_kinds, a_args, a_parent, a_kids, a_first, a_second, a_depth, a_pins, a_win, a_path, a_mv, a_choice, a_ranks, a_sets) v') ((nI S), (nI rm), (nI N), f_solved, f_playMode, (nI pl), b_link, b_atom, a_kinds, a_args, a_parent, b_pins, a_path, b_set, b_stand) v1) ((nI S), (nI rm), (nI N), f_solved, f_playMode, (nI pl), f_forceBase, f_outRow, f_badRow, f_reachRow, a_linkSet, a_atomSet, a_kinds, a_args, a_parent, a_kids, a_first, a_second, a_depth, a_pins, a_win, a_path, a_mv, a_choice, a_ranks, a_sets) v1 := by
  have hI' := hI
  obtain ⟨⟨hSS, hrm, hNr⟩, hF, hL, hA, hPP, hCh, hSv, hPl⟩ := hI'
  have hN := hF.1
  have R : i_Rel k ((nI S), (nI rm), (nI N), f_solved, f_playMode, (nI pl), f_forceBase, f_outRow, f_badRow, f_reachRow, a_linkSet, a_atomSet, a_kinds, a_args, a_parent, a_kids, a_first, a_second, a_depth, a_pins, a_win, a_path, a_mv, a_choice, a_ranks, a_sets) ((nI S), (nI rm), (nI N), f_solved, f_playMode, (nI pl), b_link, b_atom, a_kinds, a_args, a_parent, b_pins, a_path, b_set, b_stand) := zr_in hI
  rcases hSv with hsv | ⟨hsv, hc, ⟨ch, hfc⟩, hok⟩
  · exact br_t hsv (br_t hsv ⟨rfl, R⟩)
  · have hsn : ¬ f_solved = 0 := by rw [hsv]; decide
    have noY : (∀ n, n < N → v1 ≠ nI n) → wpY_value (fun r' v' => r' = -1 ∧ i_Rel k ((nI S), (nI rm), (nI N), f_solved, f_playMode, (nI pl), f_forceBase, f_outRow, f_badRow, f_reachRow, a_linkSet, a_atomSet, a_kinds, a_args, a_parent, a_kids, a_first, a_second, a_depth, a_pins, a_win, a_path, a_mv, a_choice, a_ranks, a_sets) v') ((nI S), (nI rm), (nI N), f_solved, f_playMode, (nI pl), b_link, b_atom, a_kinds, a_args, a_parent, b_pins, a_path, b_set, b_stand) v1 := fun hno => br_f hsn (zy_isNode hN (fun n hn e => absurd e (hno n hn)) (fun _ => br_t rfl ⟨rfl, R⟩))
    refine br_f hsn ?_
    by_cases h1 : v1 < 0
    · exact br_t h1 (noY (fun n hn e => absurd h1 (by rw [e]; exact nI_pos (by omega))))
    · obtain ⟨j, hj, rfl⟩ := nI_of h1
      refine br_f h1 ?_
      by_cases hl : j < N
      · refine br_t (nI_lt hl (by omega)) ⟨zi_in (by omega) (by omega), ?_⟩
        rw [zi_c (by omega)]
        refine br_f hsn (zy_isNode hN (fun n hn e => br_f (by decide) ?_) (fun hno => absurd rfl (hno j hl)))
        refine zy_evaluate (μ := 0) (by omega) (zi_YC hI hc) (fun x set st hev hoks => ⟨zi_in (by omega) (by omega), ?_, zr_in hI⟩)
        rw [zi_c (by omega)]
        exact zr_mask (fun b hb => hoks j b hl hb) (fun b hb => hok j b hl hb) (fun b hb => zi_win hI hc hfc hev (p := (j, b)) ⟨hl, hb⟩)
      · exact br_f (nI_nlt (by omega) (by omega)) (noY (fun n hn e => hl (by rw [(nI_eq hj (by omega)).mp e]; exact hn)))
theorem zi_sure {k : Nat} (hI : zr_I N S rm pl f_solved f_playMode a_linkSet a_atomSet a_kinds a_args a_parent a_kids a_first a_second a_depth a_pins a_win a_path a_choice b_link b_atom b_pins) (v1 v2 v3 : Int32) : wpX_sure (fun r u' => wpY_sure (fun r' v' => r' = r ∧ i_Rel k u' v') ((nI S), (nI rm), (nI N), f_solved, f_playMode, (nI pl), b_link, b_atom, a_kinds, a_args, a_parent, b_pins, a_path, b_set, b_stand) v1 v2 v3) ((nI S), (nI rm), (nI N), f_solved, f_playMode, (nI pl), f_forceBase, f_outRow, f_badRow, f_reachRow, a_linkSet, a_atomSet, a_kinds, a_args, a_parent, a_kids, a_first, a_second, a_depth, a_pins, a_win, a_path, a_mv, a_choice, a_ranks, a_sets) v1 v2 v3 := by
  have hI' := hI
  obtain ⟨⟨hSS, hrm, hNr⟩, hF, hL, hA, hPP, hCh, hSv, hPl⟩ := hI'
  have hN := hF.1
  have R : i_Rel k ((nI S), (nI rm), (nI N), f_solved, f_playMode, (nI pl), f_forceBase, f_outRow, f_badRow, f_reachRow, a_linkSet, a_atomSet, a_kinds, a_args, a_parent, a_kids, a_first, a_second, a_depth, a_pins, a_win, a_path, a_mv, a_choice, a_ranks, a_sets) ((nI S), (nI rm), (nI N), f_solved, f_playMode, (nI pl), b_link, b_atom, a_kinds, a_args, a_parent, b_pins, a_path, b_set, b_stand) := zr_in hI
  by_cases g0 : v1 < 0
  · exact br_t g0 (br_t g0 ⟨rfl, R⟩)
  by_cases g1 : 1 < v1
  · exact br_f g0 (br_t g1 (br_f g0 (br_t g1 ⟨rfl, R⟩)))
  obtain ⟨P, hP, rfl⟩ : ∃ P, P < 2 ∧ v1 = nI P := by
    obtain ⟨j, hj, rfl⟩ := nI_of g0
    have := mt (nI_ltI (a := 1) (b := j) (by omega) hj).mpr g1
    exact ⟨j, by omega, rfl⟩
  refine br_f g0 (br_f g1 (zi_pos (pY := fun _ => True) hI (fun s n hs hn e1 e2 hc => br_f (by decide) ?_) (fun hno => br_t rfl ?_)))
  rotate_left
  · exact br_f g0 (br_f g1 (zi_posY hI (fun s n hs hn e1 e2 hc => absurd ⟨s, n, hs, hn, e1, e2, hc⟩ hno) (fun _ => br_t rfl ⟨rfl, R⟩)))
  subst e1 e2
  have hp : pg_D N S (n, s) := ⟨hn, hs⟩
  refine zi_load hI hc (fun M _ HM H eM => ?_)
  refine zx_markLosing (zf_C hF hSS.2) HM H hP (fun sets hbad hok => ?_)
  rw [show (238 : Int32) + nI n = nI (238 + n) from nI_add 238 n, zi_c (by omega)]
  refine ⟨zi_in (by omega) (by omega), ?_⟩
  have hb := hbad (n, s) hp
  have hbb : bt (sets (238 + n)) s = true ↔ pg_bad N S (zc_nx a_kinds a_first a_second) (zc_mv M) (zc_own a_kinds a_args a_atomSet) (zc_bk a_kinds) P (n, s) := ⟨fun z => hb.mp ⟨hp, z⟩, fun z => (hb.mpr z).2⟩
  -- the same game with the table's moves
  have ebad : pg_bad N S (zc_nx a_kinds a_first a_second) (zc_mv M) (zc_own a_kinds a_args a_atomSet) (zc_bk a_kinds) P (n, s) ↔ pg_bad N S (zc_nx a_kinds a_first a_second) (zc_lg a_kinds a_args a_linkSet a_pins) (zc_own a_kinds a_args a_atomSet) (zc_bk a_kinds) P (n, s) := by
    have eE : pg_E0 N S (zc_nx a_kinds a_first a_second) (zc_mv M) = pg_E0 N S (zc_nx a_kinds a_first a_second) (zc_lg a_kinds a_args a_linkSet a_pins) := by
      funext p q
      exact propext ⟨fun ⟨h1, m, h2, h3⟩ => ⟨h1, m, (eM p m h1).mp h2, h3⟩, fun ⟨h1, m, h2, h3⟩ => ⟨h1, m, (eM p m h1).mpr h2, h3⟩⟩
    unfold pg_bad
    rw [eE]
    constructor
    · rintro ⟨q, h1, h2, h3⟩
      refine ⟨q, h1, h2, h3.imp (fun z => ⟨z.1, fun m hm => z.2 m ((eM q m h2).mpr hm)⟩) id⟩
    · rintro ⟨q, h1, h2, h3⟩
      refine ⟨q, h1, h2, h3.imp (fun z => ⟨z.1, fun m hm => z.2 m ((eM q m h2).mp hm)⟩) id⟩
  have toY : ∀ r : Int32, (pg_bad N S (zc_nx a_kinds a_first a_second) (zc_lg a_kinds a_args a_linkSet a_pins) (zc_own a_kinds a_args a_atomSet) (zc_bk a_kinds) P (n, s) → r = 0) → (¬ pg_bad N S (zc_nx a_kinds a_first a_second) (zc_lg a_kinds a_args a_linkSet a_pins) (zc_own a_kinds a_args a_atomSet) (zc_bk a_kinds) P (n, s) → r = 1) → wpY_sure (fun r' v' => r' = r ∧ i_Rel k ((nI S), (nI rm), (nI N), f_solved, f_playMode, (nI pl), f_forceBase, f_outRow, f_badRow, f_reachRow, a_linkSet, a_atomSet, a_kinds, a_args, a_parent, a_kids, a_first, a_second, a_depth, a_pins, a_win, a_path, M, a_choice, a_ranks, sets) v') ((nI S), (nI rm), (nI N), f_solved, f_playMode, (nI pl), b_link, b_atom, a_kinds, a_args, a_parent, b_pins, a_path, b_set, b_stand) (nI P) (nI s) (nI n) := by
    intro r h0 h1
    refine br_f g0 (br_f g1 (zi_posY hI (fun _ _ _ _ _ _ _ => br_f (by decide) ?_) (fun hno => absurd ⟨s, n, hs, hn, rfl, rfl, hc⟩ hno)))
    rw [nI_1]
    refine zy_evaluate (μ := P + 1) (by omega) (zi_YC hI hc) (fun x set st hev hoks => ⟨zi_in (by omega) (by omega), ?_⟩)
    rw [zi_c (by omega), zb_sh _ (by omega)]
    have t2 := pg_T2 (zi_St hI hc) hN hSS.2 hP (x := x) (y := (zy_sv set, zy_sv st)) (by
      unfold zy_Ev at hev
      have : zy_om (zc_own a_kinds a_args a_atomSet) (zc_lg a_kinds a_args a_linkSet a_pins) (P + 1) = pg_o1 (zc_own a_kinds a_args a_atomSet) (zc_lg a_kinds a_args a_linkSet a_pins) P := if_neg (by omega)
      rw [this] at hev
      exact hev) hp
    have t2' : (P = 0 ↔ bt (set n) s = true) ↔ ¬ pg_bad N S (zc_nx a_kinds a_first a_second) (zc_lg a_kinds a_args a_linkSet a_pins) (zc_own a_kinds a_args a_atomSet) (zc_bk a_kinds) P (n, s) := t2
    have rel : i_Rel k ((nI S), (nI rm), (nI N), f_solved, f_playMode, (nI pl), f_forceBase, f_outRow, f_badRow, f_reachRow, a_linkSet, a_atomSet, a_kinds, a_args, a_parent, a_kids, a_first, a_second, a_depth, a_pins, a_win, a_path, M, a_choice, a_ranks, sets) ((nI S), (nI rm), (nI N), f_solved, f_playMode, (nI pl), b_link, b_atom, a_kinds, a_args, a_parent, b_pins, a_path, set, st) := zr_in hI
    have hp2 : P = 0 ∨ P = 1 := by omega
    rcases hp2 with e | e
    · subst e
      by_cases hb : bt (set n) s = true
      · rw [if_pos hb]
        exact nm_e (br_t rfl ⟨(h1 (t2'.mp ⟨fun _ => hb, fun _ => rfl⟩)).symm, rel⟩)
      · rw [if_neg hb]
        refine nm_e (br_t rfl ⟨(h0 (Classical.byContradiction fun z => hb ((t2'.mpr z).mp rfl))).symm, rel⟩)
    · subst e
      by_cases hb : bt (set n) s = true
      · rw [if_pos hb]
        refine nm_e (br_f (by decide) ⟨(h0 (Classical.byContradiction fun z => absurd ((t2'.mpr z).mpr hb) (by decide))).symm, rel⟩)
      · rw [if_neg hb]
        exact nm_e (br_f (by decide) ⟨(h1 (t2'.mp ⟨fun z => absurd z (by decide), fun z => absurd z hb⟩)).symm, rel⟩)
  by_cases hz : bt (sets (238 + n)) s = true
  · exact br_f (fun z => (zb_sh0 _ (by omega)).mp z hz) (toY 0 (fun _ => rfl) (fun z => absurd (ebad.mp (hbb.mp hz)) z))
  · exact br_t ((zb_sh0 _ (by omega)).mpr hz) (toY 1 (fun z => absurd (hbb.mpr (ebad.mpr z)) hz) (fun _ => rfl))
end
theorem i_vc_solve {k : Nat} {u : SX} {v : SY} (I : i_Rel k u v) (hk : k + 5 ≤ 2562) : wpX_solve (fun r u' => wpY_solve (fun r' v' => r' = r ∧ i_Rel (k + 5) u' v') v) u :=
  zr_el (P := fun u v => wpX_solve (fun r u' => wpY_solve (fun r' v' => r' = r ∧ i_Rel (k + 5) u' v') v) u) (fun _ _ _ _ _ _ _ _ _ _ _ _ _ _ _ _ _ _ _ _ _ _ _ _ _ _ _ _ _ _ _ hI => zi_solve hI) I
theorem i_vc_value {k : Nat} {u : SX} {v : SY} (I : i_Rel k u v) (hk : k + 5 ≤ 2562) (v1 : Int32) : wpX_value (fun r => wpY_value (fun r' v' => r' = r ∧ i_Rel (k + 5) u v') v v1) u v1 :=
  zr_el (P := fun u v => wpX_value (fun r => wpY_value (fun r' v' => r' = r ∧ i_Rel (k + 5) u v') v v1) u v1) (fun _ _ _ _ _ _ _ _ _ _ _ _ _ _ _ _ _ _ _ _ _ _ _ _ _ _ _ _ _ _ _ hI => zi_value hI v1) I
theorem i_vc_sure {k : Nat} {u : SX} {v : SY} (I : i_Rel k u v) (hk : k + 5 ≤ 2562) (v1 : Int32) (v2 : Int32) (v3 : Int32) : wpX_sure (fun r u' => wpY_sure (fun r' v' => r' = r ∧ i_Rel (k + 5) u' v') v v1 v2 v3) u v1 v2 v3 :=
  zr_el (P := fun u v => wpX_sure (fun r u' => wpY_sure (fun r' v' => r' = r ∧ i_Rel (k + 5) u' v') v v1 v2 v3) u v1 v2 v3) (fun _ _ _ _ _ _ _ _ _ _ _ _ _ _ _ _ _ _ _ _ _ _ _ _ _ _ _ _ _ _ _ hI => zi_sure hI v1 v2 v3) I
end
section
/-! ===== certify ===== -/
theorem zb_s_neg {x y : Int32} {S : Nat} (h : ∀ b, b < S → (bt x b = true ↔ ¬ bt y b = true)) : ∀ j, j ≤ S → j ≤ 32 → zb_s x j + zb_s y j = nI j
  | 0, _, _ => show (0 : Int32) + 0 = nI 0 from by decide
  | j + 1, hj, h32 => by
    have ih := zb_s_neg h j (by omega) (by omega)
    show (zb_s x j + ((x >>> (nI j &&& 31)) &&& 1)) + (zb_s y j + ((y >>> (nI j &&& 31)) &&& 1)) = nI (j + 1)
    have hb := h j (by omega)
    rw [zb_sh x (by omega), zb_sh y (by omega)]
    have re : ∀ a b c d : Int32, (a + b) + (c + d) = (a + c) + (b + d) := by intros; grind
    rw [re, ih]
    by_cases z : bt y j = true
    · rw [if_pos z, if_neg (fun w => hb.mp w z), ← nI_1]
      rfl
    · rw [if_neg z, if_pos (hb.mpr z), ← nI_1]
      rfl
theorem zsum_neg {f g : Nat → Int32} {S : Nat} : ∀ n, (∀ i, i < n → f i + g i = nI S) → zsum f n + zsum g n = nI (S * n)
  | 0, _ => by rw [Nat.mul_zero]; rfl
  | n + 1, h => by
    have ih := zsum_neg n (fun i hi => h i (by omega))
    show (zsum f n + f n) + (zsum g n + g n) = nI (S * (n + 1))
    have re : ∀ a b c d : Int32, (a + b) + (c + d) = (a + c) + (b + d) := by intros; grind
    rw [re, ih, h n (by omega), nI_add, Nat.mul_succ]
section
variable {N S rm pl : Nat} {f_solved f_playMode f_forceBase f_outRow f_badRow f_reachRow : Int32} {a_linkSet a_atomSet a_kinds a_args a_parent a_kids a_first a_second a_depth a_pins a_win a_path a_mv a_choice a_ranks a_sets b_link b_atom b_pins b_set b_stand : Nat → Int32}
theorem zi_csum {post : Int32 → SX → Prop} {T : Int32} (hN : N ≤ 14) (K : post (T - zsum (fun n => zb_s (a_sets (238 + n)) 5) N) ((nI S), (nI rm), (nI N), f_solved, f_playMode, (nI pl), f_forceBase, f_outRow, f_badRow, f_reachRow, a_linkSet, a_atomSet, a_kinds, a_args, a_parent, a_kids, a_first, a_second, a_depth, a_pins, a_win, a_path, a_mv, a_choice, a_ranks, a_sets)) : ∃ n, wX_certify_48 post (nI S) (nI rm) (nI N) f_solved f_playMode (nI pl) f_forceBase f_outRow f_badRow f_reachRow a_linkSet a_atomSet a_kinds a_args a_parent a_kids a_first a_second a_depth a_pins a_win a_path a_mv a_choice a_ranks a_sets n T 0 := by
  have main : ∀ d j, j + d = N → wX_certify_48 post (nI S) (nI rm) (nI N) f_solved f_playMode (nI pl) f_forceBase f_outRow f_badRow f_reachRow a_linkSet a_atomSet a_kinds a_args a_parent a_kids a_first a_second a_depth a_pins a_win a_path a_mv a_choice a_ranks a_sets (d + 1) (T - zsum (fun n => zb_s (a_sets (238 + n)) 5) j) (nI j) := by
    intro d
    induction d with
    | zero =>
      intro j hj
      have e : j = N := by omega
      subst e
      exact br_t (nI_le (Nat.le_refl _) (by omega)) K
    | succ d ih =>
      intro j hj
      refine br_f (nI_ge (by omega) (by omega)) ?_
      rw [show (238 : Int32) + nI j = nI (238 + j) from nI_add 238 j, zi_c (by omega)]
      refine ⟨zi_in (by omega) (by omega), zx_bits (nm_r ?_ (nm_r (nI_1 j) (ih (j + 1) (by omega))))⟩
      show T - zsum (fun n => zb_s (a_sets (238 + n)) 5) j - zb_s (a_sets (238 + j)) 5 = T - (zsum (fun n => zb_s (a_sets (238 + n)) 5) j + zb_s (a_sets (238 + j)) 5)
      have re : ∀ a b c : Int32, a - b - c = a - (b + c) := by intros; grind
      exact re _ _ _
  have := main N 0 (by omega)
  rw [show T - zsum (fun n => zb_s (a_sets (238 + n)) 5) 0 = T from Int32.sub_zero T] at this
  exact ⟨N + 1, this⟩
theorem zi_certify {k : Nat} (hI : zr_I N S rm pl f_solved f_playMode a_linkSet a_atomSet a_kinds a_args a_parent a_kids a_first a_second a_depth a_pins a_win a_path a_choice b_link b_atom b_pins) (v1 : Int32) : wpX_certify (fun r u' => wpY_certify (fun r' v' => r' = r ∧ i_Rel k u' v') ((nI S), (nI rm), (nI N), f_solved, f_playMode, (nI pl), b_link, b_atom, a_kinds, a_args, a_parent, b_pins, a_path, b_set, b_stand) v1) ((nI S), (nI rm), (nI N), f_solved, f_playMode, (nI pl), f_forceBase, f_outRow, f_badRow, f_reachRow, a_linkSet, a_atomSet, a_kinds, a_args, a_parent, a_kids, a_first, a_second, a_depth, a_pins, a_win, a_path, a_mv, a_choice, a_ranks, a_sets) v1 := by
  have hI' := hI
  obtain ⟨⟨hSS, hrm, hNr⟩, hF, hL, hA, hPP, hCh, hSv, hPl⟩ := hI'
  have hN := hF.1
  have hS := hSS.2
  have R : i_Rel k ((nI S), (nI rm), (nI N), f_solved, f_playMode, (nI pl), f_forceBase, f_outRow, f_badRow, f_reachRow, a_linkSet, a_atomSet, a_kinds, a_args, a_parent, a_kids, a_first, a_second, a_depth, a_pins, a_win, a_path, a_mv, a_choice, a_ranks, a_sets) ((nI S), (nI rm), (nI N), f_solved, f_playMode, (nI pl), b_link, b_atom, a_kinds, a_args, a_parent, b_pins, a_path, b_set, b_stand) := zr_in hI
  rcases hSv with hsv | ⟨hsv, hc, ⟨ch0, hfc0⟩, hok0⟩
  · exact br_t hsv (br_t hsv ⟨rfl, R⟩)
  have hsn : ¬ f_solved = 0 := by rw [hsv]; decide
  by_cases g0 : v1 < 0
  · exact br_f hsn (br_t g0 (br_f hsn (br_t g0 ⟨rfl, R⟩)))
  by_cases g1 : v1 ≤ 1
  rotate_left
  · exact br_f hsn (br_f g0 (br_f g1 (br_f hsn (br_f g0 (br_f g1 ⟨rfl, R⟩)))))
  obtain ⟨P, hP, rfl⟩ : ∃ P, P < 2 ∧ v1 = nI P := by
    obtain ⟨j, hj, rfl⟩ := nI_of g0
    have := (nI_leI (a := j) (b := 1) hj (by omega)).mp g1
    exact ⟨j, by omega, rfl⟩
  refine br_f hsn (br_f g0 (br_t g1 (zi_load hI hc (fun M hM HM H eM => ?_))))
  have C := zf_C hF hS
  refine zx_decompose C HM H hCh (fun ch ranks sets hfc hok hch => ?_)
  refine zx_restrictTo C HM hP hch (fun M' hM' => ?_)
  -- the game that is left
  have own3 : ∀ p, (zc_own a_kinds a_args a_atomSet) p < 3 := zx_own_lt a_kinds a_args a_atomSet
  have r1 : ∀ p, pg_D N S p → (zc_own a_kinds a_args a_atomSet) p ≠ P → ∀ m, zc_mv M' p m ↔ zc_mv M p m := by
    rintro ⟨n, s⟩ hp ho m
    show bt (M' (n * 5 + s)) m = true ↔ bt (M (n * 5 + s)) m = true
    rw [(hM' n s hp.1 hp.2).2 ho]
  have r2 : ∀ p, pg_D N S p → (zc_own a_kinds a_args a_atomSet) p = P → (∀ m, ¬ zc_mv M p m) → ∀ m, ¬ zc_mv M' p m := by
    rintro ⟨n, s⟩ hp ho hst m
    rcases (hM' n s hp.1 hp.2).1 ho with ⟨_, e⟩ | ⟨f, _, hb, _⟩
    · exact zx_mv0.mp e m
    · exact absurd hb (hst f)
  have r3 : ∀ p, pg_D N S p → (zc_own a_kinds a_args a_atomSet) p = P → (∃ m, zc_mv M p m) → ∃ f, zc_mv M p f ∧ ((P = 0 ↔ zc_R N S sets 224 p) → f = zc_ch ch p) ∧ ∀ m, zc_mv M' p m ↔ m = f := by
    rintro ⟨n, s⟩ hp ho ⟨m0, hm0⟩
    rcases (hM' n s hp.1 hp.2).1 ho with ⟨e, _⟩ | ⟨f, hf5, hb, hcond, e⟩
    · exact absurd hm0 (zx_mv0.mp e m0)
    · refine ⟨f, hb, fun hw => ?_, fun m => ?_⟩
      · have hmc := ((hfc P hP).2.1 (n, s) ⟨hp, hw⟩ ho).1
        exact hcond (hw.trans ⟨fun z => z.2, fun z => ⟨hp, z⟩⟩) hmc
      · show bt (M' (n * 5 + s)) m = true ↔ m = f
        rw [e]
        rcases Nat.lt_or_ge m 32 with z | z
        · rw [zb_one (by omega) z, decide_eq_true_iff]
        · rw [b_big z]; exact ⟨fun w => absurd w Bool.false_ne_true, fun w => by omega⟩
  have sub : ∀ p m, pg_D N S p → zc_mv M' p m → zc_mv M p m := by
    intro p m hp hm
    rcases Classical.em ((zc_own a_kinds a_args a_atomSet) p = P) with o | o
    · rcases Classical.em (∃ m, zc_mv M p m) with z | z
      · obtain ⟨f, f1, _, f3⟩ := r3 p hp o z
        rw [(f3 m).mp hm]; exact f1
      · exact absurd hm (r2 p hp o (fun m w => z ⟨m, w⟩) m)
    · exact (r1 p hp o m).mp hm
  obtain ⟨HM', H', _⟩ := zi_MSt (lg := zc_mv M') hI hc (fun p m hp hm => (eM p m hp).mp (sub p m hp hm)) (fun p hp ho => (r1 p hp (by omega) 0).mpr ((H.2.2.2.2.2.2.1 p hp ho 0).mpr rfl)) (fun n s _ _ b => Iff.rfl)
  refine zx_markLosing C HM' H' hP (fun sets2 hbad hok2 => nm_e (zi_csum hN ?_))
  have t3 : ∀ p, pg_D N S p → (zc_R N S sets2 238 p ↔ ¬ (P = 0 ↔ zc_R N S sets 224 p)) := fun p hp => (hbad p hp).trans (pg_T3 H hP hfc r1 r2 r3 hp)
  have hfcl : pg_FC N S (zc_nx a_kinds a_first a_second) (zc_lg a_kinds a_args a_linkSet a_pins) (zc_own a_kinds a_args a_atomSet) (zc_bk a_kinds) (zc_R N S sets 224) (zc_ch ch) := pg_FC_mv (fun p m hp => (eM p m hp).symm) hfc
  refine br_f hsn (br_f g0 (br_t g1 (zy_wonBy0 (zi_YC hI hc) (fun x set st hev hoks => ?_))))
  have rel : i_Rel k ((nI S), (nI rm), (nI N), f_solved, f_playMode, (nI pl), f_forceBase, f_outRow, f_badRow, f_reachRow, a_linkSet, a_atomSet, a_kinds, a_args, a_parent, a_kids, a_first, a_second, a_depth, a_pins, a_win, a_path, M', ch, ranks, sets2) ((nI S), (nI rm), (nI N), f_solved, f_playMode, (nI pl), b_link, b_atom, a_kinds, a_args, a_parent, b_pins, a_path, set, st) := zr_in ⟨⟨hSS, hrm, hNr⟩, hF, hL, hA, hPP, hch, Or.inr ⟨hsv, hc, ⟨ch0, hfc0⟩, hok0⟩, hPl⟩
  have ew : ∀ n b, n < N → b < S → (bt (set n) b = true ↔ zc_R N S sets 224 (n, b)) := fun n b hn hb => zi_win hI hc hfcl hev (p := (n, b)) ⟨hn, hb⟩
  have eb : ∀ n b, n < N → b < S → (bt (sets2 (238 + n)) b = true ↔ ¬ (P = 0 ↔ zc_R N S sets 224 (n, b))) := fun n b hn hb => ⟨fun z => (t3 (n, b) ⟨hn, hb⟩).mp ⟨⟨hn, hb⟩, z⟩, fun z => ((t3 (n, b) ⟨hn, hb⟩).mpr z).2⟩
  have ok2' : ∀ n, n < N → ∀ b, bt (sets2 (238 + n)) b = true → b < S := fun n hn b hb => by
    rcases Nat.lt_or_ge b S with z | z
    · exact z
    · exact absurd hb (hok2 n b hn z)
  have hp2 : P = 0 ∨ P = 1 := by omega
  rcases hp2 with e | e
  · subst e
    refine br_t rfl ⟨?_, rel⟩
    have hneg : zsum (fun n => zb_s (sets2 (238 + n)) 5) N + zsum (fun n => zb_s (set n) S) N = nI (S * N) := by
      refine zsum_neg N (fun n hn => ?_)
      show zb_s (sets2 (238 + n)) 5 + zb_s (set n) S = nI S
      rw [zb_s5 hS (ok2' n hn)]
      refine zb_s_neg (S := S) (fun b hb => ?_) S (Nat.le_refl _) (by omega)
      rw [eb n b hn hb, ew n b hn hb]
      exact not_congr ⟨fun z => z.mp rfl, fun z => ⟨fun _ => z, fun _ => rfl⟩⟩
    have e2 : nI S * nI N = nI (S * N) := pk_mul S N
    rw [e2, ← hneg]
    have re : ∀ a b : Int32, b = a + b - a := by intros; grind
    exact re _ _
  · subst e
    refine br_f (by decide) ⟨?_, rel⟩
    have : zsum (fun n => zb_s (set n) S) N = zsum (fun n => zb_s (sets2 (238 + n)) 5) N := by
      refine zsum_congr N (fun n hn => ?_)
      have : set n = sets2 (238 + n) := zr_mask (fun b hb => hoks n b hn hb) (ok2' n hn) (fun b hb => by
        rw [ew n b hn hb, eb n b hn hb]
        exact ⟨fun z w => absurd (w.mpr z) (by decide), fun z => Classical.byContradiction fun w => z ⟨fun u => absurd u (by decide), fun u => absurd u w⟩⟩)
      show zb_s (set n) S = zb_s (sets2 (238 + n)) 5
      rw [this, zb_s5 hS (ok2' n hn)]
    rw [this]
end
theorem i_vc_certify {k : Nat} {u : SX} {v : SY} (I : i_Rel k u v) (hk : k + 5 ≤ 2562) (v1 : Int32) : wpX_certify (fun r u' => wpY_certify (fun r' v' => r' = r ∧ i_Rel (k + 5) u' v') v v1) u v1 :=
  zr_el (P := fun u v => wpX_certify (fun r u' => wpY_certify (fun r' v' => r' = r ∧ i_Rel (k + 5) u' v') v v1) u v1) (fun _ _ _ _ _ _ _ _ _ _ _ _ _ _ _ _ _ _ _ _ _ _ _ _ _ _ _ _ _ _ _ hI => zi_certify hI v1) I
end
section
/-! ===== advise: the keeping move ===== -/
/-- the game where v has the move m alone -/
abbrev zk_mv (lg : pg_M) (v : pg_P) (m : Nat) : pg_M := fun p j => (p = v ∧ j = m) ∨ (p ≠ v ∧ lg p j)
theorem zk_e1 (lg : pg_M) (v : pg_P) (m : Nat) : ∀ j, zk_mv lg v m v j ↔ j = m := fun j => ⟨fun z => z.elim (fun w => w.2) (fun w => absurd rfl w.1), fun z => Or.inl ⟨rfl, z⟩⟩
theorem zk_e2 (lg : pg_M) (v : pg_P) (m : Nat) : ∀ p j, p ≠ v → (zk_mv lg v m p j ↔ lg p j) := fun p j hp => ⟨fun z => z.elim (fun w => absurd w.1 hp) (fun w => w.2), fun z => Or.inr ⟨hp, z⟩⟩
/-- the move m keeps v won by P -/
abbrev zk_G (N S : Nat) (nx : pg_P → Nat → pg_P) (lg : pg_M) (own : pg_P → Nat) (bk : Nat → Nat → Prop) (P : Nat) (v : pg_P) (m : Nat) : Prop :=
  lg v m ∧ ∃ W ch, pg_FC N S nx (zk_mv lg v m) own bk W ch ∧ (P = 0 ↔ W v)
theorem zb_who (x : Int32) {s P : Nat} (hs : s < 32) (hP : P < 2) : ((x >>> (nI s &&& 31)) &&& 1 = nI P) ↔ ¬ (P = 0 ↔ bt x s = true) := by
  rw [zb_sh _ hs]
  have hp2 : P = 0 ∨ P = 1 := by omega
  split
  · rename_i w
    rcases hp2 with e | e
    · subst e; exact ⟨fun z => absurd z (by decide), fun z => absurd ⟨fun _ => w, fun _ => rfl⟩ z⟩
    · subst e; exact ⟨fun _ z => absurd (z.mpr w) (by decide), fun _ => rfl⟩
  · rename_i w
    rcases hp2 with e | e
    · subst e; exact ⟨fun _ z => absurd (z.mp rfl) w, fun _ => rfl⟩
    · subst e; exact ⟨fun z => absurd z (by decide), fun z => absurd ⟨fun u => absurd u (by decide), fun u => absurd u w⟩ z⟩
theorem zu_back (a : Nat → Int32) (i : Nat) (x : Int32) : upd (upd a i x) i (a i) = a := by
  funext j
  unfold upd
  split
  · rename_i e; rw [e]
  · rfl
section
variable {N S : Nat} {nx : pg_P → Nat → pg_P} {vr bd : Nat → Prop} {dep : Nat → Nat} {anc : Nat → Nat → Prop} {lg : pg_M} {own : pg_P → Nat} {bk : Nat → Nat → Prop}
theorem zk_St (H : pg_St N S nx vr bd dep anc lg own bk) {v : pg_P} {m : Nat} (hv : own v ≠ 2) (hm : lg v m) : pg_St N S nx vr bd dep anc (zk_mv lg v m) own bk := by
  refine pg_St_sub H (fun p j _ hj => ?_) (fun _ _ => Iff.rfl) (fun p hp ho => Or.inr ⟨fun e => hv (by rw [← e]; exact ho), (H.2.2.2.2.2.2.1 p hp ho 0).mpr rfl⟩) H.2.2.2.2.2.2.2.2.2.2
  rcases hj with z | z
  · rw [z.1, z.2]; exact hm
  · exact z.2
theorem zk_uq (H : pg_St N S nx vr bd dep anc lg own bk) {P : Nat} {v : pg_P} {m : Nat} (hv : own v ≠ 2) (hd : pg_D N S v) (hm : lg v m) {W : pg_S} {ch : pg_P → Nat} (h : pg_FC N S nx (zk_mv lg v m) own bk W ch) : zk_G N S nx lg own bk P v m ↔ (P = 0 ↔ W v) := by
  constructor
  · rintro ⟨_, W', ch', h', hw⟩
    exact hw.trans (pg_FC_uq (zk_St H hv hm) h' h hd)
  · intro hw
    exact ⟨hm, W, ch, h, hw⟩
/-- there is a keeping move -/
theorem zk_ex (H : pg_St N S nx vr bd dep anc lg own bk) (hN : N ≤ 14) (hS : S ≤ 5) {P : Nat} (hP : P < 2) {v : pg_P} (hv : own v = P) (hd : pg_D N S v) {W : pg_S} {ch : pg_P → Nat} (h : pg_FC N S nx lg own bk W ch) (hw : P = 0 ↔ W v) : ∃ m, zk_G N S nx lg own bk P v m ∧ ∀ j, j < m → ¬ zk_G N S nx lg own bk P v j := by
  refine pg_least _ ⟨ch v, ?_⟩
  have hm := ((h P hP).2.1 v ⟨hd, hw⟩ hv).1
  have St' := zk_St (m := ch v) H (by omega) hm
  obtain ⟨W', ch', h'⟩ := pg_FC_ex St' hN hS
  exact ⟨hm, W', ch', h', pg_T4 St' hP hv (zk_e1 lg v _) (zk_e2 lg v _) h rfl hd hw h'⟩
/-- a keeping move leads to what its owner wins -/
theorem zk_next (H : pg_St N S nx vr bd dep anc lg own bk) {P : Nat} (hP : P < 2) {v : pg_P} {m : Nat} (hv : own v = P) (hd : pg_D N S v) {W : pg_S} {ch : pg_P → Nat} (h : pg_FC N S nx lg own bk W ch) (hg : zk_G N S nx lg own bk P v m) : P = 0 ↔ W (nx v m) := by
  obtain ⟨hm, W', ch', h', hw⟩ := hg
  have c := (h' P hP).2.1 v ⟨hd, hw⟩ hv
  have e : ch' v = m := (zk_e1 lg v m _).mp c.1
  rw [e] at c
  exact pg_pin_mono H hP hv hm (zk_e1 lg v m) (zk_e2 lg v m) h h' c.2.1 c.2.2
/-- pinned, nothing changes -/
theorem zk_keep (H : pg_St N S nx vr bd dep anc lg own bk) {P : Nat} (hP : P < 2) {v : pg_P} {m : Nat} (hv : own v = P) (hd : pg_D N S v) {W : pg_S} {ch : pg_P → Nat} (h : pg_FC N S nx lg own bk W ch) (hg : zk_G N S nx lg own bk P v m) : ∃ c, pg_FC N S nx (zk_mv lg v m) own bk W c := by
  obtain ⟨hm, W', ch', h', hw⟩ := hg
  exact pg_T5 H hP hv hm (zk_e1 lg v m) (zk_e2 lg v m) h h' hd hw
end
section
variable {N S rm pl : Nat} {f_solved f_playMode f_forceBase f_outRow f_badRow f_reachRow : Int32} {a_linkSet a_atomSet a_kinds a_args a_parent a_kids a_first a_second a_depth a_pins a_win a_path a_mv a_choice a_ranks a_sets b_link b_atom b_pins b_set b_stand : Nat → Int32}
/-- the game with a pin is the game with one move there -/
theorem zk_pin {n s m : Nat} (hS : S ≤ 5) (hn : n < N) (hs : s < S) (hm5 : m < 5) (hm : zc_am a_kinds a_args a_linkSet (n, s) m) : ∀ p j, pg_D N S p → (zc_lg a_kinds a_args a_linkSet (upd a_pins (n * 5 + s) (nI m)) p j ↔ zk_mv (zc_lg a_kinds a_args a_linkSet a_pins) (n, s) m p j) := by
  intro p j hp
  by_cases e : p = (n, s)
  · subst e
    rw [zk_e1]
    constructor
    · rintro ⟨ha, z | z⟩
      · rw [pk_us] at z
        exact absurd z (fun u => absurd (u ▸ nI_pos (n := m) (by omega) : ¬ (-2 : Int32) < 0) (by decide))
      · rw [pk_us] at z
        have hj5 : j < 2 ^ 31 := by
          rcases ha with w | w | w
          · omega
          · rcases w.2 with u | u
            · have := zb_lt u.2; omega
            · have := zb_lt u.2; omega
          · omega
        exact ((nI_eq (by omega) hj5).mp z).symm
    · intro z
      rw [z]
      exact ⟨hm, Or.inr pk_us⟩
  · rw [zk_e2 _ _ _ p j e]
    have hne : p.1 * 5 + p.2 ≠ n * 5 + s := fun z => e (zx_idx (N := N) (S := S) hS hp ⟨hn, hs⟩ z)
    unfold zc_lg
    rw [pk_un hne]
theorem zk_36 {n s m : Nat} (hI : zr_I N S rm pl f_solved f_playMode a_linkSet a_atomSet a_kinds a_args a_parent a_kids a_first a_second a_depth a_pins a_win a_path a_choice b_link b_atom b_pins) (hn : n < N) (hm : zc_am a_kinds a_args a_linkSet (n, s) m) (ho : (zc_own a_kinds a_args a_atomSet) (n, s) ≠ 2) : 3 ≤ (a_kinds n).toInt ∧ (a_kinds n).toInt ≤ 6 := by
  have h7 := mt (zf_own2 (At := a_atomSet) (s := s) hI.2.1.2.1 hn).mpr ho
  rcases hm with z | z | z
  · rcases z.1 with w | w <;> (change a_kinds n = _ at w; rw [w]; decide)
  · rcases z.1 with w | w <;> (change a_kinds n = _ at w; rw [w]; decide)
  · exact absurd z.1 h7
/-- X: where the move leads -/
theorem zx_next {post : Int32 → Int32 → Prop} {n s m : Nat} (hI : zr_I N S rm pl f_solved f_playMode a_linkSet a_atomSet a_kinds a_args a_parent a_kids a_first a_second a_depth a_pins a_win a_path a_choice b_link b_atom b_pins) (hn : n < N) (h : post (nI ((zc_nx a_kinds a_first a_second) (n, s) m).2) (nI ((zc_nx a_kinds a_first a_second) (n, s) m).1)) (hm : m < 5) : wpX_nextState (fun r1 => wpX_nextNode (fun r2 => post r1 r2) ((nI S), (nI rm), (nI N), f_solved, f_playMode, (nI pl), f_forceBase, f_outRow, f_badRow, f_reachRow, a_linkSet, a_atomSet, a_kinds, a_args, a_parent, a_kids, a_first, a_second, a_depth, a_pins, a_win, a_path, a_mv, a_choice, a_ranks, a_sets) (nI n) (nI m)) ((nI S), (nI rm), (nI N), f_solved, f_playMode, (nI pl), f_forceBase, f_outRow, f_badRow, f_reachRow, a_linkSet, a_atomSet, a_kinds, a_args, a_parent, a_kids, a_first, a_second, a_depth, a_pins, a_win, a_path, a_mv, a_choice, a_ranks, a_sets) (nI s) (nI n) (nI m) := by
  have hN := hI.2.1.1
  obtain ⟨c, hc, ec⟩ := (hI.2.1.2.2.2.2.2.1 n hn).1
  obtain ⟨g, hg, eg⟩ := (hI.2.1.2.2.2.2.2.1 n hn).2
  have i14 : vp_in (nI n) 14 := zi_in (by omega) (by omega)
  have fst : ∀ r1, post r1 (a_first n) → wX_nextNode_29 (fun r2 => post r1 r2) (nI n) (nI S) (nI rm) (nI N) f_solved f_playMode (nI pl) f_forceBase f_outRow f_badRow f_reachRow a_linkSet a_atomSet a_kinds a_args a_parent a_kids a_first a_second a_depth a_pins a_win a_path a_mv a_choice a_ranks a_sets := by
    intro r1 h
    refine br_t rfl ⟨i14, ?_⟩
    rw [zi_c (by omega)]; exact h
  have snd : ∀ r1, post r1 (a_second n) → wX_nextNode_25 (fun r2 => post r1 r2) (nI n) (nI S) (nI rm) (nI N) f_solved f_playMode (nI pl) f_forceBase f_outRow f_badRow f_reachRow a_linkSet a_atomSet a_kinds a_args a_parent a_kids a_first a_second a_depth a_pins a_win a_path a_mv a_choice a_ranks a_sets := by
    intro r1 h
    refine br_f (by decide) ⟨i14, ?_⟩
    rw [zi_c (by omega)]; exact h
  have ne : ∀ {i j : Int32}, i ≠ j → a_kinds n = i → ¬ a_kinds n = j := fun hij e e' => hij (e.symm.trans e')
  -- the node, whatever the state
  have node : ∀ r1, (if m = 1 ∧ (a_kinds n = 3 ∨ a_kinds n = 4) then post r1 (a_second n) else post r1 (a_first n)) → wpX_nextNode (fun r2 => post r1 r2) ((nI S), (nI rm), (nI N), f_solved, f_playMode, (nI pl), f_forceBase, f_outRow, f_badRow, f_reachRow, a_linkSet, a_atomSet, a_kinds, a_args, a_parent, a_kids, a_first, a_second, a_depth, a_pins, a_win, a_path, a_mv, a_choice, a_ranks, a_sets) (nI n) (nI m) := by
    intro r1 h
    by_cases e : m = 1
    · subst e
      refine br_t rfl ⟨i14, ?_⟩
      rw [zi_c (by omega)]
      by_cases k3 : a_kinds n = 3
      · rw [if_pos ⟨rfl, Or.inl k3⟩] at h
        exact br_t k3 (snd r1 h)
      · refine br_f k3 ⟨i14, ?_⟩
        by_cases k4 : a_kinds n = 4
        · rw [if_pos ⟨rfl, Or.inr k4⟩] at h
          exact br_t k4 (snd r1 h)
        · rw [if_neg (fun z => z.2.elim k3 k4)] at h
          exact br_f k4 (fst r1 h)
    · rw [if_neg (fun z => e z.1)] at h
      exact br_f (fun z => e ((nI_eq (b := 1) (by omega) (by omega)).mp z)) (fst r1 h)
  unfold wpX_nextState
  refine zx_modal (by omega) (fun hk => br_f (by decide) (node _ ?_)) (fun hk => br_t rfl (node _ ?_))
  · rw [if_neg (fun z => by rcases hk with k | k <;> rcases z.2 with w | w <;> exact ne (by decide) k w)]
    rw [zc_nx_d hk] at h
    rw [ec] at h ⊢
    rw [zi_c (by omega)] at h
    exact h
  · by_cases e : m = 1 ∧ (a_kinds n = 3 ∨ a_kinds n = 4)
    · rw [if_pos e]
      rw [zc_nx_1 e.2 e.1, eg, zi_c (by omega)] at h
      rw [eg]; exact h
    · rw [if_neg e]
      rw [zc_nx_0 hk e, ec, zi_c (by omega)] at h
      rw [ec]; exact h
theorem zx_keeps {post : Int32 → SX → Prop} {n s m P : Nat} (hI : zr_I N S rm pl f_solved f_playMode a_linkSet a_atomSet a_kinds a_args a_parent a_kids a_first a_second a_depth a_pins a_win a_path a_choice b_link b_atom b_pins) (hsv : f_solved = 1) (hc : zf_Cpl N a_kinds a_parent) (hn : n < N) (hs : s < S) (hP : P < 2) (ho : (zc_own a_kinds a_args a_atomSet) (n, s) = P) (hm : zc_lg a_kinds a_args a_linkSet a_pins (n, s) m) {W : pg_S} {ch0 : pg_P → Nat} (hfc : pg_FC N S (zc_nx a_kinds a_first a_second) (zc_lg a_kinds a_args a_linkSet a_pins) (zc_own a_kinds a_args a_atomSet) (zc_bk a_kinds) (zy_sv a_win) ch0) (hch : ∀ i, ∃ k, k < 5 ∧ a_choice i = nI k)
    (h1 : zk_G N S (zc_nx a_kinds a_first a_second) (zc_lg a_kinds a_args a_linkSet a_pins) (zc_own a_kinds a_args a_atomSet) (zc_bk a_kinds) P (n, s) m → ∀ M ch ranks sets, (∀ i, ∃ k, k < 5 ∧ ch i = nI k) → post 1 ((nI S), (nI rm), (nI N), f_solved, f_playMode, (nI pl), f_forceBase, f_outRow, f_badRow, f_reachRow, a_linkSet, a_atomSet, a_kinds, a_args, a_parent, a_kids, a_first, a_second, a_depth, a_pins, a_win, a_path, M, ch, ranks, sets))
    (h0 : ¬ zk_G N S (zc_nx a_kinds a_first a_second) (zc_lg a_kinds a_args a_linkSet a_pins) (zc_own a_kinds a_args a_atomSet) (zc_bk a_kinds) P (n, s) m → ∀ M ch ranks sets, (∀ i, ∃ k, k < 5 ∧ ch i = nI k) → post 0 ((nI S), (nI rm), (nI N), f_solved, f_playMode, (nI pl), f_forceBase, f_outRow, f_badRow, f_reachRow, a_linkSet, a_atomSet, a_kinds, a_args, a_parent, a_kids, a_first, a_second, a_depth, a_pins, a_win, a_path, M, ch, ranks, sets)) :
    wpX_keeps post ((nI S), (nI rm), (nI N), f_solved, f_playMode, (nI pl), f_forceBase, f_outRow, f_badRow, f_reachRow, a_linkSet, a_atomSet, a_kinds, a_args, a_parent, a_kids, a_first, a_second, a_depth, a_pins, a_win, a_path, a_mv, a_choice, a_ranks, a_sets) (nI s) (nI n) (nI m) (nI P) := by
  have hN := hI.2.1.1
  have hS2 := hI.1.1.1
  have hS := hI.1.1.2
  have hm5 := zc_am_lt hS2 hS hI.2.2.1.1 hm.1
  have H := zi_St hI hc
  have hd : pg_D N S (n, s) := ⟨hn, hs⟩
  have hdn := H.1 (n, s) m hd hm
  have hdn1 : ((zc_nx a_kinds a_first a_second) (n, s) m).1 < 14 := Nat.lt_of_lt_of_le hdn.1 hN
  have hdn2 : ((zc_nx a_kinds a_first a_second) (n, s) m).2 < 5 := Nat.lt_of_lt_of_le hdn.2 hS
  unfold wpX_keeps
  refine zx_next hI hn ?_ hm5
  refine And.intro (zi_in hdn1 (by omega)) ?_
  rw [zi_c (by omega)]
  by_cases hw : (P = 0 ↔ bt (a_win ((zc_nx a_kinds a_first a_second) (n, s) m).1) ((zc_nx a_kinds a_first a_second) (n, s) m).2 = true)
  · refine br_f (fun z => (zb_who _ (by omega) hP).mp z hw) (br_f (by decide) ?_)
    refine zi_load hI hc (fun M hM _ _ _ => ?_)
    rw [zi_5, zi_c (by omega)]
    refine ⟨zi_in (by omega) (by omega), nm_e ?_⟩
    have hM' : ∀ n' s', n' < N → s' < S → ∀ b, bt (upd M (n * 5 + s) ((1 : Int32) <<< (nI m &&& 31)) (n' * 5 + s')) b = true ↔ zk_mv (zc_lg a_kinds a_args a_linkSet a_pins) (n, s) m (n', s') b := by
      intro n' s' hn' hs' b
      by_cases e : n' * 5 + s' = n * 5 + s
      · have e1 : n' = n := by omega
        have e2 : s' = s := by omega
        rw [e, pk_us, e1, e2, zk_e1]
        rcases Nat.lt_or_ge b 32 with z | z
        · rw [zb_one (by omega) z, decide_eq_true_iff]
        · rw [b_big z]; exact ⟨fun w => absurd w Bool.false_ne_true, fun w => by omega⟩
      · rw [pk_un e, zk_e2 _ _ _ _ _ (fun z => e (by cases z; rfl)), hM n' s' hn' hs' b]
    obtain ⟨HM2, H2, e2⟩ := zi_MSt (lg := zk_mv (zc_lg a_kinds a_args a_linkSet a_pins) (n, s) m) hI hc (fun p j _ hj => by
      rcases hj with z | z
      · rw [z.1, z.2]; exact hm
      · exact z.2) (fun p hp ho2 => Or.inr ⟨fun z => by rw [z] at ho2; omega, (H.2.2.2.2.2.2.1 p hp ho2 0).mpr rfl⟩) hM'
    refine zx_decompose (zf_C hI.2.1 hS) HM2 H2 hch (fun ch ranks sets hfc2 hok2 hch2 => ?_)
    have hfc3 : pg_FC N S (zc_nx a_kinds a_first a_second) (zk_mv (zc_lg a_kinds a_args a_linkSet a_pins) (n, s) m) (zc_own a_kinds a_args a_atomSet) (zc_bk a_kinds) (zc_R N S sets 224) (zc_ch ch) := pg_FC_mv (fun p j hp => (e2 p j hp).symm) hfc2
    have hg := zk_uq (P := P) H (by omega) hd hm hfc3
    rw [show (224 : Int32) + nI n = nI (224 + n) from nI_add 224 n, zi_c (by omega)]
    refine ⟨zi_in (by omega) (by omega), ?_⟩
    have hb : (P = 0 ↔ bt (sets (224 + n)) s = true) ↔ (P = 0 ↔ zc_R N S sets 224 (n, s)) := by
      have : bt (sets (224 + n)) s = true ↔ zc_R N S sets 224 (n, s) := ⟨fun z => ⟨hd, z⟩, fun z => z.2⟩
      rw [this]
    by_cases hz : (P = 0 ↔ bt (sets (224 + n)) s = true)
    · exact br_f (fun z => (zb_who _ (by omega) hP).mp z hz) (h1 (hg.mpr (hb.mp hz)) _ ch ranks sets hch2)
    · exact br_t ((zb_who _ (by omega) hP).mpr hz) (h0 (fun z => hz (hb.mpr (hg.mp z))) _ ch ranks sets hch2)
  · refine br_t ((zb_who _ (by omega) hP).mpr hw) (br_t rfl (h0 (fun z => hw ?_) a_mv a_choice a_ranks a_sets hch))
    exact zk_next H hP ho hd hfc z
/-- X finds the least keeping move -/
theorem zx_keepingMove {post : Int32 → SX → Prop} {n s P mm : Nat} (hI : zr_I N S rm pl f_solved f_playMode a_linkSet a_atomSet a_kinds a_args a_parent a_kids a_first a_second a_depth a_pins a_win a_path a_choice b_link b_atom b_pins) (hsv : f_solved = 1) (hc : zf_Cpl N a_kinds a_parent) (hn : n < N) (hs : s < S) (hP : P < 2) (ho : (zc_own a_kinds a_args a_atomSet) (n, s) = P) {ch0 : pg_P → Nat} (hfc : pg_FC N S (zc_nx a_kinds a_first a_second) (zc_lg a_kinds a_args a_linkSet a_pins) (zc_own a_kinds a_args a_atomSet) (zc_bk a_kinds) (zy_sv a_win) ch0)
    (hmm : zk_G N S (zc_nx a_kinds a_first a_second) (zc_lg a_kinds a_args a_linkSet a_pins) (zc_own a_kinds a_args a_atomSet) (zc_bk a_kinds) P (n, s) mm) (hleast : ∀ j, j < mm → ¬ zk_G N S (zc_nx a_kinds a_first a_second) (zc_lg a_kinds a_args a_linkSet a_pins) (zc_own a_kinds a_args a_atomSet) (zc_bk a_kinds) P (n, s) j)
    (K : ∀ M ch ranks sets, (∀ i, ∃ k, k < 5 ∧ ch i = nI k) → post (nI mm) ((nI S), (nI rm), (nI N), f_solved, f_playMode, (nI pl), f_forceBase, f_outRow, f_badRow, f_reachRow, a_linkSet, a_atomSet, a_kinds, a_args, a_parent, a_kids, a_first, a_second, a_depth, a_pins, a_win, a_path, M, ch, ranks, sets)) : wpX_keepingMove post ((nI S), (nI rm), (nI N), f_solved, f_playMode, (nI pl), f_forceBase, f_outRow, f_badRow, f_reachRow, a_linkSet, a_atomSet, a_kinds, a_args, a_parent, a_kids, a_first, a_second, a_depth, a_pins, a_win, a_path, a_mv, a_choice, a_ranks, a_sets) (nI s) (nI n) := by
  have hN := hI.2.1.1
  have hS2 := hI.1.1.1
  have hS := hI.1.1.2
  have hmm5 := zc_am_lt hS2 hS hI.2.2.1.1 hmm.1.1
  refine nm_r (zi_5 n s) ⟨zi_in (by omega) (by omega), ?_⟩
  rw [zi_c (by omega)]
  rcases hI.2.2.2.2.1.1 n s hn hs with e | ⟨k, e, _, hak⟩
  · refine br_t (by rw [e]; decide) (zx_own (zf_C hI.2.1 hS) hn hs ?_)
    rw [ho]
    refine zx_legal hI.2.1.2.1 hI.2.2.2.2.1.1 hI.2.2.1.1 hN hS2 hS hn hs (fun x hx => ⟨6, ?_⟩)
    have main : ∀ d i, i + d = 5 → i ≤ mm → ∀ M ch ranks sets, (∀ i, ∃ k, k < 5 ∧ ch i = nI k) → wX_keepingMove_41 post (nI s) (nI n) (nI P) x (d + 1) (nI i) (nI S) (nI rm) (nI N) f_solved f_playMode (nI pl) f_forceBase f_outRow f_badRow f_reachRow a_linkSet a_atomSet a_kinds a_args a_parent a_kids a_first a_second a_depth a_pins a_win a_path M ch ranks sets := by
      intro d
      induction d with
      | zero => intro i hi him; omega
      | succ d ih =>
        intro i hi him M ch ranks sets hch
        refine br_f (nI_ge (b := 5) (by omega) (by decide)) ?_
        by_cases hb : bt x i = true
        · have hlg := (hx i).mp hb
          refine br_f (fun z => (zb_sh0 _ (by omega)).mp z hb) ?_
          have hI2 : zr_I N S rm pl f_solved f_playMode a_linkSet a_atomSet a_kinds a_args a_parent a_kids a_first a_second a_depth a_pins a_win a_path ch b_link b_atom b_pins := ⟨hI.1, hI.2.1, hI.2.2.1, hI.2.2.2.1, hI.2.2.2.2.1, hch, hI.2.2.2.2.2.2⟩
          refine zx_keeps (W := zy_sv a_win) hI2 hsv hc hn hs hP ho hlg hfc hch (fun hg M' ch' ranks' sets' hch' => br_f (by decide) ?_) (fun hg M' ch' ranks' sets' hch' => br_t rfl (nm_r (nI_1 i) (ih (i + 1) (by omega) ?_ M' ch' ranks' sets' hch')))
          · have : i = mm := by
              rcases Nat.lt_or_ge i mm with z | z
              · exact absurd hg (hleast i z)
              · omega
            rw [this]
            exact K M' ch' ranks' sets' hch'
          · rcases Nat.lt_or_ge i mm with z | z
            · omega
            · exact absurd (by rw [show i = mm by omega]; exact hmm) hg
        · refine br_t ((zb_sh0 _ (by omega)).mpr hb) (nm_r (nI_1 i) (ih (i + 1) (by omega) ?_ M ch ranks sets hch))
          rcases Nat.lt_or_ge i mm with z | z
          · omega
          · exact absurd ((hx i).mpr (by rw [show i = mm by omega]; exact hmm.1)) hb
    exact main 5 0 rfl (Nat.zero_le _) a_mv a_choice a_ranks a_sets hI.2.2.2.2.2.1
  · have hk5 := zc_am_lt hS2 hS hI.2.2.1.1 hak
    refine br_f (by rw [e]; exact nI_pos (by omega)) ⟨zi_in (by omega) (by omega), ?_⟩
    have : k = mm := by
      rcases hmm.1.2 with z | z
      · exact absurd (e.symm.trans z) (fun u => absurd (u ▸ nI_pos (n := k) (by omega) : ¬ (-2 : Int32) < 0) (by decide))
      · exact (nI_eq (by omega) (by omega)).mp (e.symm.trans z)
    rw [e, this]
    exact K a_mv a_choice a_ranks a_sets hI.2.2.2.2.2.1
/-- Y's winner with the pins as they are, or with one more -/
theorem zy_winnerF {post : Int32 → SY → Prop} {Pn pn : Nat → Int32} {n s P : Nat} (C : zy_C N S a_kinds a_args a_parent a_kids a_first a_second a_depth a_linkSet a_atomSet Pn b_link b_atom pn) (hn : n < N) (hs : s < S) (hP : P < 2) {W : pg_S} {ch : pg_P → Nat} (hfc : pg_FC N S (zc_nx a_kinds a_first a_second) (zc_lg a_kinds a_args a_linkSet Pn) (zc_own a_kinds a_args a_atomSet) (zc_bk a_kinds) W ch)
    (h1 : (P = 0 ↔ W (n, s)) → ∀ set st, post (nI P) ((nI S), (nI rm), (nI N), f_solved, f_playMode, (nI pl), b_link, b_atom, a_kinds, a_args, a_parent, pn, a_path, set, st)) (h0 : ¬ (P = 0 ↔ W (n, s)) → ∀ r set st, ¬ r = nI P → post r ((nI S), (nI rm), (nI N), f_solved, f_playMode, (nI pl), b_link, b_atom, a_kinds, a_args, a_parent, pn, a_path, set, st)) : wpY_winner post ((nI S), (nI rm), (nI N), f_solved, f_playMode, (nI pl), b_link, b_atom, a_kinds, a_args, a_parent, pn, a_path, b_set, b_stand) (nI s) (nI n) := by
  have hN := C.1.1
  have hS := C.2.2.1.2
  unfold wpY_winner
  refine zy_evaluate (μ := 0) (by omega) C (fun x set st hev hoks => ⟨zi_in (by omega) (by omega), ?_⟩)
  rw [zi_c (by omega)]
  have H := zf_St (At := a_atomSet) C.1 C.2.1 C.2.2.1.1 C.2.2.1.2 C.2.2.2.1 C.2.2.2.2.1
  unfold zy_Ev at hev
  rw [zy_om0] at hev
  have e : bt (set n) s = true ↔ W (n, s) := pg_T1 H hfc hev (p := (n, s)) ⟨hn, hs⟩
  have hp2 : P = 0 ∨ P = 1 := by omega
  by_cases hb : bt (set n) s = true
  · refine br_t ((zb_sh1 _ (by omega)).mpr hb) ?_
    rcases hp2 with z | z
    · subst z; exact h1 ⟨fun _ => e.mp hb, fun _ => rfl⟩ set st
    · subst z; exact h0 (fun w => absurd (w.mpr (e.mp hb)) (by decide)) 0 set st (by decide)
  · refine br_f (fun w => hb ((zb_sh1 _ (by omega)).mp w)) ?_
    rcases hp2 with z | z
    · subst z; exact h0 (fun w => hb (e.mpr (w.mp rfl))) 1 set st (by decide)
    · subst z; exact h1 ⟨fun w => absurd w (by decide), fun w => absurd (e.mpr w) hb⟩ set st
theorem zy_advise {post : Int32 → SY → Prop} {n s P : Nat} (hI : zr_I N S rm pl f_solved f_playMode a_linkSet a_atomSet a_kinds a_args a_parent a_kids a_first a_second a_depth a_pins a_win a_path a_choice b_link b_atom b_pins) (hsv : f_solved = 1) (hc : zf_Cpl N a_kinds a_parent) (hn : n < N) (hs : s < S) (ho : (zc_own a_kinds a_args a_atomSet) (n, s) = P) {ch0 : pg_P → Nat} (hfc : pg_FC N S (zc_nx a_kinds a_first a_second) (zc_lg a_kinds a_args a_linkSet a_pins) (zc_own a_kinds a_args a_atomSet) (zc_bk a_kinds) (zy_sv a_win) ch0)
    (h2 : P = 2 → post (-1) ((nI S), (nI rm), (nI N), f_solved, f_playMode, (nI pl), b_link, b_atom, a_kinds, a_args, a_parent, b_pins, a_path, b_set, b_stand)) (hno : P < 2 → ¬ (P = 0 ↔ zy_sv a_win (n, s)) → ∀ set st, post (-1) ((nI S), (nI rm), (nI N), f_solved, f_playMode, (nI pl), b_link, b_atom, a_kinds, a_args, a_parent, b_pins, a_path, set, st))
    (hyes : P < 2 → (P = 0 ↔ zy_sv a_win (n, s)) → ∀ mm, zk_G N S (zc_nx a_kinds a_first a_second) (zc_lg a_kinds a_args a_linkSet a_pins) (zc_own a_kinds a_args a_atomSet) (zc_bk a_kinds) P (n, s) mm → (∀ j, j < mm → ¬ zk_G N S (zc_nx a_kinds a_first a_second) (zc_lg a_kinds a_args a_linkSet a_pins) (zc_own a_kinds a_args a_atomSet) (zc_bk a_kinds) P (n, s) j) → ∀ set st, post (nI mm) ((nI S), (nI rm), (nI N), f_solved, f_playMode, (nI pl), b_link, b_atom, a_kinds, a_args, a_parent, b_pins, a_path, set, st)) : wpY_advise post ((nI S), (nI rm), (nI N), f_solved, f_playMode, (nI pl), b_link, b_atom, a_kinds, a_args, a_parent, b_pins, a_path, b_set, b_stand) (nI s) (nI n) := by
  have hI' := hI
  obtain ⟨⟨⟨hS2, hS⟩, hrm, hNr⟩, hF, ⟨hL, hLY⟩, hA, hPP, hCh, hSv, hPl⟩ := hI'
  have hN := hF.1
  have hK := hF.2.1
  have H := zi_St hI hc
  have hd : pg_D N S (n, s) := ⟨hn, hs⟩
  have own3 := zx_own_lt a_kinds a_args a_atomSet (n, s)
  refine br_f (by rw [hsv]; decide) (zy_isState hS (fun _ _ _ => br_f (by decide) ?_) (fun z => absurd rfl (z s hs)))
  refine zy_isNode hN (fun _ _ _ => br_f (by decide) ?_) (fun z => absurd rfl (z n hn))
  refine zy_own hK hA.1 hN hS hn hs ?_
  rw [ho]
  by_cases hP : P < 2
  rotate_left
  · have : P = 2 := by omega
    rw [this]
    exact br_t rfl (h2 this)
  refine br_f (fun z => absurd ((nI_eq (b := 2) (by omega) (by omega)).mp z) (by omega)) ?_
  refine zy_winnerF (zi_YC hI hc) hn hs hP hfc (fun hw set0 st0 => br_t rfl ?_) (fun hw r set st hr => br_f hr (hno hP hw set st))
  rw [zi_s14, zi_c (by omega)]
  refine ⟨zi_in (by omega) (by omega), nm_e ⟨6, ?_⟩⟩
  obtain ⟨mm, hmm, hleast⟩ := zk_ex H hN hS hP ho hd hfc hw
  have hmm5 := zc_am_lt hS2 hS hL hmm.1.1
  have main : ∀ d i, i + d = 5 → i ≤ mm → ∀ set st, wY_advise_65 post (nI s) (nI n) (nI P) (b_pins (s * 14 + n)) (d + 1) (nI i) (nI S) (nI rm) (nI N) f_solved f_playMode (nI pl) b_link b_atom a_kinds a_args a_parent b_pins a_path set st := by
    intro d
    induction d with
    | zero => intro i hi him; omega
    | succ d ih =>
      intro i hi him set st
      refine br_f (nI_ge (b := 5) (by omega) (by decide)) (zy_legalN hK hLY hL hPP.2 hN hS hn hs (by omega) (fun hlg => br_f (by decide) ?_) (fun hlg => br_t rfl (nm_r (nI_1 i) (ih (i + 1) (by omega) ?_ set st))))
      · rw [zi_s14, zi_c (by omega)]
        refine ⟨zi_in (by omega) (by omega), nm_e ?_⟩
        have hpin := zr_pin_set hN hS hn hs hPP (m := nI i) (Or.inr ⟨i, rfl, zk_36 hI hn hlg.1 (by omega), hlg.1⟩)
        have C' : zy_C N S a_kinds a_args a_parent a_kids a_first a_second a_depth a_linkSet a_atomSet (upd a_pins (n * 5 + s) (nI i)) b_link b_atom (upd b_pins (s * 14 + n) (nI i)) := ⟨hF, hc, ⟨hS2, hS⟩, hL, hpin.1, hLY, hA.1, hpin.2⟩
        obtain ⟨W', ch', hfc'⟩ := pg_FC_ex (zk_St H (by omega) hlg) hN hS
        have hfc2 : pg_FC N S (zc_nx a_kinds a_first a_second) (zc_lg a_kinds a_args a_linkSet (upd a_pins (n * 5 + s) (nI i))) (zc_own a_kinds a_args a_atomSet) (zc_bk a_kinds) W' ch' := pg_FC_mv (fun p j hp => zk_pin hS hn hs (by omega) hlg.1 p j hp) hfc'
        have hg := zk_uq (P := P) H (by omega) hd hlg hfc'
        refine zy_winnerF C' hn hs hP hfc2 (fun hw' set' st' => ?_) (fun hw' r set' st' hr => ?_)
        · refine ⟨zi_in (by omega) (by omega), nm_r (zu_back b_pins _ _) (br_t rfl ?_)⟩
          have : i = mm := by
            rcases Nat.lt_or_ge i mm with z | z
            · exact absurd (hg.mpr hw') (hleast i z)
            · omega
          rw [this]
          exact hyes hP hw mm hmm hleast set' st'
        · refine ⟨zi_in (by omega) (by omega), nm_r (zu_back b_pins _ _) (br_f hr (nm_r (nI_1 i) (ih (i + 1) (by omega) ?_ set' st')))⟩
          rcases Nat.lt_or_ge i mm with z | z
          · omega
          · exact absurd (hg.mp (by rw [show i = mm by omega]; exact hmm)) hw'
      · rcases Nat.lt_or_ge i mm with z | z
        · omega
        · exact absurd (by rw [show i = mm by omega]; exact hmm.1) hlg
  exact main 5 0 rfl (Nat.zero_le _) set0 st0
theorem zx_wins {post : Int32 → Prop} {n s P : Nat} (hn : n < 14) (hs : s < 5) (hP : P < 2) (h1 : (P = 0 ↔ zy_sv a_win (n, s)) → post 1) (h0 : ¬ (P = 0 ↔ zy_sv a_win (n, s)) → post 0) : wpX_wins post ((nI S), (nI rm), (nI N), f_solved, f_playMode, (nI pl), f_forceBase, f_outRow, f_badRow, f_reachRow, a_linkSet, a_atomSet, a_kinds, a_args, a_parent, a_kids, a_first, a_second, a_depth, a_pins, a_win, a_path, a_mv, a_choice, a_ranks, a_sets) (nI P) (nI s) (nI n) := by
  refine And.intro (zi_in hn (by omega)) ?_
  rw [zi_c (by omega)]
  by_cases hw : (P = 0 ↔ bt (a_win n) s = true)
  · exact br_f (fun z => (zb_who _ (by omega) hP).mp z hw) (h1 hw)
  · exact br_t ((zb_who _ (by omega) hP).mpr hw) (h0 hw)
theorem zi_advise {k : Nat} (hI : zr_I N S rm pl f_solved f_playMode a_linkSet a_atomSet a_kinds a_args a_parent a_kids a_first a_second a_depth a_pins a_win a_path a_choice b_link b_atom b_pins) (v1 v2 : Int32) : wpX_advise (fun r u' => wpY_advise (fun r' v' => r' = r ∧ i_Rel k u' v') ((nI S), (nI rm), (nI N), f_solved, f_playMode, (nI pl), b_link, b_atom, a_kinds, a_args, a_parent, b_pins, a_path, b_set, b_stand) v1 v2) ((nI S), (nI rm), (nI N), f_solved, f_playMode, (nI pl), f_forceBase, f_outRow, f_badRow, f_reachRow, a_linkSet, a_atomSet, a_kinds, a_args, a_parent, a_kids, a_first, a_second, a_depth, a_pins, a_win, a_path, a_mv, a_choice, a_ranks, a_sets) v1 v2 := by
  have hI' := hI
  obtain ⟨⟨⟨hS2, hS⟩, hrm, hNr⟩, hF, hLL, hA, hPP, hCh, hSv, hPl⟩ := hI'
  have hN := hF.1
  have R : i_Rel k ((nI S), (nI rm), (nI N), f_solved, f_playMode, (nI pl), f_forceBase, f_outRow, f_badRow, f_reachRow, a_linkSet, a_atomSet, a_kinds, a_args, a_parent, a_kids, a_first, a_second, a_depth, a_pins, a_win, a_path, a_mv, a_choice, a_ranks, a_sets) ((nI S), (nI rm), (nI N), f_solved, f_playMode, (nI pl), b_link, b_atom, a_kinds, a_args, a_parent, b_pins, a_path, b_set, b_stand) := zr_in hI
  rcases hSv with hsv | ⟨hsv, hc, ⟨ch, hfc⟩, hok⟩
  · exact br_t hsv (br_t hsv ⟨rfl, R⟩)
  have hsn : ¬ f_solved = 0 := by rw [hsv]; decide
  refine br_f hsn (zi_pos (pY := fun _ => True) hI (fun s n hs hn e1 e2 _ => br_f (by decide) ?_) (fun hno => br_t rfl ?_))
  rotate_left
  · refine br_f hsn (zy_isState hS (fun s hs e1 => br_f (by decide) ?_) (fun _ => br_t rfl ⟨rfl, R⟩))
    exact zy_isNode hN (fun n hn e2 => absurd ⟨s, n, hs, hn, e1, e2, hc⟩ hno) (fun _ => br_t rfl ⟨rfl, R⟩)
  subst e1 e2
  obtain ⟨P, ho⟩ : ∃ P, (zc_own a_kinds a_args a_atomSet) (n, s) = P := ⟨_, rfl⟩
  have own3 := zx_own_lt a_kinds a_args a_atomSet (n, s)
  refine zx_own (zf_C hF hS) hn hs ?_
  rw [ho]
  by_cases hP : P < 2
  rotate_left
  · have hP2 : P = 2 := by omega
    refine br_t (by rw [hP2]; rfl) (zy_advise hI hsv hc hn hs ho hfc (fun _ => ⟨rfl, R⟩) (fun z => absurd z hP) (fun z => absurd z hP))
  refine br_f (fun z => absurd ((nI_eq (b := 2) (by omega) (by omega)).mp z) (by omega)) ?_
  refine zx_wins (by omega) (by omega) hP (fun hw => br_f (by decide) ?_) (fun hw => br_t rfl ?_)
  · obtain ⟨mm, hmm, hleast⟩ := zk_ex (zi_St hI hc) hN hS hP ho ⟨hn, hs⟩ hfc hw
    refine zx_keepingMove hI hsv hc hn hs hP ho hfc hmm hleast (fun M ch' ranks sets hch' => ?_)
    refine zy_advise hI hsv hc hn hs ho hfc (fun z => absurd z (by omega)) (fun _ z => absurd hw z) (fun _ _ m2 hm2 hl2 set st => ?_)
    have : m2 = mm := by
      rcases Nat.lt_or_ge m2 mm with z | z
      · exact absurd hm2 (hleast m2 z)
      · rcases Nat.lt_or_ge mm m2 with w | w
        · exact absurd hmm (hl2 mm w)
        · omega
    rw [this]
    exact ⟨rfl, zr_in ⟨⟨⟨hS2, hS⟩, hrm, hNr⟩, hF, hLL, hA, hPP, hch', Or.inr ⟨hsv, hc, ⟨ch, hfc⟩, hok⟩, hPl⟩⟩
  · refine zy_advise hI hsv hc hn hs ho hfc (fun z => absurd z (by omega)) (fun _ _ set st => ⟨rfl, zr_in hI⟩) (fun _ z => absurd z hw)
end
theorem i_vc_advise {k : Nat} {u : SX} {v : SY} (I : i_Rel k u v) (hk : k + 5 ≤ 2562) (v1 : Int32) (v2 : Int32) : wpX_advise (fun r u' => wpY_advise (fun r' v' => r' = r ∧ i_Rel (k + 5) u' v') v v1 v2) u v1 v2 :=
  zr_el (P := fun u v => wpX_advise (fun r u' => wpY_advise (fun r' v' => r' = r ∧ i_Rel (k + 5) u' v') v v1 v2) u v1 v2) (fun _ _ _ _ _ _ _ _ _ _ _ _ _ _ _ _ _ _ _ _ _ _ _ _ _ _ _ _ _ _ _ hI => zi_advise hI v1 v2) I
end
section
/-! ===== the play ===== -/
theorem zj_n {s n : Nat} (hn : n < 14) (hs : s < 5) : nI (s * 16 + n) &&& 15 = nI n := by
  rw [pk_andN (by omega) 4 (by decide)]
  exact congrArg nI (by omega)
theorem zj_s {s n : Nat} (hn : n < 14) (hs : s < 5) : nI (s * 16 + n) >>> ((4 : Int32) &&& 31) = nI s := by
  rw [pk_shrN (by omega) _ 4 (by decide)]
  exact congrArg nI (by omega)
theorem zj_16 (s n : Nat) : nI s * 16 + nI n = nI (s * 16 + n) := by
  rw [show (16 : Int32) = nI 16 from rfl, pk_mul, nI_add]
theorem zj_inj {s n s' n' : Nat} (hn : n < 14) (hs : s < 5) (hn' : n' < 14) (hs' : s' < 5) (h : nI (s * 16 + n) = nI (s' * 16 + n')) : n = n' ∧ s = s' := by
  have := (nI_eq (by omega) (by omega)).mp h
  omega
def zj_low (Ph : Nat → Int32) : Nat → Nat → Int32 → Int32
  | 0, _, x => x
  | c + 1, j, x => zj_low Ph c (j + 1) (if x ≤ Ph j &&& 15 then x else Ph j &&& 15)
abbrev zj_V (N S : Nat) (Ph : Nat → Int32) (e : Nat) : Prop := ∀ i, i < e → ∃ n s, n < N ∧ s < S ∧ Ph i = nI (s * 16 + n)
theorem zj_low_ok {N S : Nat} (hN : N ≤ 14) (hS : S ≤ 5) {Ph : Nat → Int32} {e : Nat} (hv : zj_V N S Ph e) : ∀ c j l, j + c ≤ e → l < N → ∃ l', l' < N ∧ zj_low Ph c j (nI l) = nI l'
  | 0, j, l, _, hl => ⟨l, hl, rfl⟩
  | c + 1, j, l, hj, hl => by
    obtain ⟨n, s, hn, hs, ee⟩ := hv j (by omega)
    show ∃ l', l' < N ∧ zj_low Ph c (j + 1) (if nI l ≤ Ph j &&& 15 then nI l else Ph j &&& 15) = nI l'
    rw [ee, zj_n (by omega) (by omega)]
    split
    · exact zj_low_ok hN hS hv c (j + 1) l (by omega) hl
    · exact zj_low_ok hN hS hv c (j + 1) n (by omega) hn
/-- the verdict on a path of e + 1 positions with the last one (s, n) -/
abbrev zj_R (lg : pg_M) (own : pg_P → Nat) (K Ph : Nat → Int32) (e n s : Nat) (r : Int32) : Prop :=
  ((∀ i, i < e → Ph i ≠ nI (s * 16 + n)) ∧ ((r = 1 ∧ ∃ m, lg (n, s) m) ∨ (r = 3 ∧ (∀ m, ¬ lg (n, s) m) ∧ own (n, s) = 0) ∨ (r = 2 ∧ (∀ m, ¬ lg (n, s) m) ∧ own (n, s) ≠ 0))) ∨
  (∃ i0, i0 < e ∧ Ph i0 = nI (s * 16 + n) ∧ (∀ i, i < e → Ph i = nI (s * 16 + n) → i = i0) ∧ r = if K (zj_low Ph (e - i0) (i0 + 1) (nI n)).toNatClampNeg = 7 then 3 else 2)
theorem zj_ex {lg : pg_M} {own : pg_P → Nat} {K Ph : Nat → Int32} {e n s : Nat} (hd : ∀ i j, i < j → j < e → Ph i ≠ Ph j) : ∃ r, zj_R lg own K Ph e n s r := by
  rcases Classical.em (∃ i, i < e ∧ Ph i = nI (s * 16 + n)) with ⟨i0, h1, h2⟩ | hno
  · refine ⟨_, Or.inr ⟨i0, h1, h2, fun i hi h => ?_, rfl⟩⟩
    rcases Nat.lt_or_ge i i0 with z | z
    · exact absurd (h.trans h2.symm) (hd i i0 z h1)
    · rcases Nat.lt_or_ge i0 i with w | w
      · exact absurd (h2.trans h.symm) (hd i0 i w hi)
      · omega
  · have hno' : ∀ i, i < e → Ph i ≠ nI (s * 16 + n) := fun i hi h => hno ⟨i, hi, h⟩
    rcases Classical.em (∃ m, lg (n, s) m) with hm | hm
    · exact ⟨1, Or.inl ⟨hno', Or.inl ⟨rfl, hm⟩⟩⟩
    · have hm' : ∀ m, ¬ lg (n, s) m := fun m h => hm ⟨m, h⟩
      rcases Classical.em (own (n, s) = 0) with ho | ho
      · exact ⟨3, Or.inl ⟨hno', Or.inr (Or.inl ⟨rfl, hm', ho⟩)⟩⟩
      · exact ⟨2, Or.inl ⟨hno', Or.inr (Or.inr ⟨rfl, hm', ho⟩)⟩⟩
/-- different positions are at most seventy -/
theorem zj_70 {N S : Nat} (hN : N ≤ 14) (hS : S ≤ 5) {Ph : Nat → Int32} {e : Nat} (hv : zj_V N S Ph e) (hd : ∀ i j, i < j → j < e → Ph i ≠ Ph j) : e ≤ 70 := by
  have main : ∀ j, j ≤ e → j ≤ pg_sz (fun p => pg_D N S p ∧ ∃ i, i < j ∧ Ph i = nI (p.2 * 16 + p.1)) := by
    intro j
    induction j with
    | zero => intro _; exact Nat.zero_le _
    | succ j ih =>
      intro hj
      have h := ih (by omega)
      obtain ⟨n, s, hn, hs, ee⟩ := hv j (by omega)
      have := pg_sz_lt (A := fun p => pg_D N S p ∧ ∃ i, i < j ∧ Ph i = nI (p.2 * 16 + p.1)) (B := fun p => pg_D N S p ∧ ∃ i, i < j + 1 ∧ Ph i = nI (p.2 * 16 + p.1)) (p := (n, s)) (fun q z => ⟨z.1, by obtain ⟨i, hi, e'⟩ := z.2; exact ⟨i, by omega, e'⟩⟩) ⟨⟨hn, hs⟩, j, by omega, ee⟩ (fun z => by
        obtain ⟨i, hi, e'⟩ := z.2
        exact hd i j hi (by omega) (e'.trans ee.symm)) (by show n < 14; omega) (by show s < 5; omega)
      omega
  have := main e (Nat.le_refl _)
  have := pg_sz_le (fun p => pg_D N S p ∧ ∃ i, i < e ∧ Ph i = nI (p.2 * 16 + p.1))
  omega
section
variable {N S rm pl : Nat} {f_solved f_playMode f_forceBase f_outRow f_badRow f_reachRow : Int32} {a_linkSet a_atomSet a_kinds a_args a_parent a_kids a_first a_second a_depth a_pins a_win a_path a_mv a_choice a_ranks a_sets b_link b_atom b_pins b_set b_stand : Nat → Int32}
theorem zx_judge {post : SX → Prop} {e n s : Nat} {r : Int32} (hI : zr_I N S rm pl f_solved f_playMode a_linkSet a_atomSet a_kinds a_args a_parent a_kids a_first a_second a_depth a_pins a_win a_path a_choice b_link b_atom b_pins) (hn : n < N) (hs : s < S) (he : e ≤ 70) {Ph : Nat → Int32} (hv : zj_V N S Ph (e + 1)) (hl : Ph e = nI (s * 16 + n))
    (hj : zj_R (zc_lg a_kinds a_args a_linkSet a_pins) (zc_own a_kinds a_args a_atomSet) a_kinds Ph e n s r) (K : post ((nI S), (nI rm), (nI N), f_solved, r, (nI (e + 1)), f_forceBase, f_outRow, f_badRow, f_reachRow, a_linkSet, a_atomSet, a_kinds, a_args, a_parent, a_kids, a_first, a_second, a_depth, a_pins, a_win, Ph, a_mv, a_choice, a_ranks, a_sets)) : wpX_judge post ((nI S), (nI rm), (nI N), f_solved, f_playMode, (nI (e + 1)), f_forceBase, f_outRow, f_badRow, f_reachRow, a_linkSet, a_atomSet, a_kinds, a_args, a_parent, a_kids, a_first, a_second, a_depth, a_pins, a_win, Ph, a_mv, a_choice, a_ranks, a_sets) := by
  have hN := hI.2.1.1
  have hS2 := hI.1.1.1
  have hS := hI.1.1.2
  refine nm_r (nI_pred e) ⟨zi_in (by omega) (by omega), ?_⟩
  rw [zi_c (by omega), hl]
  refine nm_e ⟨e + 1, ?_⟩
  rcases hj with ⟨hno, hr⟩ | ⟨i0, hi0, h0, huq, hr⟩
  · have main : ∀ d i, i + d = e → wX_judge_19 post (nI e) (nI (s * 16 + n)) (nI S) (nI rm) (nI N) f_solved f_playMode (nI (e + 1)) f_forceBase f_outRow f_badRow f_reachRow a_linkSet a_atomSet a_kinds a_args a_parent a_kids a_first a_second a_depth a_pins a_win Ph a_mv a_choice a_ranks a_sets (d + 1) (-1) (nI i) := by
      intro d
      induction d with
      | zero =>
        intro i hi
        have ei : i = e := by omega
        subst ei
        refine br_t (nI_le (Nat.le_refl _) (by omega)) (nm_r (zj_s (by omega) (by omega)) (nm_r (zj_n (by omega) (by omega)) (br_t (by decide) ?_)))
        refine zx_legal hI.2.1.2.1 hI.2.2.2.2.1.1 hI.2.2.1.1 hN hS2 hS hn hs (fun x hx => ?_)
        have hz : x = 0 ↔ ∀ m, ¬ zc_lg a_kinds a_args a_linkSet a_pins (n, s) m := by
          rw [zb_zero]
          exact ⟨fun h m hm => h m (zb_lt ((hx m).mpr hm)) ((hx m).mpr hm), fun h m _ hb => h m ((hx m).mp hb)⟩
        have own3 := zx_own_lt a_kinds a_args a_atomSet (n, s)
        rcases hr with ⟨rfl, m, hm⟩ | ⟨rfl, hst, ho⟩ | ⟨rfl, hst, ho⟩
        · exact br_f (fun z => hz.mp z m hm) K
        · refine br_t (hz.mpr hst) (zx_own (zf_C hI.2.1 hS) hn hs ?_)
          rw [ho]
          exact br_t rfl K
        · refine br_t (hz.mpr hst) (zx_own (zf_C hI.2.1 hS) hn hs ?_)
          exact br_f (nI_ne0 (by omega) (by omega)) K
      | succ d ih =>
        intro i hi
        refine br_f (nI_ge (by omega) (by omega)) ⟨zi_in (by omega) (by omega), ?_⟩
        rw [zi_c (by omega)]
        exact br_f (hno i (by omega)) (nm_r (nI_1 i) (ih (i + 1) (by omega)))
    exact main e 0 (by omega)
  · -- the least node from i0 on
    have low : ∀ c j, j + c = e + 1 → ∀ l, l < N → zj_low Ph c j (nI l) = zj_low Ph (e - i0) (i0 + 1) (nI n) → wX_judge_69 post (nI e) (nI S) (nI rm) (nI N) f_solved f_playMode (nI (e + 1)) f_forceBase f_outRow f_badRow f_reachRow a_linkSet a_atomSet a_kinds a_args a_parent a_kids a_first a_second a_depth a_pins a_win Ph a_mv a_choice a_ranks a_sets (c + 1) (nI l) (nI j) := by
      intro c
      induction c with
      | zero =>
        intro j hjc l hl' heq
        have heq' : nI l = zj_low Ph (e - i0) (i0 + 1) (nI n) := heq
        refine br_t (nI_lt (by omega) (by omega)) ⟨zi_in (by omega) (by omega), ?_⟩
        rw [zi_c (by omega)]
        rw [← heq', zi_c (by omega)] at hr
        by_cases k7 : a_kinds l = 7
        · rw [if_pos k7] at hr
          subst hr
          exact br_t k7 K
        · rw [if_neg k7] at hr
          subst hr
          exact br_f k7 K
      | succ c ih =>
        intro j hjc l hl' heq
        obtain ⟨n', s', hn', hs', ee⟩ := hv j (by omega)
        refine br_f (nI_nlt (by omega) (by omega)) ⟨zi_in (by omega) (by omega), ?_⟩
        have heq' : zj_low Ph c (j + 1) (if nI l ≤ Ph j &&& 15 then nI l else Ph j &&& 15) = zj_low Ph (e - i0) (i0 + 1) (nI n) := heq
        rw [ee, zj_n (by omega) (by omega)] at heq'
        rw [zi_c (by omega), ee, zj_n (by omega) (by omega)]
        refine nm_e ?_
        by_cases hle : nI l ≤ nI n'
        · rw [if_pos hle] at heq'
          exact br_t hle (nm_r (nI_1 j) (ih (j + 1) (by omega) l hl' heq'))
        · rw [if_neg hle] at heq'
          exact br_f hle (nm_r (nI_1 j) (ih (j + 1) (by omega) n' hn' heq'))
    have main : ∀ d i, i + d = e → ∀ x3, ((i ≤ i0 ∧ x3 = -1) ∨ (i0 < i ∧ x3 = nI i0)) → wX_judge_19 post (nI e) (nI (s * 16 + n)) (nI S) (nI rm) (nI N) f_solved f_playMode (nI (e + 1)) f_forceBase f_outRow f_badRow f_reachRow a_linkSet a_atomSet a_kinds a_args a_parent a_kids a_first a_second a_depth a_pins a_win Ph a_mv a_choice a_ranks a_sets (d + 1) x3 (nI i) := by
      intro d
      induction d with
      | zero =>
        intro i hi x3 hx3
        have ei : i = e := by omega
        subst ei
        have hx : x3 = nI i0 := by
          rcases hx3 with z | z
          · omega
          · exact z.2
        rw [hx]
        refine br_t (nI_le (Nat.le_refl _) (by omega)) (nm_r (zj_s (by omega) (by omega)) (nm_r (zj_n (by omega) (by omega)) (br_f (nI_pos (by omega)) (nm_r (nI_1 i0) ⟨_, low (i - i0) (i0 + 1) (by omega) n hn rfl⟩))))
      | succ d ih =>
        intro i hi x3 hx3
        refine br_f (nI_ge (by omega) (by omega)) ⟨zi_in (by omega) (by omega), ?_⟩
        rw [zi_c (by omega)]
        by_cases h : Ph i = nI (s * 16 + n)
        · have := huq i (by omega) h
          subst this
          exact br_t h (nm_r (nI_1 i) (ih (i + 1) (by omega) _ (Or.inr ⟨by omega, rfl⟩)))
        · refine br_f h (nm_r (nI_1 i) (ih (i + 1) (by omega) x3 ?_))
          rcases hx3 with z | z
          · refine Or.inl ⟨?_, z.2⟩
            rcases Nat.lt_or_ge i i0 with w | w
            · omega
            · have : i = i0 := by omega
              rw [this] at h; exact absurd h0 h
          · exact Or.inr ⟨by omega, z.2⟩
    exact main e 0 (by omega) (-1) (Or.inl ⟨Nat.zero_le _, rfl⟩)
theorem zx_step {post : SX → Prop} {n s m : Nat} {r : Int32} (hI : zr_I N S rm pl f_solved f_playMode a_linkSet a_atomSet a_kinds a_args a_parent a_kids a_first a_second a_depth a_pins a_win a_path a_choice b_link b_atom b_pins) (hc : zf_Cpl N a_kinds a_parent) (hpl : 1 ≤ pl) (hpl70 : pl ≤ 70) (hn : n < N) (hs : s < S) (hv : zj_V N S a_path pl) (hl : a_path (pl - 1) = nI (s * 16 + n)) (hm : zc_lg a_kinds a_args a_linkSet a_pins (n, s) m)
    (hj : zj_R (zc_lg a_kinds a_args a_linkSet a_pins) (zc_own a_kinds a_args a_atomSet) a_kinds (upd a_path pl (nI (((zc_nx a_kinds a_first a_second) (n, s) m).2 * 16 + ((zc_nx a_kinds a_first a_second) (n, s) m).1))) pl ((zc_nx a_kinds a_first a_second) (n, s) m).1 ((zc_nx a_kinds a_first a_second) (n, s) m).2 r)
    (K : post ((nI S), (nI rm), (nI N), f_solved, r, (nI (pl + 1)), f_forceBase, f_outRow, f_badRow, f_reachRow, a_linkSet, a_atomSet, a_kinds, a_args, a_parent, a_kids, a_first, a_second, a_depth, a_pins, a_win, (upd a_path pl (nI (((zc_nx a_kinds a_first a_second) (n, s) m).2 * 16 + ((zc_nx a_kinds a_first a_second) (n, s) m).1))), a_mv, a_choice, a_ranks, a_sets)) : wpX_step post ((nI S), (nI rm), (nI N), f_solved, f_playMode, (nI pl), f_forceBase, f_outRow, f_badRow, f_reachRow, a_linkSet, a_atomSet, a_kinds, a_args, a_parent, a_kids, a_first, a_second, a_depth, a_pins, a_win, a_path, a_mv, a_choice, a_ranks, a_sets) (nI m) := by
  have hN := hI.2.1.1
  have hS2 := hI.1.1.1
  have hS := hI.1.1.2
  have hm5 := zc_am_lt hS2 hS hI.2.2.1.1 hm.1
  have hdn := (zi_St hI hc).1 (n, s) m ⟨hn, hs⟩ hm
  obtain ⟨q, hq⟩ : ∃ q, pl = q + 1 := ⟨pl - 1, by omega⟩
  have e1 : nI pl - 1 = nI (pl - 1) := by rw [hq, nI_pred]; rfl
  refine And.intro (by rw [e1]; exact zi_in (by omega) (by omega)) ?_
  rw [e1, zi_c (by omega), hl]
  refine nm_e ?_
  rw [zj_s (by omega) (by omega), zj_n (by omega) (by omega)]
  refine zx_next hI hn ?_ hm5
  refine br_f (nI_ge (b := 71) (by omega) (by decide)) ⟨zi_in (by omega) (by omega), ?_⟩
  rw [zi_c (by omega)]
  refine nm_r (congrArg (upd a_path pl) (zj_16 _ _)) (nm_r (nI_1 pl) ?_)
  refine zx_judge (e := pl) hI hdn.1 hdn.2 hpl70 (fun i hi => ?_) pk_us hj K
  rcases Nat.lt_or_ge i pl with w | w
  · rw [pk_un (by omega)]; exact hv i w
  · have : i = pl := by omega
    rw [this, pk_us]
    exact ⟨_, _, hdn.1, hdn.2, rfl⟩
theorem zy_move {post : Int32 → SY → Prop} {n s m : Nat} {r : Int32} (hI : zr_I N S rm pl f_solved f_playMode a_linkSet a_atomSet a_kinds a_args a_parent a_kids a_first a_second a_depth a_pins a_win a_path a_choice b_link b_atom b_pins) (hc : zf_Cpl N a_kinds a_parent) (hpm : f_playMode = 1) (hpl : 1 ≤ pl) (hpl70 : pl ≤ 70) (hn : n < N) (hs : s < S) (hv : zj_V N S a_path pl) (hl : a_path (pl - 1) = nI (s * 16 + n)) (hm : zc_lg a_kinds a_args a_linkSet a_pins (n, s) m)
    (hj : zj_R (zc_lg a_kinds a_args a_linkSet a_pins) (zc_own a_kinds a_args a_atomSet) a_kinds (upd a_path pl (nI (((zc_nx a_kinds a_first a_second) (n, s) m).2 * 16 + ((zc_nx a_kinds a_first a_second) (n, s) m).1))) pl ((zc_nx a_kinds a_first a_second) (n, s) m).1 ((zc_nx a_kinds a_first a_second) (n, s) m).2 r)
    (K : post r ((nI S), (nI rm), (nI N), f_solved, r, (nI (pl + 1)), b_link, b_atom, a_kinds, a_args, a_parent, b_pins, (upd a_path pl (nI (((zc_nx a_kinds a_first a_second) (n, s) m).2 * 16 + ((zc_nx a_kinds a_first a_second) (n, s) m).1))), b_set, b_stand)) : wpY_move post ((nI S), (nI rm), (nI N), f_solved, f_playMode, (nI pl), b_link, b_atom, a_kinds, a_args, a_parent, b_pins, a_path, b_set, b_stand) (nI m) := by
  have hI' := hI
  obtain ⟨⟨⟨hS2, hS⟩, hrm, hNr⟩, hF, ⟨hL, hLY⟩, hA, hPP, hCh, hSv, hPl⟩ := hI'
  have hN := hF.1
  have hK := hF.2.1
  have hm5 := zc_am_lt hS2 hS hL hm.1
  have hdn := (zi_St hI hc).1 (n, s) m ⟨hn, hs⟩ hm
  have hd1 : ((zc_nx a_kinds a_first a_second) (n, s) m).1 < 14 := Nat.lt_of_lt_of_le hdn.1 hN
  have hd2 : ((zc_nx a_kinds a_first a_second) (n, s) m).2 < 5 := Nat.lt_of_lt_of_le hdn.2 hS
  obtain ⟨q, hq⟩ : ∃ q, pl = q + 1 := ⟨pl - 1, by omega⟩
  have e1 : nI pl - 1 = nI (pl - 1) := by rw [hq, nI_pred]; rfl
  have e2 : nI (pl + 1) - 1 = nI pl := nI_pred pl
  refine br_t hpm (br_f (nI_nlt (b := 1) (by omega) (by omega)) (br_t (nI_le (b := 70) hpl70 (by decide)) ?_))
  rw [e1]
  refine ⟨zi_in (by omega) (by omega), ?_⟩
  rw [zi_c (by omega), hl]
  refine nm_r (zj_s (by omega) (by omega)) ⟨zi_in (by omega) (by omega), nm_r (zj_n (by omega) (by omega)) ?_⟩
  refine zy_legalN hK hLY hL hPP.2 hN hS hn hs hm5 (fun _ => br_f (by decide) ?_) (fun z => absurd hm z)
  obtain ⟨t, ht⟩ : ∃ t, t = ((zc_nx a_kinds a_first a_second) (n, s) m).2 := ⟨_, rfl⟩
  obtain ⟨c, hc'⟩ : ∃ c, c = ((zc_nx a_kinds a_first a_second) (n, s) m).1 := ⟨_, rfl⟩
  rw [← ht, ← hc'] at hj K
  rw [← ht] at hd2
  rw [← hc'] at hd1
  have hcN : c < N := by rw [hc']; exact hdn.1
  have htS : t < S := by rw [ht]; exact hdn.2
  obtain ⟨Ph, hPh⟩ : ∃ Ph, Ph = upd a_path pl (nI (t * 16 + c)) := ⟨_, rfl⟩
  rw [← hPh] at hj K
  have hv' : zj_V N S Ph (pl + 1) := fun i hi => by
    rw [hPh]
    rcases Nat.lt_or_ge i pl with w | w
    · rw [pk_un (by omega)]; exact hv i w
    · have : i = pl := by omega
      rw [this, pk_us]
      exact ⟨_, _, hcN, htS, rfl⟩
  -- the loops
  have fin : ∃ n122 : Nat, wY_move_122 post (nI t) (nI c) (nI S) (nI rm) (nI N) f_solved f_playMode (nI (pl + 1)) b_link b_atom a_kinds a_args a_parent b_pins Ph b_set b_stand n122 0 := by
    refine ⟨pl + 1, ?_⟩
    rcases hj with ⟨hno, hr⟩ | ⟨i0, hi0, h0, huq, hr⟩
    · have main : ∀ d i, i + d = pl → wY_move_122 post (nI t) (nI c) (nI S) (nI rm) (nI N) f_solved f_playMode (nI (pl + 1)) b_link b_atom a_kinds a_args a_parent b_pins Ph b_set b_stand (d + 1) (nI i) := by
        intro d
        induction d with
        | zero =>
          intro i hi
          have ei : i = pl := by omega
          subst ei
          refine br_t (by rw [e2]; exact nI_le (Nat.le_refl _) (by omega)) ?_
          refine zy_openOrStuck hK hLY hL hPP.2 hA.1 hN hS2 hS hcN htS (fun hm' => ?_) (fun hst ho => ?_) (fun hst ho => ?_)
          · rcases hr with ⟨rfl, _⟩ | ⟨_, hst, _⟩ | ⟨_, hst, _⟩
            · exact K
            · obtain ⟨m', hm''⟩ := hm'; exact absurd hm'' (hst m')
            · obtain ⟨m', hm''⟩ := hm'; exact absurd hm'' (hst m')
          · rcases hr with ⟨_, m', hm'⟩ | ⟨rfl, _⟩ | ⟨_, _, ho'⟩
            · exact absurd hm' (hst m')
            · exact K
            · exact absurd ho ho'
          · rcases hr with ⟨_, m', hm'⟩ | ⟨_, _, ho'⟩ | ⟨rfl, _⟩
            · exact absurd hm' (hst m')
            · exact absurd ho' ho
            · exact K
        | succ d ih =>
          intro i hi
          refine br_f (by rw [e2]; exact nI_ge (by omega) (by omega)) ⟨zi_in (by omega) (by omega), ?_⟩
          rw [zi_c (by omega), zj_16]
          exact br_f (hno i (by omega)) (nm_r (nI_1 i) (ih (i + 1) (by omega)))
      exact main pl 0 (by omega)
    · have low : ∀ cc j, j + cc = pl + 1 → ∀ l, l < N → zj_low Ph cc j (nI l) = zj_low Ph (pl - i0) (i0 + 1) (nI c) → wY_move_161 post (nI S) (nI rm) (nI N) f_solved f_playMode (nI (pl + 1)) b_link b_atom a_kinds a_args a_parent b_pins Ph b_set b_stand (cc + 1) (nI l) (nI j) := by
        intro cc
        induction cc with
        | zero =>
          intro j hjc l hl' heq
          have heq' : nI l = zj_low Ph (pl - i0) (i0 + 1) (nI c) := heq
          refine br_t (nI_le (by omega) (by omega)) ⟨zi_in (by omega) (by omega), ?_⟩
          rw [zi_c (by omega)]
          rw [← heq', zi_c (by omega)] at hr
          by_cases k7 : a_kinds l = 7
          · rw [if_pos k7] at hr
            subst hr
            exact br_t k7 K
          · rw [if_neg k7] at hr
            subst hr
            exact br_f k7 K
        | succ cc ih =>
          intro j hjc l hl' heq
          obtain ⟨n', s', hn', hs', ee⟩ := hv' j (by omega)
          refine br_f (nI_ge (by omega) (by omega)) ⟨zi_in (by omega) (by omega), ?_⟩
          have heq' : zj_low Ph cc (j + 1) (if nI l ≤ Ph j &&& 15 then nI l else Ph j &&& 15) = zj_low Ph (pl - i0) (i0 + 1) (nI c) := heq
          rw [ee, zj_n (by omega) (by omega)] at heq'
          rw [zi_c (by omega), ee, zj_n (by omega) (by omega)]
          by_cases hle : nI l ≤ nI n'
          · rw [if_pos hle] at heq'
            exact br_t hle (nm_r (nI_1 j) (ih (j + 1) (by omega) l hl' heq'))
          · rw [if_neg hle] at heq'
            exact br_f hle ⟨zi_in (by omega) (by omega), nm_e (nm_r (nI_1 j) (ih (j + 1) (by omega) n' hn' heq'))⟩
      have main : ∀ d i, i + d = pl → i ≤ i0 → wY_move_122 post (nI t) (nI c) (nI S) (nI rm) (nI N) f_solved f_playMode (nI (pl + 1)) b_link b_atom a_kinds a_args a_parent b_pins Ph b_set b_stand (d + 1) (nI i) := by
        intro d
        induction d with
        | zero => intro i hi hii; omega
        | succ d ih =>
          intro i hi hii
          refine br_f (by rw [e2]; exact nI_ge (by omega) (by omega)) ⟨zi_in (by omega) (by omega), ?_⟩
          rw [zi_c (by omega), zj_16]
          by_cases h : Ph i = nI (t * 16 + c)
          · have := huq i (by omega) h
            subst this
            exact br_t h (nm_r (nI_1 i) ⟨_, low (pl - i) (i + 1) (by omega) c hcN rfl⟩)
          · refine br_f h (nm_r (nI_1 i) (ih (i + 1) (by omega) ?_))
            rcases Nat.lt_or_ge i i0 with w | w
            · omega
            · have : i = i0 := by omega
              rw [this] at h; exact absurd h0 h
      exact main pl 0 (by omega) (Nat.zero_le _)
  -- the successor
  have node : wpY_nextNode (fun r_41 => ((0 ≤ r_41 → (vp_in (nI pl) 71 ∧ ∀ Q, Q = upd a_path (nI pl).toNatClampNeg ((nI t * 16) + r_41) → ∀ L, L = nI pl + 1 → ∃ n122 : Nat, wY_move_122 post (nI t) r_41 (nI S) (nI rm) (nI N) f_solved f_playMode L b_link b_atom a_kinds a_args a_parent b_pins Q b_set b_stand n122 0)) ∧ (¬ 0 ≤ r_41 → post (-1) ((nI S), (nI rm), (nI N), f_solved, f_playMode, (nI pl), b_link, b_atom, a_kinds, a_args, a_parent, b_pins, a_path, b_set, b_stand)))) ((nI S), (nI rm), (nI N), f_solved, f_playMode, (nI pl), b_link, b_atom, a_kinds, a_args, a_parent, b_pins, a_path, b_set, b_stand) (nI n) (nI m) := by
    refine zy_nextNode hF hc hL hn hs hm.1 hm5 ?_
    rw [← hc']
    refine br_t (nI_pos' (by omega)) ⟨zi_in (by omega) (by omega), ?_⟩
    rw [zi_c (by omega)]
    refine nm_r (congrArg (upd a_path pl) (zj_16 t c)) (nm_r (nI_1 pl) ?_)
    rw [← hPh]
    exact fin
  refine zy_nextState (by omega) (fun hk => ?_) (fun hk => ?_)
  · have : t = m := by rw [ht, zc_nx_d hk]
    rw [this] at node; exact node
  · have : t = s := by
      rw [ht]
      by_cases e : m = 1 ∧ (a_kinds n = 3 ∨ a_kinds n = 4)
      · rw [zc_nx_1 e.2 e.1]
      · rw [zc_nx_0 hk e]
    rw [this] at node; exact node
/-- a move of the play, for both sides -/
theorem zi_step {k n s m : Nat} (hI : zr_I N S rm pl f_solved f_playMode a_linkSet a_atomSet a_kinds a_args a_parent a_kids a_first a_second a_depth a_pins a_win a_path a_choice b_link b_atom b_pins) (hsv : f_solved = 1) (hc : zf_Cpl N a_kinds a_parent) (hpm : f_playMode = 1) (hpl : 1 ≤ pl) (hn : n < N) (hs : s < S) (hv : zj_V N S a_path pl) (hd : ∀ i j, i < j → j < pl → a_path i ≠ a_path j) (hl : a_path (pl - 1) = nI (s * 16 + n)) (hm : zc_lg a_kinds a_args a_linkSet a_pins (n, s) m) :
    ∃ r, (∀ {post : SX → Prop}, post ((nI S), (nI rm), (nI N), f_solved, r, (nI (pl + 1)), f_forceBase, f_outRow, f_badRow, f_reachRow, a_linkSet, a_atomSet, a_kinds, a_args, a_parent, a_kids, a_first, a_second, a_depth, a_pins, a_win, (upd a_path pl (nI (((zc_nx a_kinds a_first a_second) (n, s) m).2 * 16 + ((zc_nx a_kinds a_first a_second) (n, s) m).1))), a_mv, a_choice, a_ranks, a_sets) → wpX_step post ((nI S), (nI rm), (nI N), f_solved, f_playMode, (nI pl), f_forceBase, f_outRow, f_badRow, f_reachRow, a_linkSet, a_atomSet, a_kinds, a_args, a_parent, a_kids, a_first, a_second, a_depth, a_pins, a_win, a_path, a_mv, a_choice, a_ranks, a_sets) (nI m)) ∧ (∀ {post : Int32 → SY → Prop} {set st : Nat → Int32}, post r ((nI S), (nI rm), (nI N), f_solved, r, (nI (pl + 1)), b_link, b_atom, a_kinds, a_args, a_parent, b_pins, (upd a_path pl (nI (((zc_nx a_kinds a_first a_second) (n, s) m).2 * 16 + ((zc_nx a_kinds a_first a_second) (n, s) m).1))), set, st) → wpY_move post ((nI S), (nI rm), (nI N), f_solved, f_playMode, (nI pl), b_link, b_atom, a_kinds, a_args, a_parent, b_pins, a_path, set, st) (nI m)) ∧
      (∀ M ranks sets set st, i_Rel k ((nI S), (nI rm), (nI N), f_solved, r, (nI (pl + 1)), f_forceBase, f_outRow, f_badRow, f_reachRow, a_linkSet, a_atomSet, a_kinds, a_args, a_parent, a_kids, a_first, a_second, a_depth, a_pins, a_win, (upd a_path pl (nI (((zc_nx a_kinds a_first a_second) (n, s) m).2 * 16 + ((zc_nx a_kinds a_first a_second) (n, s) m).1))), M, a_choice, ranks, sets) ((nI S), (nI rm), (nI N), f_solved, r, (nI (pl + 1)), b_link, b_atom, a_kinds, a_args, a_parent, b_pins, (upd a_path pl (nI (((zc_nx a_kinds a_first a_second) (n, s) m).2 * 16 + ((zc_nx a_kinds a_first a_second) (n, s) m).1))), set, st)) := by
  have hN := hI.2.1.1
  have hS := hI.1.1.2
  have h70 := zj_70 hN hS hv hd
  have hdn := (zi_St hI hc).1 (n, s) m ⟨hn, hs⟩ hm
  obtain ⟨r, hj⟩ := zj_ex (lg := zc_lg a_kinds a_args a_linkSet a_pins) (own := (zc_own a_kinds a_args a_atomSet)) (K := a_kinds) (Ph := upd a_path pl (nI (((zc_nx a_kinds a_first a_second) (n, s) m).2 * 16 + ((zc_nx a_kinds a_first a_second) (n, s) m).1))) (e := pl) (n := ((zc_nx a_kinds a_first a_second) (n, s) m).1) (s := ((zc_nx a_kinds a_first a_second) (n, s) m).2) (fun i j h1 h2 => by rw [pk_un (by omega), pk_un (by omega)]; exact hd i j h1 h2)
  refine ⟨r, fun K => zx_step hI hc hpl h70 hn hs hv hl hm hj K, fun K => zy_move hI hc hpm hpl h70 hn hs hv hl hm hj K, fun M ranks sets set st => ?_⟩
  have hsv' : zr_Sv N S f_solved a_kinds a_args a_parent a_first a_second a_linkSet a_atomSet a_pins a_win := hI.2.2.2.2.2.2.1
  refine zr_in (pl := pl + 1) ⟨hI.1, hI.2.1, hI.2.2.1, hI.2.2.2.1, hI.2.2.2.2.1, hI.2.2.2.2.2.1, hsv', by omega, Or.inr ⟨hsv, by omega, fun i hi => ?_, ?_⟩⟩
  · rcases Nat.lt_or_ge i pl with w | w
    · rw [pk_un (by omega)]; exact hv i w
    · have : i = pl := by omega
      rw [this, pk_us]
      exact ⟨_, _, hdn.1, hdn.2, rfl⟩
  · rcases hj with ⟨hno, hr⟩ | ⟨i0, hi0, h0, huq, hr⟩
    · rcases hr with ⟨rfl, hlg⟩ | ⟨rfl, _⟩ | ⟨rfl, _⟩
      · refine Or.inr ⟨rfl, fun i j h1 h2 => ?_, fun n' s' hn' hs' e => ?_⟩
        · rcases Nat.lt_or_ge j pl with w | w
          · rw [pk_un (by omega), pk_un (by omega)]; exact hd i j h1 w
          · have : j = pl := by omega
            rw [this, pk_us]
            exact hno i (by omega)
        · rw [Nat.add_sub_cancel, pk_us] at e
          have := zj_inj (Nat.lt_of_lt_of_le hdn.1 hN) (Nat.lt_of_lt_of_le hdn.2 hS) (by omega) (by omega) e
          rw [← this.1, ← this.2]
          exact hlg
      · exact Or.inl (Or.inr rfl)
      · exact Or.inl (Or.inl rfl)
    · rw [hr]
      split
      · exact Or.inl (Or.inr rfl)
      · exact Or.inl (Or.inl rfl)
theorem zi_begin {k : Nat} (hI : zr_I N S rm pl f_solved f_playMode a_linkSet a_atomSet a_kinds a_args a_parent a_kids a_first a_second a_depth a_pins a_win a_path a_choice b_link b_atom b_pins) (v1 v2 : Int32) : wpX_begin (fun r u' => wpY_begin (fun r' v' => r' = r ∧ i_Rel k u' v') ((nI S), (nI rm), (nI N), f_solved, f_playMode, (nI pl), b_link, b_atom, a_kinds, a_args, a_parent, b_pins, a_path, b_set, b_stand) v1 v2) ((nI S), (nI rm), (nI N), f_solved, f_playMode, (nI pl), f_forceBase, f_outRow, f_badRow, f_reachRow, a_linkSet, a_atomSet, a_kinds, a_args, a_parent, a_kids, a_first, a_second, a_depth, a_pins, a_win, a_path, a_mv, a_choice, a_ranks, a_sets) v1 v2 := by
  have hI' := hI
  obtain ⟨⟨⟨hS2, hS⟩, hrm, hNr⟩, hF, ⟨hL, hLY⟩, hA, hPP, hCh, hSv, hPl⟩ := hI'
  have hN := hF.1
  have hK := hF.2.1
  have R : i_Rel k ((nI S), (nI rm), (nI N), f_solved, f_playMode, (nI pl), f_forceBase, f_outRow, f_badRow, f_reachRow, a_linkSet, a_atomSet, a_kinds, a_args, a_parent, a_kids, a_first, a_second, a_depth, a_pins, a_win, a_path, a_mv, a_choice, a_ranks, a_sets) ((nI S), (nI rm), (nI N), f_solved, f_playMode, (nI pl), b_link, b_atom, a_kinds, a_args, a_parent, b_pins, a_path, b_set, b_stand) := zr_in hI
  rcases hSv with hsv | ⟨hsv, hc, hfc, hok⟩
  · exact br_t hsv (br_t hsv ⟨rfl, R⟩)
  have hsn : ¬ f_solved = 0 := by rw [hsv]; decide
  refine br_f hsn (zi_pos (pY := fun _ => True) hI (fun s n hs hn e1 e2 _ => br_f (by decide) ?_) (fun hno => br_t rfl ?_))
  rotate_left
  · refine br_f hsn (zy_isState hS (fun s hs e1 => br_f (by decide) ?_) (fun _ => br_t rfl ⟨rfl, R⟩))
    exact zy_isNode hN (fun n hn e2 => absurd ⟨s, n, hs, hn, e1, e2, hc⟩ hno) (fun _ => br_t rfl ⟨rfl, R⟩)
  subst e1 e2
  obtain ⟨r, hj⟩ := zj_ex (lg := zc_lg a_kinds a_args a_linkSet a_pins) (own := (zc_own a_kinds a_args a_atomSet)) (K := a_kinds) (Ph := upd a_path 0 (nI (s * 16 + n))) (e := 0) (n := n) (s := s) (fun i j h1 h2 => absurd h2 (by omega))
  have hr : (r = 1 ∧ ∃ m, zc_lg a_kinds a_args a_linkSet a_pins (n, s) m) ∨ (r = 3 ∧ (∀ m, ¬ zc_lg a_kinds a_args a_linkSet a_pins (n, s) m) ∧ (zc_own a_kinds a_args a_atomSet) (n, s) = 0) ∨ (r = 2 ∧ (∀ m, ¬ zc_lg a_kinds a_args a_linkSet a_pins (n, s) m) ∧ (zc_own a_kinds a_args a_atomSet) (n, s) ≠ 0) := by
    rcases hj with z | ⟨i0, h, _⟩
    · exact z.2
    · exact absurd h (by omega)
  have hv : zj_V N S (upd a_path 0 (nI (s * 16 + n))) 1 := fun i hi => by
    have : i = 0 := by omega
    rw [this, pk_us]
    exact ⟨n, s, hn, hs, rfl⟩
  refine nm_r (congrArg (upd a_path 0) (zj_16 s n)) (zx_judge (e := 0) hI hn hs (by omega) hv pk_us hj ?_)
  have rel : i_Rel k ((nI S), (nI rm), (nI N), f_solved, r, (nI (0 + 1)), f_forceBase, f_outRow, f_badRow, f_reachRow, a_linkSet, a_atomSet, a_kinds, a_args, a_parent, a_kids, a_first, a_second, a_depth, a_pins, a_win, (upd a_path 0 (nI (s * 16 + n))), a_mv, a_choice, a_ranks, a_sets) ((nI S), (nI rm), (nI N), f_solved, r, (nI (0 + 1)), b_link, b_atom, a_kinds, a_args, a_parent, b_pins, (upd a_path 0 (nI (s * 16 + n))), b_set, b_stand) := by
    refine zr_in (pl := 0 + 1) ⟨⟨⟨hS2, hS⟩, hrm, hNr⟩, hF, ⟨hL, hLY⟩, hA, hPP, hCh, Or.inr ⟨hsv, hc, hfc, hok⟩, by omega, Or.inr ⟨hsv, by omega, hv, ?_⟩⟩
    rcases hr with ⟨rfl, hm⟩ | ⟨rfl, _⟩ | ⟨rfl, _⟩
    · refine Or.inr ⟨rfl, fun i j h1 h2 => absurd h2 (by omega), fun n' s' hn' hs' e => ?_⟩
      have e' : upd a_path 0 (nI (s * 16 + n)) 0 = nI (s' * 16 + n') := e
      rw [pk_us] at e'
      have := zj_inj (by omega) (by omega) (by omega) (by omega) e'
      rw [← this.1, ← this.2]
      exact hm
    · exact Or.inl (Or.inr rfl)
    · exact Or.inl (Or.inl rfl)
  refine br_f hsn (zy_isState hS (fun _ _ _ => br_f (by decide) ?_) (fun z => absurd rfl (z s hs)))
  refine zy_isNode hN (fun _ _ _ => br_f (by decide) (nm_r (congrArg (upd a_path 0) (zj_16 s n)) ?_)) (fun z => absurd rfl (z n hn))
  refine zy_openOrStuck hK hLY hL hPP.2 hA.1 hN hS2 hS hn hs (fun hm' => ?_) (fun hst ho => ?_) (fun hst ho => ?_)
  · rcases hr with ⟨rfl, _⟩ | ⟨_, hst, _⟩ | ⟨_, hst, _⟩
    · exact ⟨rfl, rel⟩
    · obtain ⟨m', hm''⟩ := hm'; exact absurd hm'' (hst m')
    · obtain ⟨m', hm''⟩ := hm'; exact absurd hm'' (hst m')
  · rcases hr with ⟨_, m', hm'⟩ | ⟨rfl, _⟩ | ⟨_, _, ho'⟩
    · exact absurd hm' (hst m')
    · exact ⟨rfl, rel⟩
    · exact absurd ho ho'
  · rcases hr with ⟨_, m', hm'⟩ | ⟨_, _, ho'⟩ | ⟨rfl, _⟩
    · exact absurd hm' (hst m')
    · exact absurd ho' ho
    · exact ⟨rfl, rel⟩
end
theorem i_vc_begin {k : Nat} {u : SX} {v : SY} (I : i_Rel k u v) (hk : k + 5 ≤ 2562) (v1 : Int32) (v2 : Int32) : wpX_begin (fun r u' => wpY_begin (fun r' v' => r' = r ∧ i_Rel (k + 5) u' v') v v1 v2) u v1 v2 :=
  zr_el (P := fun u v => wpX_begin (fun r u' => wpY_begin (fun r' v' => r' = r ∧ i_Rel (k + 5) u' v') v v1 v2) u v1 v2) (fun _ _ _ _ _ _ _ _ _ _ _ _ _ _ _ _ _ _ _ _ _ _ _ _ _ _ _ _ _ _ _ hI => zi_begin hI v1 v2) I
end
section
/-! ===== move, reply ===== -/
section
variable {N S rm pl : Nat} {f_solved f_playMode f_forceBase f_outRow f_badRow f_reachRow : Int32} {a_linkSet a_atomSet a_kinds a_args a_parent a_kids a_first a_second a_depth a_pins a_win a_path a_mv a_choice a_ranks a_sets b_link b_atom b_pins b_set b_stand : Nat → Int32}
/-- an open play: what stands in the relation -/
theorem zi_open (hI : zr_I N S rm pl f_solved f_playMode a_linkSet a_atomSet a_kinds a_args a_parent a_kids a_first a_second a_depth a_pins a_win a_path a_choice b_link b_atom b_pins) (hpm : f_playMode = 1) : f_solved = 1 ∧ zf_Cpl N a_kinds a_parent ∧ (∃ ch, pg_FC N S (zc_nx a_kinds a_first a_second) (zc_lg a_kinds a_args a_linkSet a_pins) (zc_own a_kinds a_args a_atomSet) (zc_bk a_kinds) (zy_sv a_win) ch) ∧ zy_ok N S a_win ∧ 1 ≤ pl ∧ zj_V N S a_path pl ∧ (∀ i j, i < j → j < pl → a_path i ≠ a_path j) ∧ pl ≤ 70 ∧ ∃ n s, n < N ∧ s < S ∧ a_path (pl - 1) = nI (s * 16 + n) ∧ ∃ m, zc_lg a_kinds a_args a_linkSet a_pins (n, s) m := by
  have hN := hI.2.1.1
  have hS := hI.1.1.2
  have hSv := hI.2.2.2.2.2.2.1
  have hPl := hI.2.2.2.2.2.2.2
  rcases hPl.2 with z | ⟨hsv, h1, hv, h2⟩
  · exact absurd (hpm.symm.trans z) (by decide)
  · rcases hSv with w | ⟨_, hc, hfc, hok⟩
    · exact absurd (w.symm.trans hsv) (by decide)
    · rcases h2 with w | ⟨_, hd, hlg⟩
      · rcases w with w | w <;> exact absurd (hpm.symm.trans w) (by decide)
      · obtain ⟨n, s, hn, hs, e⟩ := hv (pl - 1) (by omega)
        exact ⟨hsv, hc, hfc, hok, h1, hv, hd, zj_70 hN hS hv hd, n, s, hn, hs, e, hlg n s hn hs e⟩
theorem zi_move {k : Nat} (hI : zr_I N S rm pl f_solved f_playMode a_linkSet a_atomSet a_kinds a_args a_parent a_kids a_first a_second a_depth a_pins a_win a_path a_choice b_link b_atom b_pins) (v1 : Int32) : wpX_move (fun r u' => wpY_move (fun r' v' => r' = r ∧ i_Rel k u' v') ((nI S), (nI rm), (nI N), f_solved, f_playMode, (nI pl), b_link, b_atom, a_kinds, a_args, a_parent, b_pins, a_path, b_set, b_stand) v1) ((nI S), (nI rm), (nI N), f_solved, f_playMode, (nI pl), f_forceBase, f_outRow, f_badRow, f_reachRow, a_linkSet, a_atomSet, a_kinds, a_args, a_parent, a_kids, a_first, a_second, a_depth, a_pins, a_win, a_path, a_mv, a_choice, a_ranks, a_sets) v1 := by
  have R : i_Rel k ((nI S), (nI rm), (nI N), f_solved, f_playMode, (nI pl), f_forceBase, f_outRow, f_badRow, f_reachRow, a_linkSet, a_atomSet, a_kinds, a_args, a_parent, a_kids, a_first, a_second, a_depth, a_pins, a_win, a_path, a_mv, a_choice, a_ranks, a_sets) ((nI S), (nI rm), (nI N), f_solved, f_playMode, (nI pl), b_link, b_atom, a_kinds, a_args, a_parent, b_pins, a_path, b_set, b_stand) := zr_in hI
  by_cases hpm : f_playMode = 1
  rotate_left
  · exact br_f hpm (br_f hpm ⟨rfl, R⟩)
  obtain ⟨hsv, hc, hfc, hok, hpl, hv, hd, h70, n, s, hn, hs, hl, hex⟩ := zi_open hI hpm
  have hI' := hI
  obtain ⟨⟨⟨hS2, hS⟩, hrm, hNr⟩, hF, ⟨hL, hLY⟩, hA, hPP, hCh, hSv, hPl⟩ := hI'
  have hN := hF.1
  have hK := hF.2.1
  obtain ⟨q, hq⟩ : ∃ q, pl = q + 1 := ⟨pl - 1, by omega⟩
  have e1 : nI pl - 1 = nI (pl - 1) := by rw [hq, nI_pred]; rfl
  -- Y refuses
  have noY : (∀ j, j < 5 → v1 = nI j → ¬ zc_lg a_kinds a_args a_linkSet a_pins (n, s) j) → wpY_move (fun r' v' => r' = -1 ∧ i_Rel k ((nI S), (nI rm), (nI N), f_solved, f_playMode, (nI pl), f_forceBase, f_outRow, f_badRow, f_reachRow, a_linkSet, a_atomSet, a_kinds, a_args, a_parent, a_kids, a_first, a_second, a_depth, a_pins, a_win, a_path, a_mv, a_choice, a_ranks, a_sets) v') ((nI S), (nI rm), (nI N), f_solved, f_playMode, (nI pl), b_link, b_atom, a_kinds, a_args, a_parent, b_pins, a_path, b_set, b_stand) v1 := by
    intro hno
    refine br_t hpm (br_f (nI_nlt (b := 1) (by omega) (by omega)) (br_t (nI_le (b := 70) h70 (by decide)) ?_))
    rw [e1]
    refine ⟨zi_in (by omega) (by omega), ?_⟩
    rw [zi_c (by omega), hl]
    refine nm_r (zj_s (by omega) (by omega)) ⟨zi_in (by omega) (by omega), nm_r (zj_n (by omega) (by omega)) ?_⟩
    exact zy_legal hK hLY hL hPP.2 hN hS hn hs (fun j hj e z => absurd z (hno j hj e)) (fun _ => br_t rfl ⟨rfl, R⟩)
  refine br_t hpm (br_f (nI_nlt (b := 1) (by omega) (by omega)) ?_)
  by_cases g0 : v1 < 0
  · exact br_t g0 (noY (fun j hj e => absurd g0 (by rw [e]; exact nI_pos (by omega))))
  refine br_f g0 ?_
  obtain ⟨m, hm, rfl⟩ := nI_of g0
  by_cases h4 : m < 5
  rotate_left
  · refine br_f (nI_ge (a := 4) (by omega) hm) (noY (fun j hj e => ?_))
    have := (nI_eq hm (by omega)).mp e
    omega
  refine br_t (nI_le (b := 4) (by omega) (by decide)) ?_
  rw [e1]
  refine ⟨zi_in (by omega) (by omega), ?_⟩
  rw [zi_c (by omega), hl]
  refine nm_e ?_
  rw [zj_s (by omega) (by omega), zj_n (by omega) (by omega)]
  refine zx_legal hK hPP.1 hL hN hS2 hS hn hs (fun x hx => ?_)
  by_cases hb : bt x m = true
  · have hlg := (hx m).mp hb
    refine br_f (fun z => (zb_sh0 _ (by omega)).mp z hb) ?_
    obtain ⟨r, sx, sy, rel⟩ := zi_step (k := k) hI hsv hc hpm hpl hn hs hv hd hl hlg
    exact sx (sy ⟨rfl, rel a_mv a_ranks a_sets b_set b_stand⟩)
  · refine br_t ((zb_sh0 _ (by omega)).mpr hb) (noY (fun j hj e z => hb ((hx m).mpr ?_)))
    rw [(nI_eq hm (by omega)).mp e]; exact z
theorem zi_reply {k : Nat} (hI : zr_I N S rm pl f_solved f_playMode a_linkSet a_atomSet a_kinds a_args a_parent a_kids a_first a_second a_depth a_pins a_win a_path a_choice b_link b_atom b_pins) : wpX_reply (fun r u' => wpY_reply (fun r' v' => r' = r ∧ i_Rel k u' v') ((nI S), (nI rm), (nI N), f_solved, f_playMode, (nI pl), b_link, b_atom, a_kinds, a_args, a_parent, b_pins, a_path, b_set, b_stand)) ((nI S), (nI rm), (nI N), f_solved, f_playMode, (nI pl), f_forceBase, f_outRow, f_badRow, f_reachRow, a_linkSet, a_atomSet, a_kinds, a_args, a_parent, a_kids, a_first, a_second, a_depth, a_pins, a_win, a_path, a_mv, a_choice, a_ranks, a_sets) := by
  have R : i_Rel k ((nI S), (nI rm), (nI N), f_solved, f_playMode, (nI pl), f_forceBase, f_outRow, f_badRow, f_reachRow, a_linkSet, a_atomSet, a_kinds, a_args, a_parent, a_kids, a_first, a_second, a_depth, a_pins, a_win, a_path, a_mv, a_choice, a_ranks, a_sets) ((nI S), (nI rm), (nI N), f_solved, f_playMode, (nI pl), b_link, b_atom, a_kinds, a_args, a_parent, b_pins, a_path, b_set, b_stand) := zr_in hI
  by_cases hpm : f_playMode = 1
  rotate_left
  · exact br_f hpm (br_f hpm ⟨rfl, R⟩)
  obtain ⟨hsv, hc, ⟨ch0, hfc⟩, hok, hpl, hv, hd, h70, n, s, hn, hs, hl, hex⟩ := zi_open hI hpm
  have hI' := hI
  obtain ⟨⟨⟨hS2, hS⟩, hrm, hNr⟩, hF, ⟨hL, hLY⟩, hA, hPP, hCh, hSv, hPl⟩ := hI'
  have hN := hF.1
  have hK := hF.2.1
  have H := zi_St hI hc
  have hdd : pg_D N S (n, s) := ⟨hn, hs⟩
  obtain ⟨q, hq⟩ : ∃ q, pl = q + 1 := ⟨pl - 1, by omega⟩
  have e1 : nI pl - 1 = nI (pl - 1) := by rw [hq, nI_pred]; rfl
  obtain ⟨P, ho⟩ : ∃ P, (zc_own a_kinds a_args a_atomSet) (n, s) = P := ⟨_, rfl⟩
  have own3 := zx_own_lt a_kinds a_args a_atomSet (n, s)
  -- Y up to the owner
  have toY : ∀ {Q : Int32 → SY → Prop}, ((nI P = 2 → wY_reply_122 Q 0 (nI S) (nI rm) (nI N) f_solved f_playMode (nI pl) b_link b_atom a_kinds a_args a_parent b_pins a_path b_set b_stand) ∧ (¬ nI P = 2 → wpY_advise (fun r_41 u => match u with | (f_sCount_42, f_nMax_43, f_count_44, f_solved_45, f_playNow_46, f_pathLen_47, a_link_48, a_atom_49, a_kind_50, a_arg_51, a_parent_52, a_pins_53, a_path_54, a_set_55, a_stand_56) => ((r_41 < 0 → ∃ n97 : Nat, wY_reply_97 Q (nI s) (nI n) f_sCount_42 f_nMax_43 f_count_44 f_solved_45 f_playNow_46 f_pathLen_47 a_link_48 a_atom_49 a_kind_50 a_arg_51 a_parent_52 a_pins_53 a_path_54 a_set_55 a_stand_56 n97 r_41 4) ∧ (¬ r_41 < 0 → (vp_in ((nI s * 14) + nI n) 70 ∧ ∀ pp, pp = upd a_pins_53 ((nI s * 14) + nI n).toNatClampNeg r_41 → wY_reply_122 Q r_41 f_sCount_42 f_nMax_43 f_count_44 f_solved_45 f_playNow_46 f_pathLen_47 a_link_48 a_atom_49 a_kind_50 a_arg_51 a_parent_52 pp a_path_54 a_set_55 a_stand_56)))) ((nI S), (nI rm), (nI N), f_solved, f_playMode, (nI pl), b_link, b_atom, a_kinds, a_args, a_parent, b_pins, a_path, b_set, b_stand) (nI s) (nI n))) → wpY_reply Q ((nI S), (nI rm), (nI N), f_solved, f_playMode, (nI pl), b_link, b_atom, a_kinds, a_args, a_parent, b_pins, a_path, b_set, b_stand) := by
    intro Q h
    refine br_t hpm (br_f (nI_nlt (b := 1) (by omega) (by omega)) (br_t (nI_le (b := 70) h70 (by decide)) ?_))
    rw [e1]
    refine ⟨zi_in (by omega) (by omega), ?_⟩
    rw [zi_c (by omega), hl]
    refine nm_r (zj_s (by omega) (by omega)) ⟨zi_in (by omega) (by omega), nm_r (zj_n (by omega) (by omega)) ?_⟩
    refine zy_own hK hA.1 hN hS hn hs ?_
    rw [ho]
    exact h
  refine br_t hpm (br_t (nI_le (a := 1) hpl (by omega)) ?_)
  rw [e1]
  refine ⟨zi_in (by omega) (by omega), ?_⟩
  rw [zi_c (by omega), hl]
  refine nm_e (nm_r (zj_s (by omega) (by omega)) (nm_r (zj_n (by omega) (by omega)) (zx_own (zf_C hF hS) hn hs ?_)))
  rw [ho]
  by_cases hP : P < 2
  rotate_left
  · -- nobody's
    have hP2 : P = 2 := by omega
    have hm0 : zc_lg a_kinds a_args a_linkSet a_pins (n, s) 0 := (H.2.2.2.2.2.2.1 (n, s) hdd (ho.trans hP2) 0).mpr rfl
    obtain ⟨r, sx, sy, rel⟩ := zi_step (k := k) hI hsv hc hpm hpl hn hs hv hd hl hm0
    refine br_t (by rw [hP2]; rfl) (sx (toY (br_t (by rw [hP2]; rfl) (sy ⟨rfl, rel a_mv a_ranks a_sets b_set b_stand⟩))))
  have hPn : ¬ nI P = 2 := fun z => absurd ((nI_eq (b := 2) (by omega) (by omega)).mp z) (by omega)
  refine br_f hPn (zx_wins (by omega) (by omega) hP (fun hw => br_f (by decide) ?_) (fun hw => br_t rfl ?_))
  · -- the owner wins: a keeping move, and it is pinned
    obtain ⟨mm, hmm, hleast⟩ := zk_ex H hN hS hP ho hdd hfc hw
    have hmm5 := zc_am_lt hS2 hS hL hmm.1.1
    refine zx_keepingMove hI hsv hc hn hs hP ho hfc hmm hleast (fun M ch ranks sets hch => ?_)
    rw [zi_5, zi_c (by omega)]
    refine ⟨zi_in (by omega) (by omega), nm_e ?_⟩
    have hpin := zr_pin_set hN hS hn hs hPP (m := nI mm) (Or.inr ⟨mm, rfl, zk_36 hI hn hmm.1.1 (by omega), hmm.1.1⟩)
    have epin := zk_pin (N := N) (S := S) (a_kinds := a_kinds) (a_args := a_args) (a_linkSet := a_linkSet) (a_pins := a_pins) hS hn hs hmm5 hmm.1.1
    obtain ⟨c2, hfc2⟩ := zk_keep H hP ho hdd hfc hmm
    have hfc3 : pg_FC N S (zc_nx a_kinds a_first a_second) (zc_lg a_kinds a_args a_linkSet (upd a_pins (n * 5 + s) (nI mm))) (zc_own a_kinds a_args a_atomSet) (zc_bk a_kinds) (zy_sv a_win) c2 := pg_FC_mv epin hfc2
    have hm' : zc_lg a_kinds a_args a_linkSet (upd a_pins (n * 5 + s) (nI mm)) (n, s) mm := ⟨hmm.1.1, Or.inr pk_us⟩
    have hI2 : zr_I N S rm pl f_solved f_playMode a_linkSet a_atomSet a_kinds a_args a_parent a_kids a_first a_second a_depth (upd a_pins (n * 5 + s) (nI mm)) a_win a_path ch b_link b_atom (upd b_pins (s * 14 + n) (nI mm)) := by
      refine ⟨⟨⟨hS2, hS⟩, hrm, hNr⟩, hF, ⟨hL, hLY⟩, hA, hpin, hch, Or.inr ⟨hsv, hc, ⟨c2, hfc3⟩, hok⟩, hPl.1, Or.inr ⟨hsv, hpl, hv, Or.inr ⟨hpm, hd, fun n' s' hn' hs' e => ⟨mm, ?_⟩⟩⟩⟩
      have := zj_inj (by omega) (by omega) (by omega) (by omega) (hl.symm.trans e)
      rw [← this.1, ← this.2]
      exact hm'
    obtain ⟨r, sx, sy, rel⟩ := zi_step (k := k) (a_mv := M) (a_ranks := ranks) (a_sets := sets) (f_forceBase := f_forceBase) (f_outRow := f_outRow) (f_badRow := f_badRow) (f_reachRow := f_reachRow) hI2 hsv hc hpm hpl hn hs hv hd hl hm'
    refine sx (toY (br_f hPn ?_))
    refine zy_advise hI hsv hc hn hs ho hfc (fun z => absurd z (by omega)) (fun _ z => absurd hw z) (fun _ _ m2 hm2 hl2 set st => ?_)
    have : m2 = mm := by
      rcases Nat.lt_or_ge m2 mm with z | z
      · exact absurd hm2 (hleast m2 z)
      · rcases Nat.lt_or_ge mm m2 with w | w
        · exact absurd hmm (hl2 mm w)
        · omega
    rw [this]
    refine br_f (nI_pos (by omega)) ?_
    rw [zi_s14, zi_c (by omega)]
    refine ⟨zi_in (by omega) (by omega), nm_e (sy ⟨rfl, rel M ranks sets set st⟩)⟩
  · -- he doesn't: the least move
    refine zx_legal hK hPP.1 hL hN hS2 hS hn hs (fun x hx => ?_)
    obtain ⟨m0, hm0⟩ := hex
    have hm05 := zc_am_lt hS2 hS hL hm0.1
    refine zx_lb (fun j hj hb hleast => ?_) (fun hno => absurd ((hx m0).mpr hm0) (hno m0 hm05))
    have hlg := (hx j).mp hb
    obtain ⟨r, sx, sy, rel⟩ := zi_step (k := k) hI hsv hc hpm hpl hn hs hv hd hl hlg
    refine sx (toY (br_f hPn ?_))
    refine zy_advise hI hsv hc hn hs ho hfc (fun z => absurd z (by omega)) (fun _ _ set st => br_t (by decide) ⟨6, ?_⟩) (fun _ z => absurd z hw)
    -- Y's search from above
    have main : ∀ i, i ≤ 5 → ∀ x3 : Int32, (i ≤ j → x3 = nI j) → wY_reply_97 (fun r' v' => r' = nI j ∧ i_Rel k ((nI S), (nI rm), (nI N), f_solved, r, (nI (pl + 1)), f_forceBase, f_outRow, f_badRow, f_reachRow, a_linkSet, a_atomSet, a_kinds, a_args, a_parent, a_kids, a_first, a_second, a_depth, a_pins, a_win, (upd a_path pl (nI (((zc_nx a_kinds a_first a_second) (n, s) j).2 * 16 + ((zc_nx a_kinds a_first a_second) (n, s) j).1))), a_mv, a_choice, a_ranks, a_sets) v') (nI s) (nI n) (nI S) (nI rm) (nI N) f_solved f_playMode (nI pl) b_link b_atom a_kinds a_args a_parent b_pins a_path set st (i + 1) x3 (nI i - 1) := by
      intro i
      induction i with
      | zero =>
        intro _ x3 hx3
        rw [hx3 (Nat.zero_le _)]
        exact br_t (by decide) (sy ⟨rfl, rel a_mv a_ranks a_sets set st⟩)
      | succ i ih =>
        intro hi x3 hx3
        rw [nI_pred]
        refine br_f (nI_pos (by omega)) (zy_legalN hK hLY hL hPP.2 hN hS hn hs (by omega) (fun g => br_f (by decide) (nm_r (zi_dm i) (ih (by omega) (nI i) (fun z => ?_)))) (fun g => br_t rfl (nm_r (zi_dm i) (ih (by omega) x3 (fun z => ?_)))))
        · rcases Nat.lt_or_ge i j with w | w
          · exact absurd ((hx i).mpr g) (hleast i w)
          · rw [show i = j by omega]
        · rcases Nat.lt_or_ge i j with w | w
          · exact hx3 (by omega)
          · exact absurd (by rw [show i = j by omega]; exact hlg) g
    exact main 5 (Nat.le_refl _) (-1) (fun z => absurd z (by omega))
end
theorem i_vc_move {k : Nat} {u : SX} {v : SY} (I : i_Rel k u v) (hk : k + 5 ≤ 2562) (v1 : Int32) : wpX_move (fun r u' => wpY_move (fun r' v' => r' = r ∧ i_Rel (k + 5) u' v') v v1) u v1 :=
  zr_el (P := fun u v => wpX_move (fun r u' => wpY_move (fun r' v' => r' = r ∧ i_Rel (k + 5) u' v') v v1) u v1) (fun _ _ _ _ _ _ _ _ _ _ _ _ _ _ _ _ _ _ _ _ _ _ _ _ _ _ _ _ _ _ _ hI => zi_move hI v1) I
theorem i_vc_reply {k : Nat} {u : SX} {v : SY} (I : i_Rel k u v) (hk : k + 5 ≤ 2562) : wpX_reply (fun r u' => wpY_reply (fun r' v' => r' = r ∧ i_Rel (k + 5) u' v') v) u :=
  zr_el (P := fun u v => wpX_reply (fun r u' => wpY_reply (fun r' v' => r' = r ∧ i_Rel (k + 5) u' v') v) u) (fun _ _ _ _ _ _ _ _ _ _ _ _ _ _ _ _ _ _ _ _ _ _ _ _ _ _ _ _ _ _ _ hI => zi_reply hI) I
end
