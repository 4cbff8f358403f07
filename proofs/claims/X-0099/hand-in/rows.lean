section
/-! rows taken from the kit's PURE-ROWS (a starting text) -/
theorem pk_us {f : Nat → Int32} {k : Nat} {x : Int32} : upd f k x k = x := if_pos rfl
theorem pk_un {f : Nat → Int32} {k j : Nat} {x : Int32} (h : j ≠ k) : upd f k x j = f j := if_neg h
theorem pk_sub {a b : Nat} (h : b ≤ a) : nI a - nI b = nI (a - b) := by
  obtain ⟨c, rfl⟩ : ∃ c, a = c + b := ⟨a - b, by omega⟩
  rw [← nI_add, Int32.add_sub_cancel, Nat.add_sub_cancel]
theorem pk_m1 (n : Nat) : nI (n + 1) + (-1) = nI n := by
  rw [← nI_1, Int32.add_assoc, show (1 : Int32) + (-1) = 0 from rfl, Int32.add_zero]
theorem pk_mul (a b : Nat) : nI a * nI b = nI (a * b) := (Int32.ofNat_mul a b).symm
theorem pk_div {a d : Nat} (ha : a < 2 ^ 31) (h0 : 0 < d) (hd : d < 2 ^ 31) : nI a / nI d = nI (a / d) := by
  apply Int32.toInt_inj.mp
  rw [lg_idiv_nonneg (by rw [nI_toInt ha]; omega) (by rw [nI_toInt hd]; omega), nI_toInt ha, nI_toInt hd, nI_toInt (Nat.lt_of_le_of_lt (Nat.div_le_self a d) ha)]
  first | rfl | exact (Int.natCast_ediv _ _).symm
theorem pk_rem {a d : Nat} (ha : a < 2 ^ 31) (h0 : 0 < d) (hd : d < 2 ^ 31) : nI a - nI a / nI d * nI d = nI (a % d) := by
  rw [pk_div ha h0 hd, pk_mul, pk_sub (Nat.div_mul_le_self a d)]
  exact congrArg nI (by have := Nat.div_add_mod' a d; omega)
theorem pk_sub_toInt {a b : Nat} (ha : a < 2 ^ 30) (hb : b < 2 ^ 30) : (nI a - nI b).toInt = (a : Int) - b := by
  rw [Int32.toInt_sub, nI_toInt (by omega), nI_toInt (by omega)]
  exact Int.bmod_eq_of_le (by omega) (by omega)
theorem pk_ix (x : Int32) {n : Nat} (hn : n < 2 ^ 31) : x < 0 ∨ nI n ≤ x ∨ ∃ j : Nat, j < n ∧ x = nI j := by
  by_cases h : x < 0
  · exact Or.inl h
  · obtain ⟨j, hj, rfl⟩ := nI_of h
    by_cases h2 : j < n
    · exact Or.inr (Or.inr ⟨j, h2, rfl⟩)
    · exact Or.inr (Or.inl (nI_le (by omega) hj))
theorem pk_le {x y : Int32} {A B : Prop} (a b : Nat) (f : a ≤ b → A) (g : b < a → B) (hx : x = nI a := by rfl) (hy : y = nI b := by rfl) (ha : a < 2 ^ 31 := by omega) (hb : b < 2 ^ 31 := by omega) : (x ≤ y → A) ∧ (¬ x ≤ y → B) := by
  subst hx hy
  rw [nI_leI ha hb]
  exact ⟨f, fun z => g (by omega)⟩
theorem pk_lt {x y : Int32} {A B : Prop} (a b : Nat) (f : a < b → A) (g : b ≤ a → B) (hx : x = nI a := by rfl) (hy : y = nI b := by rfl) (ha : a < 2 ^ 31 := by omega) (hb : b < 2 ^ 31 := by omega) : (x < y → A) ∧ (¬ x < y → B) := by
  subst hx hy
  rw [nI_ltI ha hb]
  exact ⟨f, fun z => g (by omega)⟩
theorem pk_eq {x y : Int32} {A B : Prop} (a b : Nat) (f : a = b → A) (g : a ≠ b → B) (hx : x = nI a := by rfl) (hy : y = nI b := by rfl) (ha : a < 2 ^ 31 := by omega) (hb : b < 2 ^ 31 := by omega) : (x = y → A) ∧ (¬ x = y → B) := by
  subst hx hy
  rw [nI_eq ha hb]
  exact ⟨f, g⟩
theorem pk_in {x : Int32} (n N : Nat) (h : n < N) (hx : x = nI n := by rfl) (hN : N < 2 ^ 31 := by omega) : vp_in x N := by
  subst hx
  exact vp_in_nI h hN
theorem pk_cl {x : Int32} (n : Nat) (hx : x = nI n := by rfl) (h : n < 2 ^ 31 := by omega) : x.toNatClampNeg = n := by
  subst hx
  exact nI_clamp h
theorem pk_tn {n : Nat} (h : n < 2 ^ 32) : (nI n).toBitVec.toNat = n := Nat.mod_eq_of_lt h
theorem pk_shl (a s : Int32) (k : Nat) (hs : (s.toBitVec.smod 32).toNat = k) : (a <<< s).toBitVec.toNat = a.toBitVec.toNat * 2 ^ k % 2 ^ 32 := by
  show (a.toBitVec <<< (s.toBitVec.smod 32).toNat).toNat = _
  rw [hs, BitVec.toNat_shiftLeft, Nat.shiftLeft_eq]
theorem pk_shlN {n : Nat} (s : Int32) (k : Nat) (hs : (s.toBitVec.smod 32).toNat = k) (h : n * 2 ^ k < 2 ^ 32) : nI n <<< s = nI (n * 2 ^ k) := by
  apply Int32.toBitVec_inj.mp
  apply BitVec.eq_of_toNat_eq
  have hn : n < 2 ^ 32 := Nat.lt_of_le_of_lt (Nat.le_mul_of_pos_right n (Nat.two_pow_pos k)) h
  rw [pk_shl _ _ k hs, pk_tn hn, pk_tn h, Nat.mod_eq_of_lt h]
end
section
/-! numbers, counts, the pure pictures -/
theorem ld_b1 : vp_nar .boolean 1 = 1 := rfl
theorem ld_b0 : vp_nar .boolean 0 = 0 := rfl
theorem ld_bz (v : Int32) : vp_nar .boolean (lw_bz v) = lw_bz v := by
  rcases lw_bz_01 v with h | h <;> rw [h] <;> rfl
theorem ld_same {f : Nat → Int32} {k : Nat} {x : Int32} (h : f k = x) : upd f k x = f := by
  funext j
  by_cases e : j = k
  · subst e
    rw [pk_us, h]
  · rw [pk_un e]
theorem ld_n5 : (5 : Int32) = nI 5 := by decide +kernel
theorem ld_n8 : (8 : Int32) = nI 8 := by decide +kernel
theorem ld_n16 : (16 : Int32) = nI 16 := by decide +kernel
theorem ld_n256 : (256 : Int32) = nI 256 := by decide +kernel
theorem ld_ix16 (q e : Nat) : nI q * 16 + nI e = nI (q * 16 + e) := by
  rw [ld_n16, pk_mul, nI_add]
theorem ld_in16 {q e : Nat} (hq : q < 8) (he : e < 16) : vp_in (nI q * 16 + nI e) 128 := by
  rw [ld_ix16]
  exact vp_in_nI (by omega) (by omega)
theorem ld_cl16 {q e : Nat} (hq : q < 8) (he : e < 16) : (nI q * 16 + nI e).toNatClampNeg = q * 16 + e := by
  rw [ld_ix16]
  exact nI_clamp (by omega)
theorem ld_ix8 (c i : Nat) : nI c * 8 + nI i = nI (c * 8 + i) := by
  rw [ld_n8, pk_mul, nI_add]
theorem ld_in8 {c i : Nat} (hc : c < 4) (hi : i < 8) : vp_in (nI c * 8 + nI i) 32 := by
  rw [ld_ix8]
  exact vp_in_nI (by omega) (by omega)
theorem ld_cl8 {c i : Nat} (hc : c < 4) (hi : i < 8) : (nI c * 8 + nI i).toNatClampNeg = c * 8 + i := by
  rw [ld_ix8]
  exact nI_clamp (by omega)
theorem ld_ix5 (e p : Nat) : nI e * 5 + nI p = nI (e * 5 + p) := by
  rw [ld_n5, pk_mul, nI_add]
theorem ld_in5 {e p : Nat} (he : e < 17) (hp : p < 5) : vp_in (nI e * 5 + nI p) 85 := by
  rw [ld_ix5]
  exact vp_in_nI (by omega) (by omega)
theorem ld_cl5 {e p : Nat} (he : e < 17) (hp : p < 5) : (nI e * 5 + nI p).toNatClampNeg = e * 5 + p := by
  rw [ld_ix5]
  exact nI_clamp (by omega)
theorem ld_rem5 {a : Nat} (ha : a < 2 ^ 31) : nI a - nI a / 5 * 5 = nI (a % 5) := by
  rw [ld_n5]
  exact pk_rem ha (by decide) (by decide)
theorem ld_hix {e s i : Nat} (h : s + i < 2 ^ 31) : nI e * 5 + ((nI s + nI i) - (nI s + nI i) / 5 * 5) = nI (e * 5 + (s + i) % 5) := by
  rw [nI_add, ld_rem5 h, ld_ix5]
theorem ld_lt5 (a : Nat) : a % 5 < 5 := Nat.mod_lt a (by decide)
/-- v isn't an index below N -/
def ld_BD (N : Nat) (v : Int32) : Prop := v < 0 ∨ nI N ≤ v
theorem ld_tri (v : Int32) {N : Nat} (hN : N < 2 ^ 31) : ld_BD N v ∨ ∃ q, q < N ∧ v = nI q := by
  rcases pk_ix v hN with h | h | h
  · exact Or.inl (Or.inl h)
  · exact Or.inl (Or.inr h)
  · exact Or.inr h
theorem ld_tri3 (v : Int32) : v < 1 ∨ 3 < v ∨ ∃ c, 1 ≤ c ∧ c < 4 ∧ v = nI c := by
  have h1 : (1 : Int32).toInt = 1 := by decide
  have h3 : (3 : Int32).toInt = 3 := by decide
  have h4 : (nI 4).toInt = 4 := by decide
  rcases pk_ix v (n := 4) (by decide) with h | h | ⟨c, hc, rfl⟩
  · refine Or.inl ?_
    have h0 : (0 : Int32).toInt = 0 := by decide
    rw [Int32.lt_iff_toInt_lt] at h ⊢
    omega
  · refine Or.inr (Or.inl ?_)
    rw [Int32.le_iff_toInt_le] at h
    rw [Int32.lt_iff_toInt_lt]
    omega
  · by_cases h0 : c = 0
    · subst h0
      exact Or.inl (by decide)
    · exact Or.inr (Or.inr ⟨c, by omega, hc, rfl⟩)
theorem ld_nlt1 {c : Nat} (h1 : 1 ≤ c) (h4 : c < 4) : ¬ nI c < 1 := nI_nlt (b := 1) h1 (by omega)
theorem ld_nlt3 {c : Nat} (h4 : c < 4) : ¬ (3 : Int32) < nI c := nI_nlt (a := 3) (by omega) (by decide)
theorem ld_le3 {c : Nat} (h4 : c < 4) : nI c ≤ 3 := nI_le (b := 3) (by omega) (by decide)
theorem ld_ge5 {v : Int32} (h : ¬ v < 0) (h5 : nI 5 ≤ v) : 4 < v := by
  have h1 : (4 : Int32).toInt = 4 := by decide
  have h2 : (nI 5).toInt = 5 := by decide
  rw [Int32.le_iff_toInt_le] at h5
  rw [Int32.lt_iff_toInt_lt]
  omega
/-- how many of f 0 .. f (n - 1) are set -/
def ld_ct (f : Nat → Int32) : Nat → Nat
  | 0 => 0
  | i + 1 => ld_ct f i + (if f i = 0 then 0 else 1)
theorem ld_ct0 {f : Nat → Int32} {i : Nat} (h : f i = 0) : ld_ct f (i + 1) = ld_ct f i := by
  show ld_ct f i + _ = _
  rw [if_pos h]
  rfl
theorem ld_ct1 {f : Nat → Int32} {i : Nat} (h : ¬ f i = 0) : ld_ct f (i + 1) = ld_ct f i + 1 := by
  show ld_ct f i + _ = _
  rw [if_neg h]
theorem ld_ct_le (f : Nat → Int32) : ∀ n, ld_ct f n ≤ n
  | 0 => Nat.le_refl 0
  | n + 1 => by
    have ih := ld_ct_le f n
    by_cases h : f n = 0
    · rw [ld_ct0 h]; omega
    · rw [ld_ct1 h]; omega
theorem ld_ct_mono {f g : Nat → Int32} : ∀ n, (∀ i, i < n → ¬ f i = 0 → ¬ g i = 0) → ld_ct f n ≤ ld_ct g n
  | 0, _ => Nat.le_refl 0
  | n + 1, h => by
    have ih := ld_ct_mono n (fun i hi => h i (by omega))
    by_cases hf : f n = 0
    · rw [ld_ct0 hf]
      by_cases hg : g n = 0
      · rw [ld_ct0 hg]; exact ih
      · rw [ld_ct1 hg]; omega
    · rw [ld_ct1 hf, ld_ct1 (h n (by omega) hf)]
      omega
theorem ld_ct_congr {f g : Nat → Int32} (n : Nat) (h : ∀ i, i < n → f i = g i) : ld_ct f n = ld_ct g n :=
  Nat.le_antisymm (ld_ct_mono n (fun i hi hf => by rw [← h i hi]; exact hf)) (ld_ct_mono n (fun i hi hf => by rw [h i hi]; exact hf))
theorem ld_ct_zero {f : Nat → Int32} : ∀ n, (∀ i, i < n → f i = 0) → ld_ct f n = 0
  | 0, _ => rfl
  | n + 1, h => by rw [ld_ct0 (h n (by omega)), ld_ct_zero n (fun i hi => h i (by omega))]
/-- one more set at q: at most one more counted -/
theorem ld_ct_upd {f : Nat → Int32} {q : Nat} {x : Int32} : ∀ n, ld_ct (upd f q x) n ≤ ld_ct f n + (if q < n then 1 else 0)
  | 0 => Nat.zero_le _
  | n + 1 => by
    have ih := ld_ct_upd (f := f) (q := q) (x := x) n
    by_cases e : n = q
    · subst e
      rw [if_neg (Nat.lt_irrefl n)] at ih
      rw [if_pos (Nat.lt_succ_self n)]
      have h1 : ld_ct (upd f n x) (n + 1) ≤ ld_ct (upd f n x) n + 1 := by
        by_cases h : upd f n x n = 0
        · rw [ld_ct0 h]; omega
        · rw [ld_ct1 h]; omega
      have h2 : ld_ct f n ≤ ld_ct f (n + 1) := by
        by_cases h : f n = 0
        · rw [ld_ct0 h]; omega
        · rw [ld_ct1 h]; omega
      omega
    · have hq : (if q < n + 1 then 1 else 0) = (if q < n then 1 else 0) := by
        by_cases h : q < n
        · rw [if_pos h, if_pos (by omega)]
        · rw [if_neg h, if_neg (by omega)]
      rw [hq]
      by_cases h : f n = 0
      · rw [ld_ct0 h, ld_ct0 (by rw [pk_un e]; exact h)]
        exact ih
      · rw [ld_ct1 h, ld_ct1 (by rw [pk_un e]; exact h)]
        omega
/-- the members are nodes -/
def ld_MV (mem : Nat → Int32) (N : Nat) : Prop := ∀ j, ∃ m, m < N ∧ mem j = nI m
theorem ld_MV8 {mem : Nat → Int32} {N : Nat} (h : ld_MV mem N) (hN : N ≤ 8) : ld_MV mem 8 := fun j => by
  obtain ⟨m, hm, e⟩ := h j
  exact ⟨m, by omega, e⟩
/-- the acks of entry e's homes -/
def ld_ah (mem ack : Nat → Int32) (e : Nat) : Nat → Int32 := fun i => ack ((mem (e * 5 + (e + i) % 5)).toNatClampNeg * 16 + e)
/-- what client c has heard of the stripe s -/
def ld_sh (mem hY : Nat → Int32) (C c s : Nat) : Nat → Int32 := fun i => hY (c * 8 + (mem (C * 5 + (s + i) % 5)).toNatClampNeg)
/-- F: how many entries from 0 on are complete -/
def ld_CF (mem ack : Nat → Int32) (A F : Nat) : Prop := F ≤ A ∧ (∀ e, e < F → 2 ≤ ld_ct (ld_ah mem ack e) 3) ∧ (F < A → ld_ct (ld_ah mem ack F) 3 < 2)
theorem ld_CFex (mem ack : Nat → Int32) (A : Nat) : ∀ d F0, F0 + d = A → (∀ e, e < F0 → 2 ≤ ld_ct (ld_ah mem ack e) 3) → ∃ F, F0 ≤ F ∧ ld_CF mem ack A F
  | 0, F0, h, hp => ⟨F0, Nat.le_refl _, by omega, hp, fun z => by omega⟩
  | d + 1, F0, h, hp => by
    by_cases z : ld_ct (ld_ah mem ack F0) 3 < 2
    · exact ⟨F0, Nat.le_refl _, by omega, hp, fun _ => z⟩
    · obtain ⟨F, hF, hc⟩ := ld_CFex mem ack A d (F0 + 1) (by omega) (fun e he => by
        by_cases q : e = F0
        · rw [q]; omega
        · exact hp e (by omega))
      exact ⟨F, by omega, hc⟩
/-- L is the greatest carried number of the held entries below C of node q, or -1 -/
def ld_LC (hld car : Nat → Int32) (C q : Nat) (L : Int32) : Prop :=
  (-1 : Int32) ≤ L ∧ (∀ e, e < C → ¬ hld (q * 16 + e) = 0 → car e ≤ L) ∧ (L = -1 ∨ ∃ e, e < C ∧ ¬ hld (q * 16 + e) = 0 ∧ car e = L)
theorem ld_LC0 (hld car : Nat → Int32) (q : Nat) : ld_LC hld car 0 q (-1) :=
  ⟨Int32.le_refl _, fun e he => absurd he (Nat.not_lt_zero e), Or.inl rfl⟩
theorem ld_LCa {hld car : Nat → Int32} {e q : Nat} {L : Int32} (h : ld_LC hld car e q L) (hz : hld (q * 16 + e) = 0) : ld_LC hld car (e + 1) q L := by
  obtain ⟨h1, h2, h3⟩ := h
  refine ⟨h1, fun e' he' hh => ?_, ?_⟩
  · by_cases q' : e' = e
    · rw [q'] at hh; exact absurd hz hh
    · exact h2 e' (by omega) hh
  · rcases h3 with h3 | ⟨e', a, b⟩
    · exact Or.inl h3
    · exact Or.inr ⟨e', by omega, b⟩
theorem ld_LCb {hld car : Nat → Int32} {e q : Nat} {L : Int32} (h : ld_LC hld car e q L) (hz : car e ≤ L) : ld_LC hld car (e + 1) q L := by
  obtain ⟨h1, h2, h3⟩ := h
  refine ⟨h1, fun e' he' hh => ?_, ?_⟩
  · by_cases q' : e' = e
    · rw [q']; exact hz
    · exact h2 e' (by omega) hh
  · rcases h3 with h3 | ⟨e', a, b⟩
    · exact Or.inl h3
    · exact Or.inr ⟨e', by omega, b⟩
theorem ld_LCc {hld car : Nat → Int32} {e q : Nat} {L : Int32} (h : ld_LC hld car e q L) (hh : ¬ hld (q * 16 + e) = 0) (hz : ¬ car e ≤ L) : ld_LC hld car (e + 1) q (car e) := by
  obtain ⟨h1, h2, h3⟩ := h
  have hz' : L ≤ car e := Int32.le_of_lt (Int32.not_le.mp hz)
  refine ⟨Int32.le_trans h1 hz', fun e' he' hh => ?_, Or.inr ⟨e, by omega, hh, rfl⟩⟩
  by_cases q' : e' = e
  · rw [q']; exact Int32.le_refl _
  · exact Int32.le_trans (h2 e' (by omega) hh) hz'
theorem ld_LCle {hld car : Nat → Int32} {C q : Nat} {L M : Int32} (h : ld_LC hld car C q L) (k : ld_LC hld car C q M) : L ≤ M := by
  rcases h.2.2 with e | ⟨e, a, b, c⟩
  · rw [e]; exact k.1
  · rw [← c]; exact k.2.1 e a b
theorem ld_LCu {hld car : Nat → Int32} {C q : Nat} {L M : Int32} (h : ld_LC hld car C q L) (k : ld_LC hld car C q M) : L = M :=
  Int32.le_antisymm (ld_LCle h k) (ld_LCle k h)
/-- the pair of store: node q's number behind a store of e -/
def ld_sl (lac car : Nat → Int32) (q e : Nat) : Nat → Int32 := if car e ≤ lac q then lac else upd lac q (car e)
theorem ld_sl_n {lac car : Nat → Int32} {q e j : Nat} (h : j ≠ q) : ld_sl lac car q e j = lac j := by
  unfold ld_sl
  by_cases z : car e ≤ lac q
  · rw [if_pos z]
  · rw [if_neg z, pk_un h]
theorem ld_LCput {hld car lac : Nat → Int32} {C q e : Nat} (h : ld_LC hld car C q (lac q)) (he : e < C) : ld_LC (upd hld (q * 16 + e) 1) car C q (ld_sl lac car q e q) := by
  obtain ⟨h1, h2, h3⟩ := h
  have hs : ¬ upd hld (q * 16 + e) 1 (q * 16 + e) = 0 := by rw [pk_us]; decide
  have hn : ∀ e', e' ≠ e → upd hld (q * 16 + e) 1 (q * 16 + e') = hld (q * 16 + e') := fun e' z => pk_un (by omega)
  unfold ld_sl
  by_cases z : car e ≤ lac q
  · rw [if_pos z]
    refine ⟨h1, fun e' he' hh => ?_, ?_⟩
    · by_cases q' : e' = e
      · rw [q']; exact z
      · rw [hn e' q'] at hh; exact h2 e' he' hh
    · rcases h3 with h3 | ⟨e', a, b, c⟩
      · exact Or.inl h3
      · refine Or.inr ⟨e', a, ?_, c⟩
        by_cases q' : e' = e
        · rw [q']; exact hs
        · rw [hn e' q']; exact b
  · rw [if_neg z, pk_us]
    have hz' : lac q ≤ car e := Int32.le_of_lt (Int32.not_le.mp z)
    refine ⟨Int32.le_trans h1 hz', fun e' he' hh => ?_, Or.inr ⟨e, he, hs, rfl⟩⟩
    by_cases q' : e' = e
    · rw [q']; exact Int32.le_refl _
    · rw [hn e' q'] at hh; exact Int32.le_trans (h2 e' he' hh) hz'
theorem ld_LCx {hld car hld' car' : Nat → Int32} {C q : Nat} {L : Int32} (h : ld_LC hld car C q L) (e1 : ∀ e, e < C → hld' (q * 16 + e) = hld (q * 16 + e)) (e2 : ∀ e, e < C → ¬ hld (q * 16 + e) = 0 → car' e = car e) : ld_LC hld' car' C q L := by
  obtain ⟨h1, h2, h3⟩ := h
  refine ⟨h1, fun e he hh => ?_, ?_⟩
  · rw [e1 e he] at hh
    rw [e2 e he hh]
    exact h2 e he hh
  · rcases h3 with h3 | ⟨e, a, b, c⟩
    · exact Or.inl h3
    · exact Or.inr ⟨e, a, by rw [e1 e a]; exact b, by rw [e2 e a b]; exact c⟩
end
section
/-! heard: a bit set and eight booleans -/
def ld_bb (x : Int32) : Bool := decide (¬ x = 0)
theorem ld_bb0 {x : Int32} (h : x = 0) : ld_bb x = false := decide_eq_false (fun z => z h)
theorem ld_bb1 {x : Int32} (h : ¬ x = 0) : ld_bb x = true := decide_eq_true h
theorem ld_bbi (x : Int32) (k : Nat) : (if x = 0 then 0 else k) = k * (ld_bb x).toNat := by
  by_cases h : x = 0
  · rw [if_pos h, ld_bb0 h]; rfl
  · rw [if_neg h, ld_bb1 h]; exact (Nat.mul_one k).symm
/-- the sum of the bits below n -/
def ld_hp (b : Nat → Int32) : Nat → Nat
  | 0 => 0
  | i + 1 => ld_hp b i + (if b i = 0 then 0 else 2 ^ i)
def ld_vv (a b c d e f g h : Bool) : Nat := a.toNat + 2 * b.toNat + 4 * c.toNat + 8 * d.toNat + 16 * e.toNat + 32 * f.toNat + 64 * g.toNat + 128 * h.toNat
def ld_cc (a b c d e f g h : Bool) : Nat := a.toNat + b.toNat + c.toNat + d.toNat + e.toNat + f.toNat + g.toNat + h.toNat
theorem ld_hp8 (b : Nat → Int32) : ld_hp b 8 = ld_vv (ld_bb (b 0)) (ld_bb (b 1)) (ld_bb (b 2)) (ld_bb (b 3)) (ld_bb (b 4)) (ld_bb (b 5)) (ld_bb (b 6)) (ld_bb (b 7)) := by
  simp only [ld_hp, ld_vv, ld_bbi]
  omega
theorem ld_ct8 (b : Nat → Int32) : ld_ct b 8 = ld_cc (ld_bb (b 0)) (ld_bb (b 1)) (ld_bb (b 2)) (ld_bb (b 3)) (ld_bb (b 4)) (ld_bb (b 5)) (ld_bb (b 6)) (ld_bb (b 7)) := by
  simp only [ld_ct, ld_cc, ld_bbi]
  omega
theorem ld_two8 : ∀ a b c d e f g h : Bool, (nI (ld_vv a b c d e f g h) &&& (nI (ld_vv a b c d e f g h) - 1)) = 0 ↔ ld_cc a b c d e f g h < 2 := by decide +kernel
theorem ld_two (b : Nat → Int32) : (nI (ld_hp b 8) &&& (nI (ld_hp b 8) - 1)) = 0 ↔ ld_ct b 8 < 2 := by
  rw [ld_hp8, ld_ct8]
  exact ld_two8 _ _ _ _ _ _ _ _
theorem ld_or0 : ∀ a b c d e f g h : Bool, nI (ld_vv a b c d e f g h) ||| ((1 : Int32) <<< (nI 0 &&& 31)) = nI (ld_vv true b c d e f g h) := by decide +kernel
theorem ld_or1 : ∀ a b c d e f g h : Bool, nI (ld_vv a b c d e f g h) ||| ((1 : Int32) <<< (nI 1 &&& 31)) = nI (ld_vv a true c d e f g h) := by decide +kernel
theorem ld_or2 : ∀ a b c d e f g h : Bool, nI (ld_vv a b c d e f g h) ||| ((1 : Int32) <<< (nI 2 &&& 31)) = nI (ld_vv a b true d e f g h) := by decide +kernel
theorem ld_or3 : ∀ a b c d e f g h : Bool, nI (ld_vv a b c d e f g h) ||| ((1 : Int32) <<< (nI 3 &&& 31)) = nI (ld_vv a b c true e f g h) := by decide +kernel
theorem ld_or4 : ∀ a b c d e f g h : Bool, nI (ld_vv a b c d e f g h) ||| ((1 : Int32) <<< (nI 4 &&& 31)) = nI (ld_vv a b c d true f g h) := by decide +kernel
theorem ld_or5 : ∀ a b c d e f g h : Bool, nI (ld_vv a b c d e f g h) ||| ((1 : Int32) <<< (nI 5 &&& 31)) = nI (ld_vv a b c d e true g h) := by decide +kernel
theorem ld_or6 : ∀ a b c d e f g h : Bool, nI (ld_vv a b c d e f g h) ||| ((1 : Int32) <<< (nI 6 &&& 31)) = nI (ld_vv a b c d e f true h) := by decide +kernel
theorem ld_or7 : ∀ a b c d e f g h : Bool, nI (ld_vv a b c d e f g h) ||| ((1 : Int32) <<< (nI 7 &&& 31)) = nI (ld_vv a b c d e f g true) := by decide +kernel
theorem ld_or (b : Nat → Int32) {q : Nat} (hq : q < 8) : nI (ld_hp b 8) ||| ((1 : Int32) <<< (nI q &&& 31)) = nI (ld_hp (upd b q 1) 8) := by
  rw [ld_hp8, ld_hp8]
  have e : q = 0 ∨ q = 1 ∨ q = 2 ∨ q = 3 ∨ q = 4 ∨ q = 5 ∨ q = 6 ∨ q = 7 := by omega
  rcases e with rfl | rfl | rfl | rfl | rfl | rfl | rfl | rfl
  · exact ld_or0 _ _ _ _ _ _ _ _
  · exact ld_or1 _ _ _ _ _ _ _ _
  · exact ld_or2 _ _ _ _ _ _ _ _
  · exact ld_or3 _ _ _ _ _ _ _ _
  · exact ld_or4 _ _ _ _ _ _ _ _
  · exact ld_or5 _ _ _ _ _ _ _ _
  · exact ld_or6 _ _ _ _ _ _ _ _
  · exact ld_or7 _ _ _ _ _ _ _ _
theorem ld_bt0 : ∀ a b c d e f g h : Bool, (nI (ld_vv a b c d e f g h) >>> (nI 0 &&& 31)) &&& 1 = nI a.toNat := by decide +kernel
theorem ld_bt1 : ∀ a b c d e f g h : Bool, (nI (ld_vv a b c d e f g h) >>> (nI 1 &&& 31)) &&& 1 = nI b.toNat := by decide +kernel
theorem ld_bt2 : ∀ a b c d e f g h : Bool, (nI (ld_vv a b c d e f g h) >>> (nI 2 &&& 31)) &&& 1 = nI c.toNat := by decide +kernel
theorem ld_bt3 : ∀ a b c d e f g h : Bool, (nI (ld_vv a b c d e f g h) >>> (nI 3 &&& 31)) &&& 1 = nI d.toNat := by decide +kernel
theorem ld_bt4 : ∀ a b c d e f g h : Bool, (nI (ld_vv a b c d e f g h) >>> (nI 4 &&& 31)) &&& 1 = nI e.toNat := by decide +kernel
theorem ld_bt5 : ∀ a b c d e f g h : Bool, (nI (ld_vv a b c d e f g h) >>> (nI 5 &&& 31)) &&& 1 = nI f.toNat := by decide +kernel
theorem ld_bt6 : ∀ a b c d e f g h : Bool, (nI (ld_vv a b c d e f g h) >>> (nI 6 &&& 31)) &&& 1 = nI g.toNat := by decide +kernel
theorem ld_bt7 : ∀ a b c d e f g h : Bool, (nI (ld_vv a b c d e f g h) >>> (nI 7 &&& 31)) &&& 1 = nI h.toNat := by decide +kernel
theorem ld_bt (b : Nat → Int32) {q : Nat} (hq : q < 8) : (nI (ld_hp b 8) >>> (nI q &&& 31)) &&& 1 = nI (if b q = 0 then 0 else 1) := by
  rw [ld_hp8, ld_bbi, Nat.one_mul]
  have e : q = 0 ∨ q = 1 ∨ q = 2 ∨ q = 3 ∨ q = 4 ∨ q = 5 ∨ q = 6 ∨ q = 7 := by omega
  rcases e with rfl | rfl | rfl | rfl | rfl | rfl | rfl | rfl
  · exact ld_bt0 _ _ _ _ _ _ _ _
  · exact ld_bt1 _ _ _ _ _ _ _ _
  · exact ld_bt2 _ _ _ _ _ _ _ _
  · exact ld_bt3 _ _ _ _ _ _ _ _
  · exact ld_bt4 _ _ _ _ _ _ _ _
  · exact ld_bt5 _ _ _ _ _ _ _ _
  · exact ld_bt6 _ _ _ _ _ _ _ _
  · exact ld_bt7 _ _ _ _ _ _ _ _
theorem ld_hp_congr {f g : Nat → Int32} : ∀ n, (∀ i, i < n → f i = g i) → ld_hp f n = ld_hp g n
  | 0, _ => rfl
  | n + 1, h => by
    show ld_hp f n + _ = ld_hp g n + _
    rw [ld_hp_congr n (fun i hi => h i (by omega)), h n (by omega)]
theorem ld_hp_s0 {b : Nat → Int32} {i : Nat} (h : b i = 0) : ld_hp b (i + 1) = ld_hp b i := by
  show ld_hp b i + _ = _
  rw [if_pos h]
  rfl
theorem ld_hp_s1 {b : Nat → Int32} {i : Nat} (h : ¬ b i = 0) : ld_hp b (i + 1) = ld_hp b i + 2 ^ i := by
  show ld_hp b i + _ = _
  rw [if_neg h]
theorem ld_hp_tail {b : Nat → Int32} {N : Nat} : ∀ d, (∀ i, N ≤ i → i < N + d → b i = 0) → ld_hp b (N + d) = ld_hp b N
  | 0, _ => rfl
  | d + 1, h => by
    rw [show N + (d + 1) = (N + d) + 1 from rfl, ld_hp_s0 (h (N + d) (by omega) (by omega))]
    exact ld_hp_tail d (fun i h1 h2 => h i h1 (by omega))
theorem ld_hp_zero {b : Nat → Int32} : ∀ n, (∀ i, i < n → b i = 0) → ld_hp b n = 0
  | 0, _ => rfl
  | n + 1, h => by rw [ld_hp_s0 (h n (by omega)), ld_hp_zero n (fun i hi => h i (by omega))]
theorem ld_s256 : ∀ i, i < 8 → (256 : Int32) <<< (nI i &&& 31) = nI (256 * 2 ^ i) := by decide +kernel
/-- client c's eight booleans cleared up to n -/
def ld_clr (hY : Nat → Int32) (c : Nat) : Nat → Nat → Int32
  | 0 => hY
  | i + 1 => upd (ld_clr hY c i) (c * 8 + i) 0
theorem ld_clr_at (hY : Nat → Int32) (c j : Nat) : ∀ n, ld_clr hY c n j = if c * 8 ≤ j ∧ j < c * 8 + n then 0 else hY j
  | 0 => by rw [if_neg (by omega)]; rfl
  | n + 1 => by
    show upd (ld_clr hY c n) (c * 8 + n) 0 j = _
    by_cases e : j = c * 8 + n
    · rw [e, pk_us, if_pos (by omega)]
    · rw [pk_un e, ld_clr_at hY c j n]
      by_cases z : c * 8 ≤ j ∧ j < c * 8 + n
      · rw [if_pos z, if_pos (by omega)]
      · rw [if_neg z, if_neg (by omega)]
theorem ld_clr_in {hY : Nat → Int32} {c i : Nat} (hi : i < 8) : ld_clr hY c 8 (c * 8 + i) = 0 := by
  rw [ld_clr_at, if_pos (by omega)]
theorem ld_clr_out {hY : Nat → Int32} {c d i : Nat} (h : d ≠ c) (hi : i < 8) : ld_clr hY c 8 (d * 8 + i) = hY (d * 8 + i) := by
  rw [ld_clr_at, if_neg (by omega)]
end
section
/-! the pure relation and how the calls keep it -/
/-- one recoverer: p phase, k cursor, h X's heard, y Y's phase, b Y's heard -/
def ld_CL (N C A : Nat) (p k h y : Int32) (b : Nat → Int32) : Prop :=
  y = p ∧ h = nI (ld_hp b 8) ∧ (∀ i, N ≤ i → i < 8 → b i = 0) ∧ ∃ P K : Nat, P ≤ 4 ∧ K ≤ C ∧ p = nI P ∧ k = nI K ∧ ((P = 2 ∨ P = 3) → K < C ∧ ld_ct b 8 ≤ 1) ∧ (P = 3 → K < A)
theorem ld_CLb {N C A A' : Nat} {p k h y : Int32} {b b' : Nat → Int32} (H : ld_CL N C A p k h y b) (hA : A ≤ A') (e : ∀ i, i < 8 → b' i = b i) : ld_CL N C A' p k h y b' := by
  obtain ⟨h1, h2, h3, P, K, h4, h5, h6, h7, h8, h9⟩ := H
  refine ⟨h1, ?_, ?_, P, K, h4, h5, h6, h7, ?_, ?_⟩
  · rw [ld_hp_congr 8 e]; exact h2
  · intro i hi hi8
    rw [e i hi8]
    exact h3 i hi hi8
  · rw [ld_ct_congr 8 e]; exact h8
  · intro z
    have := h9 z
    omega
/-- nothing at the entries from A on -/
def ld_Z (A : Nat) (f : Nat → Int32) : Prop := ∀ q, q < 8 → ∀ e, A ≤ e → e < 16 → f (q * 16 + e) = 0
theorem ld_Zlt {A : Nat} {f : Nat → Int32} (h : ld_Z A f) {q e : Nat} (hq : q < 8) (he : e < 16) (hf : ¬ f (q * 16 + e) = 0) : e < A := by
  by_cases z : A ≤ e
  · exact absurd (h q hq e z he) hf
  · omega
theorem ld_Zu {A : Nat} {f : Nat → Int32} (h : ld_Z A f) {q e : Nat} (x : Int32) (hA : A ≤ 16) (he : e < A) : ld_Z A (upd f (q * 16 + e) x) := by
  intro q' hq' e' ha he'
  rw [pk_un (by omega)]
  exact h q' hq' e' ha he'
theorem ld_Z0 {A : Nat} {f : Nat → Int32} (h : ld_Z A f) {q e : Nat} : ld_Z A (upd f (q * 16 + e) 0) := by
  intro q' hq' e' ha he'
  by_cases z : q' * 16 + e' = q * 16 + e
  · rw [z, pk_us]
  · rw [pk_un z]
    exact h q' hq' e' ha he'
def ld_RR (N C A F : Nat) (fw : Int32) (mem lac hld lnk ack car phs cur hrd pY hY : Nat → Int32) : Prop :=
  (5 ≤ N ∧ N ≤ 8 ∧ 4 ≤ C ∧ C ≤ 16 ∧ A ≤ C) ∧ ld_MV mem N ∧ (ld_Z A hld ∧ ld_Z A lnk ∧ ld_Z A ack) ∧ ld_CF mem ack A F ∧ (∀ q, q < N → ld_LC hld car C q (lac q)) ∧ (∀ e, e < A → ∃ j, j ≤ e ∧ car e = nI j - 1) ∧ pY 0 = fw ∧ (∀ c, 1 ≤ c → c < 4 → ld_CL N C A (phs c) (cur c) (hrd c) (pY c) (fun i => hY (c * 8 + i)))
section
variable {N C A F : Nat} {fw : Int32} {mem lac hld lnk ack car phs cur hrd pY hY : Nat → Int32}
theorem ld_Rw (x : Int32) (h : ld_RR N C A F fw mem lac hld lnk ack car phs cur hrd pY hY) : ld_RR N C A F x mem lac hld lnk ack car phs cur hrd (upd pY 0 x) hY := by
  obtain ⟨hS, hM, hZ, hF, hL, hR, hW, hC⟩ := h
  refine ⟨hS, hM, hZ, hF, hL, hR, pk_us, fun c h1 h4 => ?_⟩
  rw [pk_un (by omega)]
  exact hC c h1 h4
theorem ld_Rl {lnk' : Nat → Int32} (h : ld_RR N C A F fw mem lac hld lnk ack car phs cur hrd pY hY) (hl : ld_Z A lnk') : ld_RR N C A F fw mem lac hld lnk' ack car phs cur hrd pY hY := by
  obtain ⟨hS, hM, hZ, hF, hL, hR, hW, hC⟩ := h
  exact ⟨hS, hM, ⟨hZ.1, hl, hZ.2.2⟩, hF, hL, hR, hW, hC⟩
theorem ld_Ra {F' : Nat} {mem' ack' lnk' : Nat → Int32} (h : ld_RR N C A F fw mem lac hld lnk ack car phs cur hrd pY hY) (hm : ld_MV mem' N) (ha : ld_Z A ack') (hl : ld_Z A lnk') (hf : ld_CF mem' ack' A F') : ld_RR N C A F' fw mem' lac hld lnk' ack' car phs cur hrd pY hY := by
  obtain ⟨hS, hM, hZ, hF, hL, hR, hW, hC⟩ := h
  exact ⟨hS, hm, ⟨hZ.1, hl, ha⟩, hf, hL, hR, hW, hC⟩
theorem ld_Rs {q e : Nat} (h : ld_RR N C A F fw mem lac hld lnk ack car phs cur hrd pY hY) (hq : q < N) (he : e < A) : ld_RR N C A F fw mem (ld_sl lac car q e) (upd hld (q * 16 + e) 1) lnk ack car phs cur hrd pY hY := by
  obtain ⟨hS, hM, hZ, hF, hL, hR, hW, hC⟩ := h
  refine ⟨hS, hM, ⟨ld_Zu hZ.1 1 (by omega) he, hZ.2.1, hZ.2.2⟩, hF, fun q' hq' => ?_, hR, hW, hC⟩
  by_cases z : q' = q
  · subst z
    exact ld_LCput (hL q' hq') (by omega)
  · rw [ld_sl_n z]
    exact ld_LCx (hL q' hq') (fun e' he' => pk_un (by omega)) (fun _ _ _ => rfl)
theorem ld_Rc {c : Nat} {phs' cur' hrd' pY' hY' : Nat → Int32} (h : ld_RR N C A F fw mem lac hld lnk ack car phs cur hrd pY hY) (h1 : 1 ≤ c) (e1 : ∀ j, j ≠ c → phs' j = phs j) (e2 : ∀ j, j ≠ c → cur' j = cur j) (e3 : ∀ j, j ≠ c → hrd' j = hrd j) (e4 : ∀ j, j ≠ c → pY' j = pY j) (e5 : ∀ d, d ≠ c → ∀ i, i < 8 → hY' (d * 8 + i) = hY (d * 8 + i)) (hn : ld_CL N C A (phs' c) (cur' c) (hrd' c) (pY' c) (fun i => hY' (c * 8 + i))) : ld_RR N C A F fw mem lac hld lnk ack car phs' cur' hrd' pY' hY' := by
  obtain ⟨hS, hM, hZ, hF, hL, hR, hW, hC⟩ := h
  refine ⟨hS, hM, hZ, hF, hL, hR, by rw [e4 0 (by omega)]; exact hW, fun d d1 d4 => ?_⟩
  by_cases z : d = c
  · subst z
    exact hn
  · rw [e1 d z, e2 d z, e3 d z, e4 d z]
    exact ld_CLb (hC d d1 d4) (Nat.le_refl A) (e5 d z)
theorem ld_Rp {lnk' : Nat → Int32} (h : ld_RR N C A F fw mem lac hld lnk ack car phs cur hrd pY hY) (hA : A < C) (hl : ld_Z (A + 1) lnk') : ld_RR N C (A + 1) F fw mem lac hld lnk' ack (upd car A (nI F - 1)) phs cur hrd pY hY := by
  obtain ⟨hS, hM, hZ, hF, hL, hR, hW, hC⟩ := h
  refine ⟨by omega, hM, ⟨?_, hl, ?_⟩, ⟨?_, hF.2.1, ?_⟩, ?_, ?_, hW, ?_⟩
  · exact fun q hq e ha he => hZ.1 q hq e (by omega) he
  · exact fun q hq e ha he => hZ.2.2 q hq e (by omega) he
  · have := hF.1
    omega
  · intro _
    by_cases z : F < A
    · exact hF.2.2 z
    · have e : F = A := by have := hF.1; omega
      rw [e, ld_ct_zero 3 (fun i hi => ?_)]
      · decide
      · obtain ⟨m, hm, em⟩ := hM (A * 5 + (A + i) % 5)
        show ack ((mem (A * 5 + (A + i) % 5)).toNatClampNeg * 16 + A) = 0
        rw [em, nI_clamp (by omega)]
        exact hZ.2.2 m (by omega) A (Nat.le_refl A) (by omega)
  · intro q hq
    refine ld_LCx (hL q hq) (fun _ _ => rfl) (fun e he hh => pk_un ?_)
    have := ld_Zlt hZ.1 (by omega) (by omega) hh
    omega
  · intro e he
    by_cases z : e = A
    · subst z
      exact ⟨F, hF.1, pk_us⟩
    · rw [pk_un z]
      exact hR e (by omega)
  · exact fun c h1 h4 => ld_CLb (hC c h1 h4) (by omega) (fun _ _ => rfl)
/-- the number of a node, behind one -/
theorem ld_Rlac {q : Nat} (h : ld_RR N C A F fw mem lac hld lnk ack car phs cur hrd pY hY) (hq : q < N) : ∃ j, j < C ∧ lac q + 1 = nI j := by
  obtain ⟨hS, hM, hZ, hF, hL, hR, hW, hC⟩ := h
  rcases (hL q hq).2.2 with e | ⟨e, a, b, c⟩
  · exact ⟨0, by omega, by rw [e]; decide⟩
  · have hA : e < A := ld_Zlt hZ.1 (by omega) (by omega) b
    obtain ⟨j, hj, ej⟩ := hR e hA
    exact ⟨j, by omega, by rw [← c, ej, Int32.sub_add_cancel]⟩
end
/-- the three requests of an append -/
def ld_l3 (mem lnk : Nat → Int32) (e : Nat) : Nat → Nat → Int32
  | 0 => lnk
  | i + 1 => upd (ld_l3 mem lnk e i) ((mem (e * 5 + (e + i) % 5)).toNatClampNeg * 16 + e) 1
theorem ld_l3_n {mem lnk : Nat → Int32} {e q e' : Nat} (he : e < 16) (he' : e' < 16) (h : e' ≠ e) : ∀ i, ld_l3 mem lnk e i (q * 16 + e') = lnk (q * 16 + e')
  | 0 => rfl
  | i + 1 => by
    show upd (ld_l3 mem lnk e i) _ 1 _ = _
    rw [pk_un (by omega)]
    exact ld_l3_n he he' h i
/-- a member replaced in k rows from row f on -/
def ld_rm (mem : Nat → Int32) (f p : Nat) (x : Int32) : Nat → Nat → Int32
  | 0 => mem
  | k + 1 => upd (ld_rm mem f p x k) ((f + k) * 5 + p) x
theorem ld_rm_n {mem : Nat → Int32} {f p j : Nat} {x : Int32} (h : j < f * 5) : ∀ k, ld_rm mem f p x k j = mem j
  | 0 => rfl
  | k + 1 => by
    show upd (ld_rm mem f p x k) _ x _ = _
    rw [pk_un (by omega)]
    exact ld_rm_n h k
theorem ld_rm_MV {mem : Nat → Int32} {f p q N : Nat} (hM : ld_MV mem N) (hq : q < N) : ∀ k, ld_MV (ld_rm mem f p (nI q) k) N
  | 0 => hM
  | k + 1 => fun j => by
    show ∃ m, m < N ∧ upd (ld_rm mem f p (nI q) k) ((f + k) * 5 + p) (nI q) j = nI m
    by_cases z : j = (f + k) * 5 + p
    · exact ⟨q, hq, by rw [z, pk_us]⟩
    · rw [pk_un z]
      exact ld_rm_MV hM hq k j
/-- whether position p is one of entry e's -/
def ld_str (p e : Nat) : Prop := (p + 5 - e % 5) % 5 < 3
/-- the requests sent anew: k entries from f on -/
noncomputable def ld_rs (lnk : Nat → Int32) (f p q : Nat) : Nat → Nat → Int32
  | 0 => lnk
  | k + 1 => if (p + 5 - (f + k) % 5) % 5 < 3 ∧ ld_rs lnk f p q k (q * 16 + (f + k)) = 0 then upd (ld_rs lnk f p q k) (q * 16 + (f + k)) 1 else ld_rs lnk f p q k
theorem ld_rs_t {lnk : Nat → Int32} {f p q k : Nat} (h : (p + 5 - (f + k) % 5) % 5 < 3) (hz : ld_rs lnk f p q k (q * 16 + (f + k)) = 0) : ld_rs lnk f p q (k + 1) = upd (ld_rs lnk f p q k) (q * 16 + (f + k)) 1 := if_pos ⟨h, hz⟩
theorem ld_rs_f {lnk : Nat → Int32} {f p q k : Nat} (h : ¬ ((p + 5 - (f + k) % 5) % 5 < 3 ∧ ld_rs lnk f p q k (q * 16 + (f + k)) = 0)) : ld_rs lnk f p q (k + 1) = ld_rs lnk f p q k := if_neg h
theorem ld_rs_n {lnk : Nat → Int32} {f p q q' e' A : Nat} (hA : A ≤ 16) (he' : e' < 16) (h : A ≤ e') : ∀ k, f + k ≤ A → ld_rs lnk f p q k (q' * 16 + e') = lnk (q' * 16 + e')
  | 0, _ => rfl
  | k + 1, hk => by
    have ih := ld_rs_n (lnk := lnk) (f := f) (p := p) (q := q) (q' := q') hA he' h k (by omega)
    by_cases z : (p + 5 - (f + k) % 5) % 5 < 3 ∧ ld_rs lnk f p q k (q * 16 + (f + k)) = 0
    · rw [ld_rs_t z.1 z.2, pk_un (by omega)]
      exact ih
    · rw [ld_rs_f z]
      exact ih
/-- complete entries below F stay so -/
theorem ld_CFup {mem mem' ack ack' : Nat → Int32} {A F : Nat} (h : ld_CF mem ack A F) (hm : ∀ e, e < F → ∀ i, i < 3 → mem' (e * 5 + (e + i) % 5) = mem (e * 5 + (e + i) % 5)) (ha : ∀ j, ¬ ack j = 0 → ¬ ack' j = 0) : ∃ F', F ≤ F' ∧ ld_CF mem' ack' A F' := by
  refine ld_CFex mem' ack' A (A - F) F (by have := h.1; omega) (fun e he => Nat.le_trans (h.2.1 e he) (ld_ct_mono 3 (fun i hi hf => ?_)))
  show ¬ ack' ((mem' (e * 5 + (e + i) % 5)).toNatClampNeg * 16 + e) = 0
  rw [hm e he i hi]
  exact ha _ hf
end
section
/-! the walks of the small methods -/
section
variable {fn fc fv fs fe fw fa fk : Int32} {mem ups fen lac hld lnk ack pay car phs cur hrd tok pY hY : Nat → Int32}
theorem lx_isNode0 {post : Int32 → Prop} {N : Nat} {v : Int32} (h : ld_BD N v) (hp : post 0) : wpX_isNode post (nI N, fc, fv, fs, fe, fw, fa, fk, mem, ups, fen, lac, hld, lnk, ack, pay, car, phs, cur, hrd, tok) v := by
  by_cases z : v < 0
  · exact br_t z hp
  · exact br_f z (br_t (h.resolve_left z) hp)
theorem lx_isNode1 {post : Int32 → Prop} {N q : Nat} (hq : q < N) (hN : N ≤ 16) (hp : post 1) : wpX_isNode post (nI N, fc, fv, fs, fe, fw, fa, fk, mem, ups, fen, lac, hld, lnk, ack, pay, car, phs, cur, hrd, tok) (nI q) :=
  br_f (nI_pos (by omega)) (br_f (nI_ge hq (by omega)) hp)
theorem lx_isEntry0 {post : Int32 → Prop} {C : Nat} {v : Int32} (h : ld_BD C v) (hp : post 0) : wpX_isEntry post (fn, nI C, fv, fs, fe, fw, fa, fk, mem, ups, fen, lac, hld, lnk, ack, pay, car, phs, cur, hrd, tok) v := by
  by_cases z : v < 0
  · exact br_t z hp
  · exact br_f z (br_t (h.resolve_left z) hp)
theorem lx_isEntry1 {post : Int32 → Prop} {C q : Nat} (hq : q < C) (hC : C ≤ 16) (hp : post 1) : wpX_isEntry post (fn, nI C, fv, fs, fe, fw, fa, fk, mem, ups, fen, lac, hld, lnk, ack, pay, car, phs, cur, hrd, tok) (nI q) :=
  br_f (nI_pos (by omega)) (br_f (nI_ge hq (by omega)) hp)
theorem lx_isPos0 {post : Int32 → Prop} {v : Int32} (h : ld_BD 5 v) (hp : post 0) : wpX_isPosition post (fn, fc, fv, fs, fe, fw, fa, fk, mem, ups, fen, lac, hld, lnk, ack, pay, car, phs, cur, hrd, tok) v := by
  by_cases z : v < 0
  · exact br_t z hp
  · exact br_f z (br_t (h.resolve_left z) hp)
theorem lx_isPos1 {post : Int32 → Prop} {p : Nat} (h : p < 5) (hp : post 1) : wpX_isPosition post (fn, fc, fv, fs, fe, fw, fa, fk, mem, ups, fen, lac, hld, lnk, ack, pay, car, phs, cur, hrd, tok) (nI p) :=
  br_f (nI_pos (by omega)) (br_f (nI_ge (b := 5) h (by decide)) hp)
theorem lx_isRec0 {post : Int32 → Prop} {v : Int32} (h : v < 1 ∨ 3 < v) (hp : post 0) : wpX_isRecoverer post (fn, fc, fv, fs, fe, fw, fa, fk, mem, ups, fen, lac, hld, lnk, ack, pay, car, phs, cur, hrd, tok) v := by
  by_cases z : v < 1
  · exact br_t z hp
  · exact br_f z (br_t (h.resolve_left z) hp)
theorem lx_isRec1 {post : Int32 → Prop} {c : Nat} (h1 : 1 ≤ c) (h4 : c < 4) (hp : post 1) : wpX_isRecoverer post (fn, fc, fv, fs, fe, fw, fa, fk, mem, ups, fen, lac, hld, lnk, ack, pay, car, phs, cur, hrd, tok) (nI c) :=
  br_f (ld_nlt1 h1 h4) (br_f (ld_nlt3 h4) hp)
/-- a bad pair -/
def ld_BP (N C : Nat) (v w : Int32) : Prop := ld_BD N v ∨ ((∃ q, q < N ∧ v = nI q) ∧ ld_BD C w)
theorem ld_triP (v w : Int32) {N C : Nat} (hN : N ≤ 16) (hC : C ≤ 16) : ld_BP N C v w ∨ ∃ q e, q < N ∧ e < C ∧ v = nI q ∧ w = nI e := by
  rcases ld_tri v (N := N) (by omega) with h | h
  · exact Or.inl (Or.inl h)
  · rcases ld_tri w (N := C) (by omega) with g | ⟨e, he, ge⟩
    · exact Or.inl (Or.inr ⟨h, g⟩)
    · obtain ⟨q, hq, gq⟩ := h
      exact Or.inr ⟨q, e, hq, he, gq, ge⟩
theorem lx_isPair0 {post : Int32 → Prop} {N C : Nat} {v w : Int32} (hN : N ≤ 16) (h : ld_BP N C v w) (hp : post 0) : wpX_isPair post (nI N, nI C, fv, fs, fe, fw, fa, fk, mem, ups, fen, lac, hld, lnk, ack, pay, car, phs, cur, hrd, tok) v w := by
  unfold wpX_isPair
  try dsimp only
  rcases h with h | ⟨⟨q, hq, rfl⟩, h⟩
  · refine lx_isNode0 h ?_
    exact br_t rfl hp
  · refine lx_isNode1 hq hN ?_
    refine br_f (by decide) ?_
    refine lx_isEntry0 h ?_
    exact br_t rfl hp
theorem lx_isPair1 {post : Int32 → Prop} {N C q e : Nat} (hN : N ≤ 16) (hC : C ≤ 16) (hq : q < N) (he : e < C) (hp : post 1) : wpX_isPair post (nI N, nI C, fv, fs, fe, fw, fa, fk, mem, ups, fen, lac, hld, lnk, ack, pay, car, phs, cur, hrd, tok) (nI q) (nI e) := by
  unfold wpX_isPair
  try dsimp only
  refine lx_isNode1 hq hN ?_
  refine br_f (by decide) ?_
  refine lx_isEntry1 he hC ?_
  exact br_f (by decide) hp
theorem ly_out1 {post : Int32 → Prop} {N C : Nat} {v w : Int32} (hN : N ≤ 16) (h : ld_BP N C v w) (hp : post 1) : wpY_out post (nI N, nI C, fv, fs, fe, fa, mem, ups, fen, hld, ack, lnk, pay, car, pY, cur, tok, hY) v w := by
  rcases h with h | ⟨⟨q, hq, rfl⟩, h⟩
  · by_cases z : v < 0
    · exact br_t z hp
    · exact br_f z (br_t (h.resolve_left z) hp)
  · refine br_f (nI_pos (by omega)) (br_f (nI_ge hq (by omega)) ?_)
    by_cases z : w < 0
    · exact br_t z hp
    · exact br_f z (br_f (Int32.not_lt.mpr (h.resolve_left z)) hp)
theorem ly_out0 {post : Int32 → Prop} {N C q e : Nat} (hN : N ≤ 16) (hC : C ≤ 16) (hq : q < N) (he : e < C) (hp : post 0) : wpY_out post (nI N, nI C, fv, fs, fe, fa, mem, ups, fen, hld, ack, lnk, pay, car, pY, cur, tok, hY) (nI q) (nI e) :=
  br_f (nI_pos (by omega)) (br_f (nI_ge hq (by omega)) (br_f (nI_pos (by omega)) (br_t (nI_lt he (by omega)) hp)))
theorem lx_home {post : Int32 → Prop} {e i : Nat} (he : e < 17) (hi : i < 5) (h : post (mem (e * 5 + (e + i) % 5))) : wpX_home post (fn, fc, fv, fs, fe, fw, fa, fk, mem, ups, fen, lac, hld, lnk, ack, pay, car, phs, cur, hrd, tok) (nI e) (nI i) := by
  have h5 := ld_lt5 (e + i)
  refine And.intro (by decide) ?_
  rw [ld_hix (by omega), nI_clamp (n := e * 5 + (e + i) % 5) (by omega)]
  exact And.intro (vp_in_nI (by omega) (by omega)) h
theorem ly_home {post : Int32 → Prop} {e i : Nat} (he : e < 17) (hi : i < 5) (h : post (mem (e * 5 + (e + i) % 5))) : wpY_home post (fn, fc, fv, fs, fe, fa, mem, ups, fen, hld, ack, lnk, pay, car, pY, cur, tok, hY) (nI e) (nI i) := by
  have h5 := ld_lt5 (e + i)
  refine And.intro (by decide) ?_
  rw [ld_hix (by omega), nI_clamp (n := e * 5 + (e + i) % 5) (by omega)]
  exact And.intro (vp_in_nI (by omega) (by omega)) h
theorem lx_iscL {post : Int32 → Prop} {e : Nat} (he : e < 16) (hM : ld_MV mem 8) (h0 : ld_ct (ld_ah mem ack e) 3 < 2 → post 0) (h1 : 2 ≤ ld_ct (ld_ah mem ack e) 3 → post 1) : ∀ d i, i + d = 3 → wX_isComplete_4 post (nI e) fn fc fv fs fe fw fa fk mem ups fen lac hld lnk ack pay car phs cur hrd tok (d + 1) (nI (ld_ct (ld_ah mem ack e) i)) (nI i) := by
  intro d
  induction d with
  | zero =>
    intro i hi
    have e3 : i = 3 := by omega
    subst e3
    have hb := ld_ct_le (ld_ah mem ack e) 3
    exact br_t (nI_le (a := 3) (Nat.le_refl 3) (by decide)) (pk_lt _ 2 h0 h1)
  | succ d ih =>
    intro i hi
    have hb := ld_ct_le (ld_ah mem ack e) i
    obtain ⟨m, hm, em⟩ := hM (e * 5 + (e + i) % 5)
    have ea : ld_ah mem ack e i = ack (m * 16 + e) := by
      show ack ((mem (e * 5 + (e + i) % 5)).toNatClampNeg * 16 + e) = _
      rw [em, nI_clamp (by omega)]
    refine br_f (nI_ge (b := 3) (by omega) (by decide)) ?_
    refine lx_home (by omega) (by omega) ?_
    rw [em]
    refine ⟨ld_in16 hm he, ?_⟩
    rw [ld_cl16 hm he]
    have K := ih (i + 1) (by omega)
    by_cases z : ack (m * 16 + e) = 0
    · rw [ld_ct0 (ea.trans z)] at K
      exact br_t z (nm_r (nI_1 i) K)
    · rw [ld_ct1 (by rw [ea]; exact z)] at K
      exact br_f z (nm_r (nI_1 _) (nm_r (nI_1 i) K))
theorem lx_isComplete {post : Int32 → Prop} {e : Nat} (he : e < 16) (hM : ld_MV mem 8) (h0 : ld_ct (ld_ah mem ack e) 3 < 2 → post 0) (h1 : 2 ≤ ld_ct (ld_ah mem ack e) 3 → post 1) : wpX_isComplete post (fn, fc, fv, fs, fe, fw, fa, fk, mem, ups, fen, lac, hld, lnk, ack, pay, car, phs, cur, hrd, tok) (nI e) :=
  Exists.intro 4 (lx_iscL he hM h0 h1 3 0 rfl)
theorem ly_cfL {post J : Int32 → Prop} {e : Nat} (he : e < 16) (hM : ld_MV mem 8) (h0 : ld_ct (ld_ah mem ack e) 3 < 2 → post (nI e - 1)) (h1 : 2 ≤ ld_ct (ld_ah mem ack e) 3 → J (nI (e + 1))) : ∀ d i, i + d = 3 → wY_confirmed_14 post J (nI e) fn fc fv fs fe fa mem ups fen hld ack lnk pay car pY cur tok hY (d + 1) (nI (ld_ct (ld_ah mem ack e) i)) (nI i) := by
  intro d
  induction d with
  | zero =>
    intro i hi
    have e3 : i = 3 := by omega
    subst e3
    have hb := ld_ct_le (ld_ah mem ack e) 3
    exact br_t (nI_le (a := 3) (Nat.le_refl 3) (by decide)) (pk_le 2 _ (fun h => nm_r (nI_1 e) (h1 h)) h0)
  | succ d ih =>
    intro i hi
    have hb := ld_ct_le (ld_ah mem ack e) i
    obtain ⟨m, hm, em⟩ := hM (e * 5 + (e + i) % 5)
    have ea : ld_ah mem ack e i = ack (m * 16 + e) := by
      show ack ((mem (e * 5 + (e + i) % 5)).toNatClampNeg * 16 + e) = _
      rw [em, nI_clamp (by omega)]
    refine br_f (nI_ge (b := 3) (by omega) (by decide)) ?_
    refine ly_home (by omega) (by omega) ?_
    rw [em]
    refine ⟨ld_in16 hm he, ?_⟩
    rw [ld_cl16 hm he]
    have K := ih (i + 1) (by omega)
    by_cases z : ack (m * 16 + e) = 0
    · rw [ld_ct0 (ea.trans z)] at K
      exact br_t z (nm_r (nI_1 i) K)
    · rw [ld_ct1 (by rw [ea]; exact z)] at K
      exact br_f z (nm_r (nI_1 _) (nm_r (nI_1 i) K))
theorem ly_cf2 {post : Int32 → Prop} {A F : Nat} (hA : A ≤ 16) (hM : ld_MV mem 8) (hF : ld_CF mem ack A F) (hp : post (nI F - 1)) : ∀ d e, e + d = A → e ≤ F → wY_confirmed_2 post fn fc fv fs fe (nI A) mem ups fen hld ack lnk pay car pY cur tok hY (d + 1) (nI e) := by
  obtain ⟨f1, f2, f3⟩ := hF
  intro d
  induction d with
  | zero =>
    intro e he hf
    have eF : F = A := by omega
    have eA : e = A := by omega
    subst eA
    rw [eF] at hp
    exact br_t (nI_le (Nat.le_refl e) (by omega)) hp
  | succ d ih =>
    intro e he hf
    refine br_f (nI_ge (by omega) (by omega)) (Exists.intro 4 ?_)
    refine ly_cfL (by omega) hM (fun h => ?_) (fun h => ?_) 3 0 rfl
    · have eF : e = F := by
        by_cases z : e < F
        · have := f2 e z; omega
        · omega
      rw [eF]
      exact hp
    · refine ih (e + 1) (by omega) ?_
      by_cases z : e = F
      · have := f3 (by omega)
        rw [z] at h
        omega
      · omega
theorem ly_confirmed {post : Int32 → Prop} {A F : Nat} (hA : A ≤ 16) (hM : ld_MV mem 8) (hF : ld_CF mem ack A F) (hp : post (nI F - 1)) : wpY_confirmed post (fn, fc, fv, fs, fe, nI A, mem, ups, fen, hld, ack, lnk, pay, car, pY, cur, tok, hY) :=
  Exists.intro (A + 1) (ly_cf2 hA hM hF hp A 0 (by omega) (by omega))
theorem lx_adL {post : SX → Prop} {A F : Nat} (hA : A ≤ 16) (hM : ld_MV mem 8) (hF : ld_CF mem ack A F) (hp : post (fn, fc, fv, fs, fe, fw, nI A, nI F - 1, mem, ups, fen, lac, hld, lnk, ack, pay, car, phs, cur, hrd, tok)) : ∀ d e, e + d = A → e ≤ F → wX_advance_7 post fn fc fv fs fe fw (nI A) mem ups fen lac hld lnk ack pay car phs cur hrd tok (d + 1) (nI e) (nI e - 1) := by
  obtain ⟨f1, f2, f3⟩ := hF
  intro d
  induction d with
  | zero =>
    intro e he hf
    have eF : F = e := by omega
    have eA : e = A := by omega
    rw [eF] at hp
    exact br_t (nI_le (by omega) (by omega)) hp
  | succ d ih =>
    intro e he hf
    refine br_f (nI_ge (by omega) (by omega)) ?_
    refine lx_isComplete (by omega) hM (fun h => ?_) (fun h => ?_)
    · have eF : F = e := by
        by_cases z : e < F
        · have := f2 e z; omega
        · omega
      rw [eF] at hp
      exact br_t rfl hp
    · refine br_f (by decide) (nm_r (nI_1 e) ?_)
      have K := ih (e + 1) (by omega) (by
        by_cases z : e = F
        · have := f3 (by omega)
          rw [z] at h
          omega
        · omega)
      rw [nI_pred] at K
      exact K
theorem lx_advance {post : SX → Prop} {A F F' : Nat} (hA : A ≤ 16) (hM : ld_MV mem 8) (hFF : F ≤ F') (hF : ld_CF mem ack A F') (hp : post (fn, fc, fv, fs, fe, fw, nI A, nI F' - 1, mem, ups, fen, lac, hld, lnk, ack, pay, car, phs, cur, hrd, tok)) : wpX_advance post (fn, fc, fv, fs, fe, fw, nI A, nI F - 1, mem, ups, fen, lac, hld, lnk, ack, pay, car, phs, cur, hrd, tok) :=
  nm_r (e' := nI F) (Int32.sub_add_cancel _ _) (Exists.intro (A - F + 1) (lx_adL hA hM hF hp (A - F) F (by have := hF.1; omega) hFF))
theorem ly_lacL {post : Int32 → Prop} {C q : Nat} (hC : C ≤ 16) (hq : q < 8) (hp : ∀ L, ld_LC hld car C q L → post L) : ∀ d e L, e + d = C → ld_LC hld car e q L → wY_lac_4 post (nI q) fn (nI C) fv fs fe fa mem ups fen hld ack lnk pay car pY cur tok hY (d + 1) L (nI e) := by
  intro d
  induction d with
  | zero =>
    intro e L he hL
    have eC : e = C := by omega
    subst eC
    exact br_t (nI_le (Nat.le_refl e) (by omega)) (hp L hL)
  | succ d ih =>
    intro e L he hL
    refine br_f (nI_ge (by omega) (by omega)) ?_
    refine And.intro (ld_in16 hq (by omega)) ?_
    rw [ld_cl16 hq (by omega), nI_clamp (n := e) (by omega)]
    by_cases hz : hld (q * 16 + e) = 0
    · exact br_t hz (nm_r (nI_1 e) (ih (e + 1) L (by omega) (ld_LCa hL hz)))
    · refine br_f hz (And.intro (vp_in_nI (by omega) (by omega)) ?_)
      by_cases hc : car e ≤ L
      · exact br_t hc (nm_r (nI_1 e) (ih (e + 1) L (by omega) (ld_LCb hL hc)))
      · exact br_f hc (And.intro (vp_in_nI (by omega) (by omega)) (nm_e (nm_r (nI_1 e) (ih (e + 1) (car e) (by omega) (ld_LCc hL hz hc)))))
theorem ly_lac {post : Int32 → Prop} {C q : Nat} {L : Int32} (hC : C ≤ 16) (hq : q < 8) (hL : ld_LC hld car C q L) (hp : post L) : wpY_lac post (fn, nI C, fv, fs, fe, fa, mem, ups, fen, hld, ack, lnk, pay, car, pY, cur, tok, hY) (nI q) :=
  Exists.intro (C + 1) (ly_lacL hC hq (fun M hM => by rw [ld_LCu hM hL]; exact hp) C 0 (-1) (by omega) (ld_LC0 hld car q))
theorem lx_icL {post : Int32 → Prop} {C : Nat} {x : Int32} (hC : C ≤ 16) (h1 : (∃ p, p < 5 ∧ mem (C * 5 + p) = x) → post 1) (h0 : (∀ p, p < 5 → ¬ mem (C * 5 + p) = x) → post 0) : ∀ d p, p + d = 5 → (∀ p', p' < p → ¬ mem (C * 5 + p') = x) → wX_inCurrentEnsemble_2 post x fn (nI C) fv fs fe fw fa fk mem ups fen lac hld lnk ack pay car phs cur hrd tok (d + 1) (nI p) := by
  intro d
  induction d with
  | zero =>
    intro p hp hh
    have e5 : p = 5 := by omega
    subst e5
    exact br_t (nI_le (a := 5) (Nat.le_refl 5) (by decide)) (h0 hh)
  | succ d ih =>
    intro p hp hh
    refine br_f (nI_ge (b := 5) (by omega) (by decide)) ?_
    refine And.intro (ld_in5 (by omega) (by omega)) ?_
    rw [ld_cl5 (e := C) (p := p) (by omega) (by omega)]
    by_cases z : mem (C * 5 + p) = x
    · exact br_t z (h1 ⟨p, by omega, z⟩)
    · refine br_f z (nm_r (nI_1 p) (ih (p + 1) (by omega) (fun p' hp' => ?_)))
      by_cases y : p' = p
      · rw [y]; exact z
      · exact hh p' (by omega)
theorem ly_icL {post : Int32 → Prop} {C : Nat} {x : Int32} (hC : C ≤ 16) (h1 : (∃ p, p < 5 ∧ mem (C * 5 + p) = x) → post 1) (h0 : (∀ p, p < 5 → ¬ mem (C * 5 + p) = x) → post 0) : ∀ d p, p + d = 5 → (∀ p', p' < p → ¬ mem (C * 5 + p') = x) → wY_inCurrent_2 post x fn (nI C) fv fs fe fa mem ups fen hld ack lnk pay car pY cur tok hY (d + 1) (nI p) := by
  intro d
  induction d with
  | zero =>
    intro p hp hh
    have e5 : p = 5 := by omega
    subst e5
    exact br_t (nI_le (a := 5) (Nat.le_refl 5) (by decide)) (h0 hh)
  | succ d ih =>
    intro p hp hh
    refine br_f (nI_ge (b := 5) (by omega) (by decide)) ?_
    refine And.intro (ld_in5 (by omega) (by omega)) ?_
    rw [ld_cl5 (e := C) (p := p) (by omega) (by omega)]
    by_cases z : mem (C * 5 + p) = x
    · exact br_t z (h1 ⟨p, by omega, z⟩)
    · refine br_f z (nm_r (nI_1 p) (ih (p + 1) (by omega) (fun p' hp' => ?_)))
      by_cases y : p' = p
      · rw [y]; exact z
      · exact hh p' (by omega)
theorem lx_inCur {post : Int32 → Prop} {C : Nat} {x : Int32} (hC : C ≤ 16) (h1 : (∃ p, p < 5 ∧ mem (C * 5 + p) = x) → post 1) (h0 : (∀ p, p < 5 → ¬ mem (C * 5 + p) = x) → post 0) : wpX_inCurrentEnsemble post (fn, nI C, fv, fs, fe, fw, fa, fk, mem, ups, fen, lac, hld, lnk, ack, pay, car, phs, cur, hrd, tok) x :=
  Exists.intro 6 (lx_icL hC h1 h0 5 0 rfl (fun p' h => absurd h (Nat.not_lt_zero p')))
theorem ly_inCur {post : Int32 → Prop} {C : Nat} {x : Int32} (hC : C ≤ 16) (h1 : (∃ p, p < 5 ∧ mem (C * 5 + p) = x) → post 1) (h0 : (∀ p, p < 5 → ¬ mem (C * 5 + p) = x) → post 0) : wpY_inCurrent post (fn, nI C, fv, fs, fe, fa, mem, ups, fen, hld, ack, lnk, pay, car, pY, cur, tok, hY) x :=
  Exists.intro 6 (ly_icL hC h1 h0 5 0 rfl (fun p' h => absurd h (Nat.not_lt_zero p')))
/-- x is a home of e -/
def ld_Hm (mem : Nat → Int32) (e : Nat) (x : Int32) : Prop := ∃ i, i < 3 ∧ mem (e * 5 + (e + i) % 5) = x
theorem lx_ihL {post : Int32 → Prop} {e : Nat} {x : Int32} (he : e < 16) (h1 : ld_Hm mem e x → post 1) (h0 : ¬ ld_Hm mem e x → post 0) : ∀ d i, i + d = 3 → (∀ i', i' < i → ¬ mem (e * 5 + (e + i') % 5) = x) → wX_isHome_12 post x (nI e) fn fc fv fs fe fw fa fk mem ups fen lac hld lnk ack pay car phs cur hrd tok (d + 1) (nI i) := by
  intro d
  induction d with
  | zero =>
    intro i hi hh
    have e3 : i = 3 := by omega
    subst e3
    exact br_t (nI_le (a := 3) (Nat.le_refl 3) (by decide)) (h0 (fun ⟨i', a, b⟩ => hh i' a b))
  | succ d ih =>
    intro i hi hh
    refine br_f (nI_ge (b := 3) (by omega) (by decide)) ?_
    refine lx_home (by omega) (by omega) ?_
    by_cases z : mem (e * 5 + (e + i) % 5) = x
    · exact br_t z (h1 ⟨i, by omega, z⟩)
    · refine br_f z (nm_r (nI_1 i) (ih (i + 1) (by omega) (fun i' hi' => ?_)))
      by_cases y : i' = i
      · rw [y]; exact z
      · exact hh i' (by omega)
theorem lx_isHome {post : Int32 → Prop} {C e : Nat} {x : Int32} (hC : C ≤ 16) (he : e < C) (h1 : ld_Hm mem e x → post 1) (h0 : ¬ ld_Hm mem e x → post 0) : wpX_isHome post (fn, nI C, fv, fs, fe, fw, fa, fk, mem, ups, fen, lac, hld, lnk, ack, pay, car, phs, cur, hrd, tok) x (nI e) := by
  unfold wpX_isHome
  try dsimp only
  refine lx_isEntry1 he hC ?_
  exact br_f (by decide) (Exists.intro 4 (lx_ihL (by omega) h1 h0 3 0 rfl (fun p' h => absurd h (Nat.not_lt_zero p'))))
theorem ly_isHome {post : Int32 → Prop} {e : Nat} {x : Int32} (he : e < 16) (h1 : ld_Hm mem e x → post 1) (h0 : ¬ ld_Hm mem e x → post 0) : wpY_isHome post (fn, fc, fv, fs, fe, fa, mem, ups, fen, hld, ack, lnk, pay, car, pY, cur, tok, hY) x (nI e) := by
  unfold wpY_isHome
  try dsimp only
  refine ly_home (i := 0) (by omega) (by omega) ?_
  by_cases z0 : mem (e * 5 + (e + 0) % 5) = x
  · exact br_t z0 (h1 ⟨0, by omega, z0⟩)
  · refine br_f z0 ?_
    refine ly_home (i := 1) (by omega) (by omega) ?_
    by_cases z1 : mem (e * 5 + (e + 1) % 5) = x
    · exact br_t z1 (h1 ⟨1, by omega, z1⟩)
    · refine br_f z1 ?_
      refine ly_home (i := 2) (by omega) (by omega) ?_
      by_cases z2 : mem (e * 5 + (e + 2) % 5) = x
      · exact br_t z2 (h1 ⟨2, by omega, z2⟩)
      · refine br_f z2 (h0 (fun ⟨i, hi, hh⟩ => ?_))
        have e3 : i = 0 ∨ i = 1 ∨ i = 2 := by omega
        rcases e3 with rfl | rfl | rfl
        · exact z0 hh
        · exact z1 hh
        · exact z2 hh
theorem lx_enter {post : SX → Prop} {c : Nat} {x : Int32} (hc : c < 4) (hp : post (fn, fc, fv, fs, fe, fw, fa, fk, mem, ups, fen, lac, hld, lnk, ack, pay, car, upd phs c x, cur, upd hrd c 0, tok)) : wpX_enterPhase post (fn, fc, fv, fs, fe, fw, fa, fk, mem, ups, fen, lac, hld, lnk, ack, pay, car, phs, cur, hrd, tok) (nI c) x := by
  refine And.intro (vp_in_nI hc (by decide)) ?_
  rw [nI_clamp (n := c) (by omega)]
  exact nm_e (And.intro (vp_in_nI hc (by decide)) (nm_e hp))
theorem ly_enL {post : SY → Prop} {c : Nat} (hc : c < 4) (hp : post (fn, fc, fv, fs, fe, fa, mem, ups, fen, hld, ack, lnk, pay, car, pY, cur, tok, ld_clr hY c 8)) : ∀ d i, i + d = 8 → wY_enter_9 post (nI c) fn fc fv fs fe fa (d + 1) (nI i) mem ups fen hld ack lnk pay car pY cur tok (ld_clr hY c i) := by
  intro d
  induction d with
  | zero =>
    intro i hi
    have e8 : i = 8 := by omega
    subst e8
    exact br_t (nI_le (a := 8) (Nat.le_refl 8) (by decide)) hp
  | succ d ih =>
    intro i hi
    refine br_f (nI_ge (b := 8) (by omega) (by decide)) ?_
    refine And.intro (ld_in8 hc (by omega)) ?_
    rw [ld_cl8 hc (by omega), ld_b0]
    exact nm_e (nm_r (nI_1 i) (ih (i + 1) (by omega)))
theorem ly_enter {post : SY → Prop} {c : Nat} {x : Int32} (hc : c < 4) (hp : post (fn, fc, fv, fs, fe, fa, mem, ups, fen, hld, ack, lnk, pay, car, upd pY c x, cur, tok, ld_clr hY c 8)) : wpY_enter post (fn, fc, fv, fs, fe, fa, mem, ups, fen, hld, ack, lnk, pay, car, pY, cur, tok, hY) (nI c) x := by
  refine And.intro (vp_in_nI hc (by decide)) ?_
  rw [nI_clamp (n := c) (by omega)]
  exact nm_e (Exists.intro 9 (ly_enL hc hp 8 0 rfl))
theorem lx_store {post : SX → Prop} {C q e : Nat} (hC : C ≤ 16) (hq : q < 8) (he : e < C) (hp : post (fn, nI C, fv, fs, fe, fw, fa, fk, mem, ups, fen, ld_sl lac car q e, upd hld (q * 16 + e) 1, lnk, ack, pay, car, phs, cur, hrd, tok)) : wpX_store post (fn, nI C, fv, fs, fe, fw, fa, fk, mem, ups, fen, lac, hld, lnk, ack, pay, car, phs, cur, hrd, tok) (nI q) (nI e) := by
  unfold wpX_store
  try dsimp only
  refine lx_isEntry1 he hC ?_
  refine br_f (by decide) (And.intro (ld_in16 hq (by omega)) ?_)
  rw [ld_cl16 hq (by omega), ld_b1, nI_clamp (n := e) (by omega), nI_clamp (n := q) (by omega)]
  refine nm_e (And.intro (vp_in_nI (by omega) (by omega)) (And.intro (vp_in_nI (by omega) (by omega)) ?_))
  by_cases z : car e ≤ lac q
  · rw [show ld_sl lac car q e = lac from if_pos z] at hp
    exact br_t z hp
  · rw [show ld_sl lac car q e = upd lac q (car e) from if_neg z] at hp
    exact br_f z (And.intro (vp_in_nI (by omega) (by omega)) (And.intro (vp_in_nI (by omega) (by omega)) (nm_e hp)))
end
end
section
/-! stripes, counts, bounds -/
section
variable {fn fc fv fs fe fw fa fk : Int32} {mem ups fen lac hld lnk ack pay car phs cur hrd tok pY hY : Nat → Int32}
theorem ld_shE {C c s i m : Nat} (hm : m < 8) (em : mem (C * 5 + (s + i) % 5) = nI m) : ld_sh mem hY C c s i = hY (c * 8 + m) := by
  show hY (c * 8 + (mem (C * 5 + (s + i) % 5)).toNatClampNeg) = _
  rw [em, nI_clamp (by omega)]
theorem lx_stL {post : Int32 → Prop} {C c s : Nat} (hC : C ≤ 16) (hc : c < 4) (hs : s < 5) (hM : ld_MV mem 8) (hh : hrd c = nI (ld_hp (fun i => hY (c * 8 + i)) 8)) (h0 : ld_ct (ld_sh mem hY C c s) 3 < 2 → post 0) (h1 : 2 ≤ ld_ct (ld_sh mem hY C c s) 3 → post 1) : ∀ d i, i + d = 3 → wX_stripeHeard_5 post (nI c) (nI s) fn (nI C) fv fs fe fw fa fk mem ups fen lac hld lnk ack pay car phs cur hrd tok (d + 1) (nI (ld_ct (ld_sh mem hY C c s) i)) (nI i) := by
  intro d
  induction d with
  | zero =>
    intro i hi
    have e3 : i = 3 := by omega
    subst e3
    have hb := ld_ct_le (ld_sh mem hY C c s) 3
    exact br_t (nI_le (a := 3) (Nat.le_refl 3) (by decide)) (pk_lt _ 2 h0 h1)
  | succ d ih =>
    intro i hi
    have h5 := ld_lt5 (s + i)
    obtain ⟨m, hm, em⟩ := hM (C * 5 + (s + i) % 5)
    have ea := ld_shE (hY := hY) (c := c) hm em
    refine br_f (nI_ge (b := 3) (by omega) (by decide)) (And.intro (by decide) ?_)
    rw [ld_hix (by omega), nI_clamp (n := C * 5 + (s + i) % 5) (by omega), nI_clamp (n := c) (by omega), em, hh]
    refine And.intro (vp_in_nI (by omega) (by omega)) (nm_e (And.intro (vp_in_nI hc (by decide)) ?_))
    rw [ld_bt _ hm, nI_add]
    refine nm_r (e' := nI (ld_ct (ld_sh mem hY C c s) (i + 1))) ?_ (nm_r (nI_1 i) (ih (i + 1) (by omega)))
    show _ = nI (ld_ct (ld_sh mem hY C c s) i + (if ld_sh mem hY C c s i = 0 then 0 else 1))
    rw [ea]
theorem lx_stripe {post : Int32 → Prop} {C c s : Nat} (hC : C ≤ 16) (hc : c < 4) (hs : s < 5) (hM : ld_MV mem 8) (hh : hrd c = nI (ld_hp (fun i => hY (c * 8 + i)) 8)) (h0 : ld_ct (ld_sh mem hY C c s) 3 < 2 → post 0) (h1 : 2 ≤ ld_ct (ld_sh mem hY C c s) 3 → post 1) : wpX_stripeHeard post (fn, nI C, fv, fs, fe, fw, fa, fk, mem, ups, fen, lac, hld, lnk, ack, pay, car, phs, cur, hrd, tok) (nI c) (nI s) :=
  Exists.intro 4 (lx_stL hC hc hs hM hh h0 h1 3 0 rfl)
/-- every stripe has been heard by two -/
def ld_AS (mem hY : Nat → Int32) (C c : Nat) : Prop := ∀ s, s < 5 → 2 ≤ ld_ct (ld_sh mem hY C c s) 3
theorem lx_asL {post : Int32 → Prop} {C c : Nat} (hC : C ≤ 16) (hc : c < 4) (hM : ld_MV mem 8) (hh : hrd c = nI (ld_hp (fun i => hY (c * 8 + i)) 8)) (h1 : ld_AS mem hY C c → post 1) (h0 : ¬ ld_AS mem hY C c → post 0) : ∀ d s, s + d = 5 → (∀ s', s' < s → 2 ≤ ld_ct (ld_sh mem hY C c s') 3) → wX_allStripesHeard_2 post (nI c) fn (nI C) fv fs fe fw fa fk mem ups fen lac hld lnk ack pay car phs cur hrd tok (d + 1) (nI s) := by
  intro d
  induction d with
  | zero =>
    intro s hs hall
    have e5 : s = 5 := by omega
    subst e5
    exact br_t (nI_le (a := 5) (Nat.le_refl 5) (by decide)) (h1 hall)
  | succ d ih =>
    intro s hs hall
    refine br_f (nI_ge (b := 5) (by omega) (by decide)) ?_
    refine lx_stripe hC hc (by omega) hM hh (fun z => ?_) (fun z => ?_)
    · refine br_t rfl (h0 (fun hA => ?_))
      have := hA s (by omega)
      omega
    · refine br_f (by decide) (nm_r (nI_1 s) (ih (s + 1) (by omega) (fun s' hs' => ?_)))
      by_cases y : s' = s
      · rw [y]; exact z
      · exact hall s' (by omega)
theorem lx_allSt {post : Int32 → Prop} {C c : Nat} (hC : C ≤ 16) (hc : c < 4) (hM : ld_MV mem 8) (hh : hrd c = nI (ld_hp (fun i => hY (c * 8 + i)) 8)) (h1 : ld_AS mem hY C c → post 1) (h0 : ¬ ld_AS mem hY C c → post 0) : wpX_allStripesHeard post (fn, nI C, fv, fs, fe, fw, fa, fk, mem, ups, fen, lac, hld, lnk, ack, pay, car, phs, cur, hrd, tok) (nI c) :=
  Exists.intro 6 (lx_asL hC hc hM hh h1 h0 5 0 rfl (fun s' h => absurd h (Nat.not_lt_zero s')))
theorem ly_feL {post J : Int32 → Prop} {C c s : Nat} (hC : C ≤ 16) (hc : c < 4) (hs : s < 5) (hM : ld_MV mem 8) (h0 : ld_ct (ld_sh mem hY C c s) 3 < 2 → post 0) (h1 : 2 ≤ ld_ct (ld_sh mem hY C c s) 3 → J (nI (s + 1))) : ∀ d i, i + d = 3 → wY_fencedEnough_12 post J (nI c) (nI s) fn (nI C) fv fs fe fa mem ups fen hld ack lnk pay car pY cur tok hY (d + 1) (nI (ld_ct (ld_sh mem hY C c s) i)) (nI i) := by
  intro d
  induction d with
  | zero =>
    intro i hi
    have e3 : i = 3 := by omega
    subst e3
    have hb := ld_ct_le (ld_sh mem hY C c s) 3
    exact br_t (nI_le (a := 3) (Nat.le_refl 3) (by decide)) (pk_le 2 _ (fun h => nm_r (nI_1 s) (h1 h)) h0)
  | succ d ih =>
    intro i hi
    have h5 := ld_lt5 (s + i)
    obtain ⟨m, hm, em⟩ := hM (C * 5 + (s + i) % 5)
    have ea := ld_shE (hY := hY) (c := c) hm em
    refine br_f (nI_ge (b := 3) (by omega) (by decide)) (And.intro (by decide) ?_)
    rw [ld_hix (by omega), nI_clamp (n := C * 5 + (s + i) % 5) (by omega), em, ld_cl8 hc hm]
    refine And.intro (vp_in_nI (by omega) (by omega)) (And.intro (ld_in8 hc hm) ?_)
    have K := ih (i + 1) (by omega)
    by_cases z : hY (c * 8 + m) = 0
    · rw [ld_ct0 (ea.trans z)] at K
      exact br_t z (nm_r (nI_1 i) K)
    · rw [ld_ct1 (by rw [ea]; exact z)] at K
      exact br_f z (nm_r (nI_1 _) (nm_r (nI_1 i) K))
theorem ly_fe2 {post : Int32 → Prop} {C c : Nat} (hC : C ≤ 16) (hc : c < 4) (hM : ld_MV mem 8) (h1 : ld_AS mem hY C c → post 1) (h0 : ¬ ld_AS mem hY C c → post 0) : ∀ d s, s + d = 5 → (∀ s', s' < s → 2 ≤ ld_ct (ld_sh mem hY C c s') 3) → wY_fencedEnough_2 post (nI c) fn (nI C) fv fs fe fa mem ups fen hld ack lnk pay car pY cur tok hY (d + 1) (nI s) := by
  intro d
  induction d with
  | zero =>
    intro s hs hall
    have e5 : s = 5 := by omega
    subst e5
    exact br_t (nI_le (a := 5) (Nat.le_refl 5) (by decide)) (h1 hall)
  | succ d ih =>
    intro s hs hall
    refine br_f (nI_ge (b := 5) (by omega) (by decide)) (Exists.intro 4 ?_)
    refine ly_feL hC hc (by omega) hM (fun z => ?_) (fun z => ?_) 3 0 rfl
    · refine h0 (fun hA => ?_)
      have := hA s (by omega)
      omega
    · refine ih (s + 1) (by omega) (fun s' hs' => ?_)
      by_cases y : s' = s
      · rw [y]; exact z
      · exact hall s' (by omega)
theorem ly_fenced {post : Int32 → Prop} {C c : Nat} (hC : C ≤ 16) (hc : c < 4) (hM : ld_MV mem 8) (h1 : ld_AS mem hY C c → post 1) (h0 : ¬ ld_AS mem hY C c → post 0) : wpY_fencedEnough post (fn, nI C, fv, fs, fe, fa, mem, ups, fen, hld, ack, lnk, pay, car, pY, cur, tok, hY) (nI c) :=
  Exists.intro 6 (ly_fe2 hC hc hM h1 h0 5 0 rfl (fun s' h => absurd h (Nat.not_lt_zero s')))
theorem ly_hcL {post : Int32 → Prop} {c : Nat} (hc : c < 4) (hp : post (nI (ld_ct (fun i => hY (c * 8 + i)) 8))) : ∀ d i, i + d = 8 → wY_heardCount_4 post (nI c) fn fc fv fs fe fa mem ups fen hld ack lnk pay car pY cur tok hY (d + 1) (nI (ld_ct (fun i => hY (c * 8 + i)) i)) (nI i) := by
  intro d
  induction d with
  | zero =>
    intro i hi
    have e8 : i = 8 := by omega
    subst e8
    exact br_t (nI_le (a := 8) (Nat.le_refl 8) (by decide)) hp
  | succ d ih =>
    intro i hi
    refine br_f (nI_ge (b := 8) (by omega) (by decide)) (And.intro (ld_in8 hc (by omega)) ?_)
    rw [ld_cl8 hc (by omega)]
    have K := ih (i + 1) (by omega)
    by_cases z : hY (c * 8 + i) = 0
    · rw [ld_ct0 (f := fun i => hY (c * 8 + i)) z] at K
      exact br_t z (nm_r (nI_1 i) K)
    · rw [ld_ct1 (f := fun i => hY (c * 8 + i)) z] at K
      exact br_f z (nm_r (nI_1 _) (nm_r (nI_1 i) K))
theorem ly_hc {post : Int32 → Prop} {c : Nat} (hc : c < 4) (hp : post (nI (ld_ct (fun i => hY (c * 8 + i)) 8))) : wpY_heardCount post (fn, fc, fv, fs, fe, fa, mem, ups, fen, hld, ack, lnk, pay, car, pY, cur, tok, hY) (nI c) :=
  Exists.intro 9 (ly_hcL hc hp 8 0 rfl)
theorem lx_two {post : Int32 → Prop} {c : Nat} {b : Nat → Int32} (hc : c < 4) (hh : hrd c = nI (ld_hp b 8)) (h0 : ld_ct b 8 < 2 → post 0) (h1 : 2 ≤ ld_ct b 8 → post 1) : wpX_twoHeard post (fn, fc, fv, fs, fe, fw, fa, fk, mem, ups, fen, lac, hld, lnk, ack, pay, car, phs, cur, hrd, tok) (nI c) := by
  refine And.intro (vp_in_nI hc (by decide)) ?_
  rw [nI_clamp (n := c) (by omega), hh]
  refine nm_e ?_
  by_cases z : ld_ct b 8 < 2
  · exact br_t ((ld_two b).mpr z) (h0 z)
  · exact br_f (fun y => z ((ld_two b).mp y)) (h1 (by omega))
theorem lx_readOn {post : SX → Prop} {C K c : Nat} (hc : c < 4) (hC : C ≤ 16) (hK : K ≤ C) (hk : cur c = nI K) (h4 : K = C → post (fn, nI C, fv, fs, fe, fw, fa, fk, mem, ups, fen, lac, hld, lnk, ack, pay, car, upd phs c 4, cur, upd hrd c 0, tok)) (h2 : K ≠ C → post (fn, nI C, fv, fs, fe, fw, fa, fk, mem, ups, fen, lac, hld, lnk, ack, pay, car, upd phs c 2, cur, upd hrd c 0, tok)) : wpX_readOn post (fn, nI C, fv, fs, fe, fw, fa, fk, mem, ups, fen, lac, hld, lnk, ack, pay, car, phs, cur, hrd, tok) (nI c) := by
  refine And.intro (vp_in_nI hc (by decide)) ?_
  rw [nI_clamp (n := c) (by omega), hk]
  by_cases z : K = C
  · refine br_t (by rw [z]) ?_
    unfold wX_readOn_18
    exact lx_enter hc (h4 z)
  · refine br_f (fun y => z ((nI_eq (by omega) (by omega)).mp y)) ?_
    unfold wX_readOn_18
    exact lx_enter hc (h2 z)
/-- the greatest number of the nodes that are up -/
def ld_bf (ups lac : Nat → Int32) : Nat → Int32
  | 0 => -1
  | i + 1 => if ups i = 0 then ld_bf ups lac i else if lac i ≤ ld_bf ups lac i then ld_bf ups lac i else lac i
theorem ld_bf0 {i : Nat} (h : ups i = 0) : ld_bf ups lac (i + 1) = ld_bf ups lac i := if_pos h
theorem ld_bf1 {i : Nat} (h : ¬ ups i = 0) (h2 : lac i ≤ ld_bf ups lac i) : ld_bf ups lac (i + 1) = ld_bf ups lac i := (if_neg h).trans (if_pos h2)
theorem ld_bf2 {i : Nat} (h : ¬ ups i = 0) (h2 : ¬ lac i ≤ ld_bf ups lac i) : ld_bf ups lac (i + 1) = lac i := (if_neg h).trans (if_neg h2)
theorem lx_boL {post : Int32 → Prop} {N : Nat} (hN : N ≤ 8) (hp : post (ld_bf ups lac N)) : ∀ d i, i + d = N → wX_bound_17 post (nI N) fc fv fs fe fw fa fk mem ups fen lac hld lnk ack pay car phs cur hrd tok (d + 1) (ld_bf ups lac i) (nI i) := by
  intro d
  induction d with
  | zero =>
    intro i hi
    have e8 : i = N := by omega
    subst e8
    exact br_t (nI_le (Nat.le_refl i) (by omega)) hp
  | succ d ih =>
    intro i hi
    refine br_f (nI_ge (by omega) (by omega)) (And.intro (vp_in_nI (by omega) (by decide)) ?_)
    rw [nI_clamp (n := i) (by omega)]
    have K := ih (i + 1) (by omega)
    by_cases z : ups i = 0
    · rw [ld_bf0 z] at K
      exact br_t z (nm_r (nI_1 i) K)
    · refine br_f z (And.intro (vp_in_nI (by omega) (by decide)) ?_)
      by_cases y : lac i ≤ ld_bf ups lac i
      · rw [ld_bf1 z y] at K
        exact br_t y (nm_r (nI_1 i) K)
      · rw [ld_bf2 z y] at K
        exact br_f y (And.intro (vp_in_nI (by omega) (by decide)) (nm_e (nm_r (nI_1 i) K)))
theorem ly_boL {post : Int32 → Prop} {N C : Nat} (hN : N ≤ 8) (hC : C ≤ 16) (hL : ∀ q, q < N → ld_LC hld car C q (lac q)) (hp : post (ld_bf ups lac N)) : ∀ d i, i + d = N → wY_bound_17 post (nI N) (nI C) fv fs fe fa mem ups fen hld ack lnk pay car pY cur tok hY (d + 1) (ld_bf ups lac i) (nI i) := by
  intro d
  induction d with
  | zero =>
    intro i hi
    have e8 : i = N := by omega
    subst e8
    exact br_t (nI_le (Nat.le_refl i) (by omega)) hp
  | succ d ih =>
    intro i hi
    refine br_f (nI_ge (by omega) (by omega)) (And.intro (vp_in_nI (by omega) (by decide)) ?_)
    rw [nI_clamp (n := i) (by omega)]
    have K := ih (i + 1) (by omega)
    by_cases z : ups i = 0
    · rw [ld_bf0 z] at K
      exact br_t z (nm_r (nI_1 i) K)
    · refine br_f z ?_
      refine ly_lac hC (by omega) (hL i (by omega)) ?_
      by_cases y : lac i ≤ ld_bf ups lac i
      · rw [ld_bf1 z y] at K
        exact br_t y (nm_r (nI_1 i) K)
      · rw [ld_bf2 z y] at K
        refine br_f y ?_
        refine ly_lac hC (by omega) (hL i (by omega)) ?_
        exact nm_r (nI_1 i) K
theorem lx_bound {post : Int32 → Prop} {N : Nat} (hN : N ≤ 8) (h2 : fs = 2 → post fe) (h : ¬ fs = 2 → post (ld_bf ups lac N)) : wpX_bound post (nI N, fc, fv, fs, fe, fw, fa, fk, mem, ups, fen, lac, hld, lnk, ack, pay, car, phs, cur, hrd, tok) :=
  br_c h2 (fun z => Exists.intro (N + 1) (lx_boL hN (h z) N 0 (by omega)))
theorem ly_bound {post : Int32 → Prop} {N C : Nat} (hN : N ≤ 8) (hC : C ≤ 16) (hL : ∀ q, q < N → ld_LC hld car C q (lac q)) (h2 : fs = 2 → post fe) (h : ¬ fs = 2 → post (ld_bf ups lac N)) : wpY_bound post (nI N, nI C, fv, fs, fe, fa, mem, ups, fen, hld, ack, lnk, pay, car, pY, cur, tok, hY) :=
  br_c h2 (fun z => Exists.intro (N + 1) (ly_boL hN hC hL (h z) N 0 (by omega)))
end
end
section
/-! the relation; the constructors -/
/-- the two objects: what both keep is the same; the rest is ld_RR -/
def i_Rel (k : Nat) (u : SX) (v : SY) : Prop := ∃ (N C A F : Nat) (fv fs fe fw : Int32) (mem ups fen lac hld lnk ack pay car phs cur hrd tok pY hY : Nat → Int32), u = (nI N, nI C, fv, fs, fe, fw, nI A, nI F - 1, mem, ups, fen, lac, hld, lnk, ack, pay, car, phs, cur, hrd, tok) ∧ v = (nI N, nI C, fv, fs, fe, nI A, mem, ups, fen, hld, ack, lnk, pay, car, pY, cur, tok, hY) ∧ ld_RR N C A F fw mem lac hld lnk ack car phs cur hrd pY hY
theorem i_up {k : Nat} {u : SX} {v : SY} (h : i_Rel k u v) : i_Rel (k + 4) u v := h
theorem ld_mk (k : Nat) {N C A F : Nat} {fv fs fe fw : Int32} {mem ups fen lac hld lnk ack pay car phs cur hrd tok pY hY : Nat → Int32} (h : ld_RR N C A F fw mem lac hld lnk ack car phs cur hrd pY hY) : i_Rel k (nI N, nI C, fv, fs, fe, fw, nI A, nI F - 1, mem, ups, fen, lac, hld, lnk, ack, pay, car, phs, cur, hrd, tok) (nI N, nI C, fv, fs, fe, nI A, mem, ups, fen, hld, ack, lnk, pay, car, pY, cur, tok, hY) :=
  ⟨N, C, A, F, fv, fs, fe, fw, mem, ups, fen, lac, hld, lnk, ack, pay, car, phs, cur, hrd, tok, pY, hY, rfl, rfl, h⟩
theorem ld_el {P : SX → SY → Prop} {k : Nat} {u : SX} {v : SY} (h : ∀ (N C A F : Nat) (fv fs fe fw : Int32) (mem ups fen lac hld lnk ack pay car phs cur hrd tok pY hY : Nat → Int32), ld_RR N C A F fw mem lac hld lnk ack car phs cur hrd pY hY → P (nI N, nI C, fv, fs, fe, fw, nI A, nI F - 1, mem, ups, fen, lac, hld, lnk, ack, pay, car, phs, cur, hrd, tok) (nI N, nI C, fv, fs, fe, nI A, mem, ups, fen, hld, ack, lnk, pay, car, pY, cur, tok, hY)) (I : i_Rel k u v) : P u v :=
  Exists.elim I fun N I => Exists.elim I fun C I => Exists.elim I fun A I => Exists.elim I fun F I => Exists.elim I fun fv I => Exists.elim I fun fs I => Exists.elim I fun fe I => Exists.elim I fun fw I => Exists.elim I fun mem I => Exists.elim I fun ups I => Exists.elim I fun fen I => Exists.elim I fun lac I => Exists.elim I fun hld I => Exists.elim I fun lnk I => Exists.elim I fun ack I => Exists.elim I fun pay I => Exists.elim I fun car I => Exists.elim I fun phs I => Exists.elim I fun cur I => Exists.elim I fun hrd I => Exists.elim I fun tok I => Exists.elim I fun pY I => Exists.elim I fun hY I => by
    rw [I.1, I.2.1]
    exact h N C A F fv fs fe fw mem ups fen lac hld lnk ack pay car phs cur hrd tok pY hY I.2.2
def ld_im : Nat → Nat → Int32
  | 0 => fun _ => 0
  | i + 1 => upd (ld_im i) i (nI (i % 5))
theorem ld_imV {N : Nat} (hN : 5 ≤ N) : ∀ n, ld_MV (ld_im n) N
  | 0 => fun _ => ⟨0, by omega, rfl⟩
  | n + 1 => fun j => by
    show ∃ m, m < N ∧ upd (ld_im n) n (nI (n % 5)) j = nI m
    by_cases z : j = n
    · exact ⟨n % 5, by omega, by rw [z, pk_us]⟩
    · rw [pk_un z]
      exact ld_imV hN n j
def ld_fl (x : Int32) : Nat → Nat → Int32
  | 0 => fun _ => 0
  | i + 1 => upd (ld_fl x i) i x
theorem ld_fl_at (x : Int32) {j : Nat} : ∀ n, j < n → ld_fl x n j = x
  | 0, h => absurd h (Nat.not_lt_zero j)
  | n + 1, h => by
    show upd (ld_fl x n) n x j = x
    by_cases z : j = n
    · rw [z, pk_us]
    · rw [pk_un z]
      exact ld_fl_at x n (by omega)
theorem ld_clamp (v : Int32) (a b : Nat) (hab : a ≤ b) (hb : b < 2 ^ 31) : ∃ N, a ≤ N ∧ N ≤ b ∧ (∀ (post : Int32 → Prop) (u : SX), post (nI N) → wpX_clamp post u v (nI a) (nI b)) ∧ (∀ (Q : Int32 → Prop), Q (nI N) → ((nI a ≤ v → ((v ≤ nI b → Q v) ∧ (¬ v ≤ nI b → Q (nI b)))) ∧ (¬ nI a ≤ v → Q (nI a)))) := by
  by_cases h1 : nI a ≤ v
  · have h0 : ¬ v < 0 := by
      have e0 : (0 : Int32).toInt = 0 := by decide
      rw [Int32.le_iff_toInt_le, nI_toInt (by omega)] at h1
      rw [Int32.lt_iff_toInt_lt]
      omega
    obtain ⟨n, hn, rfl⟩ := nI_of h0
    by_cases h2 : nI n ≤ nI b
    · exact ⟨n, (nI_leI (by omega) hn).mp h1, (nI_leI hn hb).mp h2, fun post u hp => br_t h1 (br_t h2 hp), fun Q hq => br_t h1 (br_t h2 hq)⟩
    · exact ⟨b, hab, Nat.le_refl b, fun post u hp => br_t h1 (br_f h2 hp), fun Q hq => br_t h1 (br_f h2 hq)⟩
  · exact ⟨a, Nat.le_refl a, hab, fun post u hp => br_f h1 hp, fun Q hq => br_f h1 hq⟩
section
variable {fn fc fv fs fe fw fa fk : Int32} {mem ups fen lac hld lnk ack pay car phs cur hrd tok pY hY : Nat → Int32}
theorem lx_in1 {post : SX → Prop} (hp : ∃ n, wX_init_186 post fn fc fv fs fe fw fa fk n 0 (ld_im 85) ups fen lac hld lnk ack pay car phs cur hrd tok) : ∀ d i, i + d = 85 → wX_init_163 post fn fc fv fs fe fw fa fk (d + 1) (nI i) (ld_im i) ups fen lac hld lnk ack pay car phs cur hrd tok := by
  intro d
  induction d with
  | zero =>
    intro i hi
    have e8 : i = 85 := by omega
    subst e8
    exact br_t (nI_le (a := 85) (Nat.le_refl 85) (by decide)) hp
  | succ d ih =>
    intro i hi
    refine br_f (nI_ge (b := 85) (by omega) (by decide)) (And.intro (by decide) (And.intro (vp_in_nI (by omega) (by decide)) ?_))
    rw [nI_clamp (n := i) (by omega), ld_rem5 (by omega)]
    exact nm_e (nm_r (nI_1 i) (ih (i + 1) (by omega)))
theorem ly_in1 {post : SY → Prop} (hp : ∃ n, wY_init_195 post fn fc fv fs fe fa n 0 (ld_im 85) ups fen hld ack lnk pay car pY cur tok hY) : ∀ d i, i + d = 85 → wY_init_172 post fn fc fv fs fe fa (d + 1) (nI i) (ld_im i) ups fen hld ack lnk pay car pY cur tok hY := by
  intro d
  induction d with
  | zero =>
    intro i hi
    have e8 : i = 85 := by omega
    subst e8
    exact br_t (nI_le (a := 85) (Nat.le_refl 85) (by decide)) hp
  | succ d ih =>
    intro i hi
    refine br_f (nI_ge (b := 85) (by omega) (by decide)) (And.intro (by decide) (And.intro (vp_in_nI (by omega) (by decide)) ?_))
    rw [nI_clamp (n := i) (by omega), ld_rem5 (by omega)]
    exact nm_e (nm_r (nI_1 i) (ih (i + 1) (by omega)))
theorem lx_in2 {post : SX → Prop} (hp : ∃ n, wX_init_214 post fn fc fv fs fe fw fa fk n 0 mem (ld_fl 1 8) fen (ld_fl (-1) 8) hld lnk ack pay car phs cur hrd tok) : ∀ d i, i + d = 8 → wX_init_186 post fn fc fv fs fe fw fa fk (d + 1) (nI i) mem (ld_fl 1 i) fen (ld_fl (-1) i) hld lnk ack pay car phs cur hrd tok := by
  intro d
  induction d with
  | zero =>
    intro i hi
    have e8 : i = 8 := by omega
    subst e8
    exact br_t (nI_le (a := 8) (Nat.le_refl 8) (by decide)) hp
  | succ d ih =>
    intro i hi
    refine br_f (nI_ge (b := 8) (by omega) (by decide)) (And.intro (vp_in_nI (by omega) (by decide)) ?_)
    rw [nI_clamp (n := i) (by omega), ld_b1]
    exact nm_e (And.intro (vp_in_nI (by omega) (by decide)) (nm_e (nm_r (nI_1 i) (ih (i + 1) (by omega)))))
theorem ly_in2 {post : SY → Prop} (hp : ∃ n, wY_init_216 post fn fc fv fs fe fa n 0 mem (ld_fl 1 8) fen hld ack lnk pay car pY cur tok hY) : ∀ d i, i + d = 8 → wY_init_195 post fn fc fv fs fe fa (d + 1) (nI i) mem (ld_fl 1 i) fen hld ack lnk pay car pY cur tok hY := by
  intro d
  induction d with
  | zero =>
    intro i hi
    have e8 : i = 8 := by omega
    subst e8
    exact br_t (nI_le (a := 8) (Nat.le_refl 8) (by decide)) hp
  | succ d ih =>
    intro i hi
    refine br_f (nI_ge (b := 8) (by omega) (by decide)) (And.intro (vp_in_nI (by omega) (by decide)) ?_)
    rw [nI_clamp (n := i) (by omega), ld_b1]
    exact nm_e (nm_r (nI_1 i) (ih (i + 1) (by omega)))
theorem lx_in3 {post : SX → Prop} (hp : post (fn, fc, fv, fs, fe, fw, fa, fk, mem, ups, fen, lac, hld, lnk, ack, pay, car, phs, cur, hrd, ld_fl (-1) 4)) : ∀ d i, i + d = 4 → wX_init_214 post fn fc fv fs fe fw fa fk (d + 1) (nI i) mem ups fen lac hld lnk ack pay car phs cur hrd (ld_fl (-1) i) := by
  intro d
  induction d with
  | zero =>
    intro i hi
    have e8 : i = 4 := by omega
    subst e8
    exact br_t (nI_le (a := 4) (Nat.le_refl 4) (by decide)) hp
  | succ d ih =>
    intro i hi
    refine br_f (nI_ge (b := 4) (by omega) (by decide)) (And.intro (vp_in_nI (by omega) (by decide)) ?_)
    rw [nI_clamp (n := i) (by omega)]
    exact nm_e (nm_r (nI_1 i) (ih (i + 1) (by omega)))
theorem ly_in3 {post : SY → Prop} (hp : post (fn, fc, fv, fs, fe, fa, mem, ups, fen, hld, ack, lnk, pay, car, upd pY 0 5, cur, ld_fl (-1) 4, hY)) : ∀ d i, i + d = 4 → wY_init_216 post fn fc fv fs fe fa (d + 1) (nI i) mem ups fen hld ack lnk pay car pY cur (ld_fl (-1) i) hY := by
  intro d
  induction d with
  | zero =>
    intro i hi
    have e8 : i = 4 := by omega
    subst e8
    exact br_t (nI_le (a := 4) (Nat.le_refl 4) (by decide)) (nm_e hp)
  | succ d ih =>
    intro i hi
    refine br_f (nI_ge (b := 4) (by omega) (by decide)) (And.intro (vp_in_nI (by omega) (by decide)) ?_)
    rw [nI_clamp (n := i) (by omega)]
    exact nm_e (nm_r (nI_1 i) (ih (i + 1) (by omega)))
end
theorem ld_R0 {N C : Nat} (h1 : 5 ≤ N) (h2 : N ≤ 8) (h3 : 4 ≤ C) (h4 : C ≤ 16) : ld_RR N C 0 0 5 (ld_im 85) (ld_fl (-1) 8) (fun _ => 0) (fun _ => 0) (fun _ => 0) (fun _ => 0) (fun _ => 0) (fun _ => 0) (fun _ => 0) (upd (fun _ => 0) 0 5) (fun _ => 0) := by
  refine ⟨⟨h1, h2, h3, h4, Nat.zero_le _⟩, ld_imV h1 85, ⟨fun _ _ _ _ _ => rfl, fun _ _ _ _ _ => rfl, fun _ _ _ _ _ => rfl⟩, ⟨Nat.le_refl 0, fun e he => absurd he (Nat.not_lt_zero e), fun z => absurd z (Nat.lt_irrefl 0)⟩, fun q hq => ?_, fun e he => absurd he (Nat.not_lt_zero e), pk_us, fun c c1 c4 => ?_⟩
  · rw [ld_fl_at (-1) 8 (by omega)]
    exact ⟨Int32.le_refl _, fun e he hh => absurd rfl hh, Or.inl rfl⟩
  · refine ⟨pk_un (by omega), ?_, fun _ _ _ => rfl, 0, 0, by omega, by omega, rfl, rfl, fun z => by omega, fun z => by omega⟩
    rw [ld_hp_zero 8 (fun _ _ => rfl)]
    rfl
theorem ly_init {post : SY → Prop} {N C : Nat} (hp : post (nI N, nI C, 0, 0, -1, 0, ld_im 85, ld_fl 1 8, (fun _ => 0), (fun _ => 0), (fun _ => 0), (fun _ => 0), (fun _ => 0), (fun _ => 0), upd (fun _ => 0) 0 5, (fun _ => 0), ld_fl (-1) 4, (fun _ => 0))) : ∃ n, wY_init_172 post (nI N) (nI C) 0 0 (-1) 0 n 0 (fun _ => 0) (fun _ => 0) (fun _ => 0) (fun _ => 0) (fun _ => 0) (fun _ => 0) (fun _ => 0) (fun _ => 0) (fun _ => 0) (fun _ => 0) (fun _ => 0) (fun _ => 0) :=
  ⟨86, ly_in1 ⟨9, ly_in2 ⟨5, ly_in3 hp 4 0 rfl⟩ 8 0 rfl⟩ 85 0 rfl⟩
theorem lx_init {post : SX → Prop} {N C : Nat} (hp : post (nI N, nI C, 0, 0, -1, 5, 0, -1, ld_im 85, ld_fl 1 8, (fun _ => 0), ld_fl (-1) 8, (fun _ => 0), (fun _ => 0), (fun _ => 0), (fun _ => 0), (fun _ => 0), (fun _ => 0), (fun _ => 0), (fun _ => 0), ld_fl (-1) 4)) : ∃ n, wX_init_163 post (nI N) (nI C) 0 0 (-1) 5 0 (-1) n 0 (fun _ => 0) (fun _ => 0) (fun _ => 0) (fun _ => 0) (fun _ => 0) (fun _ => 0) (fun _ => 0) (fun _ => 0) (fun _ => 0) (fun _ => 0) (fun _ => 0) (fun _ => 0) (fun _ => 0) :=
  ⟨86, lx_in1 ⟨9, lx_in2 ⟨5, lx_in3 hp 4 0 rfl⟩ 8 0 rfl⟩ 85 0 rfl⟩
theorem i_vc0 (k0 : Int32) (k1 : Int32) : wpX_init (fun u => wpY_init (fun v => i_Rel 2 u v) k0 k1) k0 k1 := by
  obtain ⟨N, n1, n2, hX, hY⟩ := ld_clamp k0 5 8 (by decide) (by decide)
  obtain ⟨C, m1, m2, gX, gY⟩ := ld_clamp k1 4 16 (by decide) (by decide)
  unfold wpX_init
  refine hX _ _ ?_
  refine gX _ _ ?_
  refine lx_init ?_
  unfold wpY_init
  refine hY (fun z => wY_init_142 _ k1 z 0 0 0 0 (-1) 0 (fun _ => 0) (fun _ => 0) (fun _ => 0) (fun _ => 0) (fun _ => 0) (fun _ => 0) (fun _ => 0) (fun _ => 0) (fun _ => 0) (fun _ => 0) (fun _ => 0) (fun _ => 0)) ?_
  unfold wY_init_142
  refine gY (fun z => ∃ n, wY_init_172 _ (nI N) z 0 0 (-1) 0 n 0 (fun _ => 0) (fun _ => 0) (fun _ => 0) (fun _ => 0) (fun _ => 0) (fun _ => 0) (fun _ => 0) (fun _ => 0) (fun _ => 0) (fun _ => 0) (fun _ => 0) (fun _ => 0)) ?_
  refine ly_init ?_
  exact ld_mk 2 (A := 0) (F := 0) (ld_R0 n1 n2 m1 m2)
end
section
/-! append, deliver, lose, power -/
section
variable {fn fc fv fs fe fw fa fk : Int32} {mem ups fen lac hld lnk ack pay car phs cur hrd tok pY hY : Nat → Int32}
theorem lx_apL {post : Int32 → SX → Prop} {e : Nat} (he : e < 16) (hM : ld_MV mem 8) (hp : post (nI e) (fn, fc, fv, fs, fe, fw, fa, fk, mem, ups, fen, lac, hld, ld_l3 mem lnk e 3, ack, pay, car, phs, cur, hrd, tok)) : ∀ d i, i + d = 3 → wX_append_64 post (nI e) fn fc fv fs fe fw fa fk (d + 1) (nI i) mem ups fen lac hld (ld_l3 mem lnk e i) ack pay car phs cur hrd tok := by
  intro d
  induction d with
  | zero =>
    intro i hi
    have e3 : i = 3 := by omega
    subst e3
    exact br_t (nI_le (a := 3) (Nat.le_refl 3) (by decide)) hp
  | succ d ih =>
    intro i hi
    obtain ⟨m, hm, em⟩ := hM (e * 5 + (e + i) % 5)
    have K := ih (i + 1) (by omega)
    have el : ld_l3 mem lnk e (i + 1) = upd (ld_l3 mem lnk e i) (m * 16 + e) 1 := by
      show upd (ld_l3 mem lnk e i) ((mem (e * 5 + (e + i) % 5)).toNatClampNeg * 16 + e) 1 = _
      rw [em, nI_clamp (by omega)]
    rw [el] at K
    refine br_f (nI_ge (b := 3) (by omega) (by decide)) ?_
    refine lx_home (by omega) (by omega) ?_
    rw [em]
    refine And.intro (ld_in16 hm he) ?_
    rw [ld_cl16 hm he]
    exact nm_e (nm_r (nI_1 i) K)
theorem ly_apL {post : Int32 → SY → Prop} {e : Nat} (he : e < 16) (hM : ld_MV mem 8) (hp : post (nI e) (fn, fc, fv, fs, fe, fa, mem, ups, fen, hld, ack, ld_l3 mem lnk e 3, pay, car, pY, cur, tok, hY)) : ∀ d i, i + d = 3 → wY_append_66 post (nI e) fn fc fv fs fe fa (d + 1) (nI i) mem ups fen hld ack (ld_l3 mem lnk e i) pay car pY cur tok hY := by
  intro d
  induction d with
  | zero =>
    intro i hi
    have e3 : i = 3 := by omega
    subst e3
    exact br_t (nI_le (a := 3) (Nat.le_refl 3) (by decide)) hp
  | succ d ih =>
    intro i hi
    obtain ⟨m, hm, em⟩ := hM (e * 5 + (e + i) % 5)
    have K := ih (i + 1) (by omega)
    have el : ld_l3 mem lnk e (i + 1) = upd (ld_l3 mem lnk e i) (m * 16 + e) 1 := by
      show upd (ld_l3 mem lnk e i) ((mem (e * 5 + (e + i) % 5)).toNatClampNeg * 16 + e) 1 = _
      rw [em, nI_clamp (by omega)]
    rw [el] at K
    refine br_f (nI_ge (b := 3) (by omega) (by decide)) ?_
    refine ly_home (by omega) (by omega) ?_
    rw [em]
    refine And.intro (ld_in16 hm he) ?_
    rw [ld_cl16 hm he]
    exact nm_e (nm_r (nI_1 i) K)
theorem lx_append {post : Int32 → SX → Prop} {A C : Nat} {v : Int32} (hw : ¬ fw = 6) (hA : A < C) (hC : C ≤ 16) (hM : ld_MV mem 8) (hp : post (nI A) (fn, nI C, fv, fs, fe, fw, nI (A + 1), fk, mem, ups, fen, lac, hld, ld_l3 mem lnk A 3, ack, upd pay A (v &&& 255), upd car A fk, phs, cur, hrd, tok)) : wpX_append post (fn, nI C, fv, fs, fe, fw, nI A, fk, mem, ups, fen, lac, hld, lnk, ack, pay, car, phs, cur, hrd, tok) v := by
  refine br_f hw (br_t (nI_lt hA (by omega)) (And.intro (vp_in_nI (by omega) (by decide)) ?_))
  rw [nI_clamp (n := A) (by omega)]
  exact nm_e (And.intro (vp_in_nI (by omega) (by decide)) (nm_e (nm_r (nI_1 A) (Exists.intro 4 (lx_apL (by omega) hM hp 3 0 rfl)))))
theorem ly_append {post : Int32 → SY → Prop} {A C F : Nat} {v : Int32} (hw : ¬ pY 0 = 6) (hA : A < C) (hC : C ≤ 16) (hM : ld_MV mem 8) (hF : ld_CF mem ack A F) (hp : post (nI A) (fn, nI C, fv, fs, fe, nI (A + 1), mem, ups, fen, hld, ack, ld_l3 mem lnk A 3, upd pay A (v &&& 255), upd car A (nI F - 1), pY, cur, tok, hY)) : wpY_append post (fn, nI C, fv, fs, fe, nI A, mem, ups, fen, hld, ack, lnk, pay, car, pY, cur, tok, hY) v := by
  refine br_f hw (br_t (nI_lt hA (by omega)) (And.intro (vp_in_nI (by omega) (by decide)) ?_))
  rw [nI_clamp (n := A) (by omega)]
  refine nm_e ?_
  refine ly_confirmed (by omega) hM hF ?_
  exact And.intro (vp_in_nI (by omega) (by decide)) (nm_e (nm_r (nI_1 A) (Exists.intro 4 (ly_apL (by omega) hM hp 3 0 rfl))))
theorem i_vc_append {k : Nat} {u : SX} {v : SY} (I : i_Rel k u v) (hk : k + 4 ≤ 2050) (v1 : Int32) : wpX_append (fun r u' => wpY_append (fun r' v' => r' = r ∧ i_Rel (k + 4) u' v') v v1) u v1 := by
  refine ld_el (P := fun u v => wpX_append (fun r u' => wpY_append (fun r' v' => r' = r ∧ i_Rel (k + 4) u' v') v v1) u v1) ?_ I
  intro N C A F fv fs fe fw mem ups fen lac hld lnk ack pay car phs cur hrd tok pY hY h
  have h' := h
  obtain ⟨hS, hM, hZ, hF, hL, hR, hW, hC⟩ := h'
  by_cases hw : fw = 6
  · exact br_t hw (br_t (hW.trans hw) ⟨rfl, ld_mk _ h⟩)
  · have hw' : ¬ pY 0 = 6 := by rw [hW]; exact hw
    by_cases hA : A < C
    · refine lx_append hw hA (by omega) (ld_MV8 hM (by omega)) ?_
      refine ly_append hw' hA (by omega) (ld_MV8 hM (by omega)) hF ?_
      refine ⟨rfl, ld_mk _ (ld_Rp h hA (fun q hq e ha he => ?_))⟩
      rw [ld_l3_n (by omega) he (by omega)]
      exact hZ.2.1 q hq e (by omega) he
    · have hn : ¬ nI A < nI C := nI_nlt (by omega) (by omega)
      exact br_f hw (br_f hn (br_f hw' (br_f hn ⟨rfl, ld_mk _ h⟩)))
theorem ly_dl_none {post : Int32 → SY → Prop} {N C q e : Nat} (hN : N ≤ 8) (hC : C ≤ 16) (hq : q < N) (he : e < C) (z : lnk (q * 16 + e) = 0) (hp : post (-4) (nI N, nI C, fv, fs, fe, fa, mem, ups, fen, hld, ack, lnk, pay, car, pY, cur, tok, hY)) : wpY_deliver post (nI N, nI C, fv, fs, fe, fa, mem, ups, fen, hld, ack, lnk, pay, car, pY, cur, tok, hY) (nI q) (nI e) := by
  unfold wpY_deliver
  try dsimp only
  refine ly_out0 (by omega) hC hq he ?_
  refine br_t rfl (nm_e (And.intro (ld_in16 (by omega) (by omega)) ?_))
  rw [ld_cl16 (by omega) (by omega)]
  exact br_t z hp
theorem ly_dl_req {post : Int32 → SY → Prop} {N C q e : Nat} (hN : N ≤ 8) (hC : C ≤ 16) (hq : q < N) (he : e < C) (z : lnk (q * 16 + e) = 1) (h5 : ups q = 0 → post (-5) (nI N, nI C, fv, fs, fe, fa, mem, ups, fen, hld, ack, lnk, pay, car, pY, cur, tok, hY)) (h2 : ¬ ups q = 0 → fen q = 0 → post 2 (nI N, nI C, fv, fs, fe, fa, mem, ups, fen, upd hld (q * 16 + e) 1, ack, upd lnk (q * 16 + e) 2, pay, car, pY, cur, tok, hY)) (h3 : ¬ ups q = 0 → ¬ fen q = 0 → post 3 (nI N, nI C, fv, fs, fe, fa, mem, ups, fen, hld, ack, upd lnk (q * 16 + e) 3, pay, car, pY, cur, tok, hY)) : wpY_deliver post (nI N, nI C, fv, fs, fe, fa, mem, ups, fen, hld, ack, lnk, pay, car, pY, cur, tok, hY) (nI q) (nI e) := by
  have z0 : ¬ lnk (q * 16 + e) = 0 := by rw [z]; decide
  have hi : vp_in (nI q * 16 + nI e) 128 := ld_in16 (by omega) (by omega)
  have h8 : vp_in (nI q) 8 := vp_in_nI (by omega) (by decide)
  have ec : (nI q * 16 + nI e).toNatClampNeg = q * 16 + e := ld_cl16 (by omega) (by omega)
  have eq : (nI q).toNatClampNeg = q := nI_clamp (by omega)
  unfold wpY_deliver
  try dsimp only
  refine ly_out0 (by omega) hC hq he ?_
  refine br_t rfl (nm_e (And.intro hi ?_))
  rw [ec, eq]
  refine br_f z0 (And.intro hi (br_t z (And.intro h8 ?_)))
  by_cases hu : ups q = 0
  · exact br_t hu (h5 hu)
  · refine br_f hu (And.intro h8 ?_)
    by_cases hf : fen q = 0
    · refine br_t hf (And.intro hi (nm_e ?_))
      unfold wY_deliver_68
      rw [eq, ec, ld_b1]
      refine And.intro h8 (br_t hf (And.intro hi (nm_e (And.intro hi ?_))))
      rw [pk_us]
      exact h2 hu hf
    · refine br_f hf ?_
      unfold wY_deliver_68
      rw [eq, ec]
      refine And.intro h8 (br_f hf (And.intro hi (nm_e (And.intro hi ?_))))
      rw [pk_us]
      exact h3 hu hf
theorem ly_dl_ref {post : Int32 → SY → Prop} {N C q e : Nat} (hN : N ≤ 8) (hC : C ≤ 16) (hq : q < N) (he : e < C) (z : lnk (q * 16 + e) = 3) (hp : post (-2) (nI N, nI C, fv, fs, fe, fa, mem, ups, fen, hld, ack, upd lnk (q * 16 + e) 0, pay, car, upd pY 0 6, cur, tok, hY)) : wpY_deliver post (nI N, nI C, fv, fs, fe, fa, mem, ups, fen, hld, ack, lnk, pay, car, pY, cur, tok, hY) (nI q) (nI e) := by
  have z0 : ¬ lnk (q * 16 + e) = 0 := by rw [z]; decide
  have z1 : ¬ lnk (q * 16 + e) = 1 := by rw [z]; decide
  have hi : vp_in (nI q * 16 + nI e) 128 := ld_in16 (by omega) (by omega)
  have ec : (nI q * 16 + nI e).toNatClampNeg = q * 16 + e := ld_cl16 (by omega) (by omega)
  unfold wpY_deliver
  try dsimp only
  refine ly_out0 (by omega) hC hq he ?_
  refine br_t rfl (nm_e (And.intro hi ?_))
  rw [ec]
  refine br_f z0 (And.intro hi (br_f z1 (And.intro hi (br_t z (nm_e ?_)))))
  unfold wY_deliver_113
  rw [ec]
  exact And.intro hi (nm_e (br_t pk_us hp))
theorem ly_dl_ack {post : Int32 → SY → Prop} {N C q e : Nat} (hN : N ≤ 8) (hC : C ≤ 16) (hq : q < N) (he : e < C) (z0 : ¬ lnk (q * 16 + e) = 0) (z1 : ¬ lnk (q * 16 + e) = 1) (z3 : ¬ lnk (q * 16 + e) = 3) (h6 : pY 0 = 6 → post (-2) (nI N, nI C, fv, fs, fe, fa, mem, ups, fen, hld, ack, upd lnk (q * 16 + e) 0, pay, car, pY, cur, tok, hY)) (h0 : ¬ pY 0 = 6 → post 0 (nI N, nI C, fv, fs, fe, fa, mem, ups, fen, hld, upd ack (q * 16 + e) 1, upd lnk (q * 16 + e) 0, pay, car, pY, cur, tok, hY)) : wpY_deliver post (nI N, nI C, fv, fs, fe, fa, mem, ups, fen, hld, ack, lnk, pay, car, pY, cur, tok, hY) (nI q) (nI e) := by
  have hi : vp_in (nI q * 16 + nI e) 128 := ld_in16 (by omega) (by omega)
  have ec : (nI q * 16 + nI e).toNatClampNeg = q * 16 + e := ld_cl16 (by omega) (by omega)
  unfold wpY_deliver
  try dsimp only
  refine ly_out0 (by omega) hC hq he ?_
  refine br_t rfl (nm_e (And.intro hi ?_))
  rw [ec]
  refine br_f z0 (And.intro hi (br_f z1 (And.intro hi (br_f z3 ?_))))
  unfold wY_deliver_113
  rw [ec, ld_b1]
  exact And.intro hi (nm_e (br_c h6 (fun y => And.intro hi (nm_e (h0 y)))))
theorem lx_dl_req {post : Int32 → SX → Prop} {C q e : Nat} (hC : C ≤ 16) (hq : q < 8) (he : e < C) (h5 : ups q = 0 → post (-5) (fn, nI C, fv, fs, fe, fw, fa, fk, mem, ups, fen, lac, hld, lnk, ack, pay, car, phs, cur, hrd, tok)) (h2 : ¬ ups q = 0 → fen q = 0 → post 2 (fn, nI C, fv, fs, fe, fw, fa, fk, mem, ups, fen, ld_sl lac car q e, upd hld (q * 16 + e) 1, upd lnk (q * 16 + e) 2, ack, pay, car, phs, cur, hrd, tok)) (h3 : ¬ ups q = 0 → ¬ fen q = 0 → post 3 (fn, nI C, fv, fs, fe, fw, fa, fk, mem, ups, fen, lac, hld, upd lnk (q * 16 + e) 3, ack, pay, car, phs, cur, hrd, tok)) : wpX_deliverRequest post (fn, nI C, fv, fs, fe, fw, fa, fk, mem, ups, fen, lac, hld, lnk, ack, pay, car, phs, cur, hrd, tok) (nI q) (nI e) := by
  have hi : vp_in (nI q * 16 + nI e) 128 := ld_in16 (by omega) (by omega)
  have h8 : vp_in (nI q) 8 := vp_in_nI (by omega) (by decide)
  have ec : (nI q * 16 + nI e).toNatClampNeg = q * 16 + e := ld_cl16 (by omega) (by omega)
  have eq : (nI q).toNatClampNeg = q := nI_clamp (by omega)
  refine And.intro h8 ?_
  rw [eq]
  by_cases hu : ups q = 0
  · exact br_t hu (h5 hu)
  · refine br_f hu (And.intro h8 ?_)
    by_cases hf : fen q = 0
    · refine br_t hf ?_
      refine lx_store hC hq he ?_
      dsimp only
      unfold wX_deliverRequest_31
      rw [ec]
      exact And.intro hi (nm_e (h2 hu hf))
    · refine br_f hf ?_
      unfold wX_deliverRequest_31
      rw [ec]
      exact And.intro hi (nm_e (h3 hu hf))
theorem lx_dl_ack {post : Int32 → SX → Prop} {A F F' q e : Nat} (hA : A ≤ 16) (hq : q < 8) (he : e < 16) (hM : ld_MV mem 8) (hFF : F ≤ F') (hF : ¬ fw = 6 → ld_CF mem (upd ack (q * 16 + e) 1) A F') (h6 : fw = 6 → post (-2) (fn, fc, fv, fs, fe, fw, nI A, nI F - 1, mem, ups, fen, lac, hld, lnk, ack, pay, car, phs, cur, hrd, tok)) (h0 : ¬ fw = 6 → post 0 (fn, fc, fv, fs, fe, fw, nI A, nI F' - 1, mem, ups, fen, lac, hld, lnk, upd ack (q * 16 + e) 1, pay, car, phs, cur, hrd, tok)) : wpX_takeAck post (fn, fc, fv, fs, fe, fw, nI A, nI F - 1, mem, ups, fen, lac, hld, lnk, ack, pay, car, phs, cur, hrd, tok) (nI q) (nI e) := by
  have hi : vp_in (nI q * 16 + nI e) 128 := ld_in16 (by omega) (by omega)
  have ec : (nI q * 16 + nI e).toNatClampNeg = q * 16 + e := ld_cl16 (by omega) (by omega)
  by_cases z : fw = 6
  · exact br_t z (h6 z)
  · refine br_f z (And.intro hi ?_)
    rw [ec, ld_b1]
    refine nm_e ?_
    refine lx_advance hA hM hFF (hF z) ?_
    exact h0 z
theorem i_vc_deliver {k : Nat} {u : SX} {v : SY} (I : i_Rel k u v) (hk : k + 4 ≤ 2050) (v1 : Int32) (v2 : Int32) : wpX_deliver (fun r u' => wpY_deliver (fun r' v' => r' = r ∧ i_Rel (k + 4) u' v') v v1 v2) u v1 v2 := by
  refine ld_el (P := fun u v => wpX_deliver (fun r u' => wpY_deliver (fun r' v' => r' = r ∧ i_Rel (k + 4) u' v') v v1 v2) u v1 v2) ?_ I
  intro N C A F fv fs fe fw mem ups fen lac hld lnk ack pay car phs cur hrd tok pY hY h
  have h' := h
  obtain ⟨hS, hM, hZ, hF, hL, hR, hW, hC⟩ := h'
  unfold wpX_deliver
  try dsimp only
  rcases ld_triP v1 v2 (N := N) (C := C) (by omega) (by omega) with hb | ⟨q, e, hq, he, rfl, rfl⟩
  · refine lx_isPair0 (by omega) hb ?_
    refine br_t rfl ?_
    unfold wpY_deliver
    try dsimp only
    refine ly_out1 (by omega) hb ?_
    exact br_f (by decide) ⟨rfl, ld_mk _ h⟩
  · have hi : vp_in (nI q * 16 + nI e) 128 := ld_in16 (by omega) (by omega)
    have ec : (nI q * 16 + nI e).toNatClampNeg = q * 16 + e := ld_cl16 (by omega) (by omega)
    refine lx_isPair1 (by omega) (by omega) hq he ?_
    refine br_f (by decide) (And.intro hi ?_)
    rw [ec]
    refine nm_e ?_
    by_cases z0 : lnk (q * 16 + e) = 0
    · refine br_t z0 ?_
      refine ly_dl_none (by omega) (by omega) hq he z0 ?_
      exact ⟨rfl, ld_mk _ h⟩
    · have hA : e < A := ld_Zlt hZ.2.1 (by omega) (by omega) z0
      refine br_f z0 ?_
      by_cases z1 : lnk (q * 16 + e) = 1
      · refine br_t z1 ?_
        refine lx_dl_req (by omega) (by omega) he (fun y => ?_) (fun y y2 => ?_) (fun y y2 => ?_)
        · refine ly_dl_req (by omega) (by omega) hq he z1 (fun _ => ?_) (fun w => absurd y w) (fun w => absurd y w)
          exact ⟨rfl, ld_mk _ h⟩
        · refine ly_dl_req (by omega) (by omega) hq he z1 (fun w => absurd w y) (fun _ _ => ?_) (fun _ w => absurd y2 w)
          exact ⟨rfl, ld_mk _ (ld_Rl (ld_Rs h hq hA) (ld_Zu hZ.2.1 2 (by omega) hA))⟩
        · refine ly_dl_req (by omega) (by omega) hq he z1 (fun w => absurd w y) (fun _ w => absurd w y2) (fun _ _ => ?_)
          exact ⟨rfl, ld_mk _ (ld_Rl h (ld_Zu hZ.2.1 3 (by omega) hA))⟩
      · refine br_f z1 (And.intro hi (nm_e ?_))
        by_cases z3 : lnk (q * 16 + e) = 3
        · refine br_t z3 ?_
          refine ly_dl_ref (by omega) (by omega) hq he z3 ?_
          exact ⟨rfl, ld_mk _ (ld_Rw 6 (ld_Rl h (ld_Z0 hZ.2.1)))⟩
        · refine br_f z3 ?_
          obtain ⟨F', hFF, hF'⟩ := ld_CFup (ack' := upd ack (q * 16 + e) 1) hF (fun _ _ _ _ => rfl) (fun j hj => by
            by_cases y : j = q * 16 + e
            · rw [y, pk_us]; decide
            · rw [pk_un y]; exact hj)
          refine lx_dl_ack (by omega) (by omega) (by omega) (ld_MV8 hM (by omega)) hFF (fun _ => hF') (fun y => ?_) (fun y => ?_)
          · refine ly_dl_ack (by omega) (by omega) hq he z0 z1 z3 (fun _ => ?_) (fun w => absurd (hW.trans y) w)
            exact ⟨rfl, ld_mk _ (ld_Rl h (ld_Z0 hZ.2.1))⟩
          · refine ly_dl_ack (by omega) (by omega) hq he z0 z1 z3 (fun w => absurd (hW.symm.trans w) y) (fun _ => ?_)
            exact ⟨rfl, ld_mk _ (ld_Ra h hM (ld_Zu hZ.2.2 1 (by omega) hA) (ld_Z0 hZ.2.1) hF')⟩
theorem i_vc_lose {k : Nat} {u : SX} {v : SY} (I : i_Rel k u v) (hk : k + 4 ≤ 2050) (v1 : Int32) (v2 : Int32) : wpX_lose (fun r u' => wpY_lose (fun r' v' => r' = r ∧ i_Rel (k + 4) u' v') v v1 v2) u v1 v2 := by
  refine ld_el (P := fun u v => wpX_lose (fun r u' => wpY_lose (fun r' v' => r' = r ∧ i_Rel (k + 4) u' v') v v1 v2) u v1 v2) ?_ I
  intro N C A F fv fs fe fw mem ups fen lac hld lnk ack pay car phs cur hrd tok pY hY h
  have h' := h
  obtain ⟨hS, hM, hZ, hF, hL, hR, hW, hC⟩ := h'
  unfold wpX_lose
  try dsimp only
  rcases ld_triP v1 v2 (N := N) (C := C) (by omega) (by omega) with hb | ⟨q, e, hq, he, rfl, rfl⟩
  · refine lx_isPair0 (by omega) hb ?_
    refine br_t rfl ?_
    unfold wpY_lose
    try dsimp only
    refine ly_out1 (by omega) hb ?_
    exact br_f (by decide) ⟨rfl, ld_mk _ h⟩
  · have hi : vp_in (nI q * 16 + nI e) 128 := ld_in16 (by omega) (by omega)
    have ec : (nI q * 16 + nI e).toNatClampNeg = q * 16 + e := ld_cl16 (by omega) (by omega)
    refine lx_isPair1 (by omega) (by omega) hq he ?_
    refine br_f (by decide) (And.intro hi ?_)
    rw [ec]
    refine nm_e ?_
    by_cases z0 : lnk (q * 16 + e) = 0
    · refine br_t z0 ?_
      unfold wpY_lose
      try dsimp only
      refine ly_out0 (by omega) (by omega) hq he ?_
      refine br_t rfl (And.intro hi ?_)
      rw [ec, ld_same z0]
      exact nm_e (And.intro hi (nm_e (br_t z0 ⟨rfl, ld_mk _ h⟩)))
    · refine br_f z0 (And.intro hi (nm_e ?_))
      unfold wpY_lose
      try dsimp only
      refine ly_out0 (by omega) (by omega) hq he ?_
      refine br_t rfl (And.intro hi ?_)
      rw [ec]
      exact nm_e (And.intro hi (nm_e (br_f z0 ⟨rfl, ld_mk _ (ld_Rl h (ld_Z0 hZ.2.1))⟩)))
theorem i_vc_power {k : Nat} {u : SX} {v : SY} (I : i_Rel k u v) (hk : k + 4 ≤ 2050) (v1 : Int32) (v2 : Int32) : wpX_power (fun r u' => wpY_power (fun r' v' => r' = r ∧ i_Rel (k + 4) u' v') v v1 (lw_bz v2)) u v1 (lw_bz v2) := by
  refine ld_el (P := fun u v => wpX_power (fun r u' => wpY_power (fun r' v' => r' = r ∧ i_Rel (k + 4) u' v') v v1 (lw_bz v2)) u v1 (lw_bz v2)) ?_ I
  intro N C A F fv fs fe fw mem ups fen lac hld lnk ack pay car phs cur hrd tok pY hY h
  have h' := h
  obtain ⟨hS, hM, hZ, hF, hL, hR, hW, hC⟩ := h'
  unfold wpX_power
  try dsimp only
  rcases ld_tri v1 (N := N) (by omega) with hb | ⟨q, hq, rfl⟩
  · refine lx_isNode0 hb ?_
    refine br_t rfl ?_
    by_cases z : v1 < 0
    · exact br_t z ⟨rfl, ld_mk _ h⟩
    · exact br_f z (br_f (Int32.not_lt.mpr (hb.resolve_left z)) ⟨rfl, ld_mk _ h⟩)
  · have h8 : vp_in (nI q) 8 := vp_in_nI (by omega) (by decide)
    have eq : (nI q).toNatClampNeg = q := nI_clamp (by omega)
    refine lx_isNode1 hq (by omega) ?_
    refine br_f (by decide) (And.intro h8 ?_)
    rw [eq, ld_bz]
    by_cases z : ups q = lw_bz v2
    · refine br_t z ?_
      refine br_f (nI_pos (by omega)) (br_t (nI_lt hq (by omega)) (And.intro h8 ?_))
      rw [eq]
      refine br_t z ?_
      unfold wY_power_29
      rw [eq, ld_bz, ld_same z]
      exact And.intro h8 (nm_e ⟨rfl, ld_mk _ h⟩)
    · refine br_f z (And.intro h8 (nm_e ?_))
      refine br_f (nI_pos (by omega)) (br_t (nI_lt hq (by omega)) (And.intro h8 ?_))
      rw [eq]
      refine br_f z ?_
      unfold wY_power_29
      rw [eq, ld_bz]
      exact And.intro h8 (nm_e ⟨rfl, ld_mk _ h⟩)
end
end
section
/-! change, claim, close -/
theorem ld_p5 (p : Nat) : nI p + 5 = nI (p + 5) := by rw [ld_n5, nI_add]
theorem ld_p2 (p : Nat) : nI p + 2 = nI (p + 2) := by rw [show (2 : Int32) = nI 2 from by decide +kernel, nI_add]
theorem ld_dist {p e : Nat} (hp : p < 5) (he : e < 16) : ((nI p + 5) - (nI e - nI e / 5 * 5)) - ((nI p + 5) - (nI e - nI e / 5 * 5)) / 5 * 5 = nI ((p + 5 - e % 5) % 5) := by
  have h5 := ld_lt5 e
  rw [ld_rem5 (a := e) (by omega), ld_p5, pk_sub (by omega), ld_rem5 (by omega)]
theorem ld_strE {p e : Nat} (hp : p < 5) : (p + 5 - e % 5) % 5 < 3 ↔ (p = e % 5 ∨ p = (e + 1) % 5 ∨ p = (e + 2) % 5) := by omega
theorem ld_neg {v : Int32} (h : v < 1) (h0 : ¬ v = 0) : v < 0 := by
  have e0 : (0 : Int32).toInt = 0 := by decide
  have e1 : (1 : Int32).toInt = 1 := by decide
  have h2 : ¬ v.toInt = 0 := fun z => h0 (Int32.toInt_inj.mp (by rw [z, e0]))
  rw [Int32.lt_iff_toInt_lt] at h ⊢
  omega
theorem ld_ge1 {v : Int32} (h : 3 < v) : ¬ v < 0 ∧ ¬ v ≤ 3 ∧ ¬ v = 0 ∧ ¬ v < 1 := by
  have e0 : (0 : Int32).toInt = 0 := by decide
  have e1 : (1 : Int32).toInt = 1 := by decide
  have e3 : (3 : Int32).toInt = 3 := by decide
  rw [Int32.lt_iff_toInt_lt] at h
  refine ⟨fun z => ?_, fun z => ?_, fun z => ?_, fun z => ?_⟩
  · rw [Int32.lt_iff_toInt_lt] at z; omega
  · rw [Int32.le_iff_toInt_le] at z; omega
  · rw [z] at h; omega
  · rw [Int32.lt_iff_toInt_lt] at z; omega
section
variable {fn fc fv fs fe fw fa fk : Int32} {mem ups fen lac hld lnk ack pay car phs cur hrd tok pY hY : Nat → Int32}
theorem lx_rmL {post : SX → Prop} {C f p : Nat} {x : Int32} (hC : C ≤ 16) (hp5 : p < 5) (hp : post (fn, nI C, fv, fs, fe, fw, fa, fk, ld_rm mem f p x (C + 1 - f), ups, fen, lac, hld, lnk, ack, pay, car, phs, cur, hrd, tok)) : ∀ d j, f + j + d = C + 1 → wX_replaceMember_3 post (nI p) x fn (nI C) fv fs fe fw fa fk (d + 1) (nI (f + j)) (ld_rm mem f p x j) ups fen lac hld lnk ack pay car phs cur hrd tok := by
  intro d
  induction d with
  | zero =>
    intro j hj
    have ej : C + 1 - f = j := by omega
    rw [ej] at hp
    exact br_t (nI_lt (by omega) (by omega)) hp
  | succ d ih =>
    intro j hj
    refine br_f (nI_nlt (by omega) (by omega)) (And.intro (ld_in5 (by omega) hp5) ?_)
    rw [ld_cl5 (e := f + j) (p := p) (by omega) hp5]
    exact nm_e (nm_r (nI_1 (f + j)) (ih (j + 1) (by omega)))
theorem ly_rmL {post : Int32 → SY → Prop} {C f p : Nat} {x : Int32} (hC : C ≤ 16) (hp5 : p < 5) (hp : ∃ n, wY_change_128 post (nI p) x (nI f) fn (nI C) (fv + 1) fs fe fa n (nI f) (ld_rm mem f p x (C + 1 - f)) ups fen hld ack lnk pay car pY cur tok hY) : ∀ d j, f + j + d = C + 1 → wY_change_88 post (nI p) x (nI f) fn (nI C) fv fs fe fa (d + 1) (nI (f + j)) (ld_rm mem f p x j) ups fen hld ack lnk pay car pY cur tok hY := by
  intro d
  induction d with
  | zero =>
    intro j hj
    have ej : C + 1 - f = j := by omega
    rw [ej] at hp
    exact br_t (nI_lt (by omega) (by omega)) (nm_e hp)
  | succ d ih =>
    intro j hj
    refine br_f (nI_nlt (by omega) (by omega)) (And.intro (ld_in5 (by omega) hp5) ?_)
    rw [ld_cl5 (e := f + j) (p := p) (by omega) hp5]
    exact nm_e (nm_r (nI_1 (f + j)) (ih (j + 1) (by omega)))
theorem lx_rsL {post : SX → Prop} {A f p q : Nat} (hA : A ≤ 16) (hp5 : p < 5) (hq : q < 8) (hp : post (fn, fc, fv, fs, fe, fw, nI A, fk, mem, ups, fen, lac, hld, ld_rs lnk f p q (A - f), ack, pay, car, phs, cur, hrd, tok)) : ∀ d k, f + k + d = A → wX_resend_3 post (nI p) (nI q) fn fc fv fs fe fw (nI A) fk (d + 1) (nI (f + k)) mem ups fen lac hld (ld_rs lnk f p q k) ack pay car phs cur hrd tok := by
  intro d
  induction d with
  | zero =>
    intro k hk
    have ej : A - f = k := by omega
    rw [ej] at hp
    exact br_t (nI_le (by omega) (by omega)) hp
  | succ d ih =>
    intro k hk
    have K := ih (k + 1) (by omega)
    have hi : vp_in (nI q * 16 + nI (f + k)) 128 := ld_in16 hq (by omega)
    refine br_f (nI_ge (by omega) (by omega)) (And.intro (by decide) (And.intro (by decide) ?_))
    rw [ld_dist hp5 (by omega), ld_cl16 hq (by omega)]
    refine nm_e ?_
    by_cases z : (p + 5 - (f + k) % 5) % 5 < 3
    · refine br_f (nI_ge (b := 3) z (by decide)) (And.intro hi ?_)
      by_cases y : ld_rs lnk f p q k (q * 16 + (f + k)) = 0
      · rw [ld_rs_t z y] at K
        exact br_t y (And.intro hi (nm_e (nm_r (nI_1 (f + k)) K)))
      · rw [ld_rs_f (fun w => y w.2)] at K
        exact br_f y (nm_r (nI_1 (f + k)) K)
    · rw [ld_rs_f (fun w => z w.1)] at K
      exact br_t (nI_le (a := 3) (by omega) (by omega)) (nm_r (nI_1 (f + k)) K)
theorem ly_170 {post : Int32 → SY → Prop} {J : Int32 → (Nat → Int32) → (Nat → Int32) → (Nat → Int32) → (Nat → Int32) → (Nat → Int32) → (Nat → Int32) → (Nat → Int32) → (Nat → Int32) → (Nat → Int32) → (Nat → Int32) → (Nat → Int32) → (Nat → Int32) → Prop} {x1 x3 : Int32} {q e : Nat} (hq : q < 8) (he : e < 16) (h1 : lnk (q * 16 + e) = 0 → J (nI (e + 1)) mem ups fen hld ack (upd lnk (q * 16 + e) 1) pay car pY cur tok hY) (h0 : ¬ lnk (q * 16 + e) = 0 → J (nI (e + 1)) mem ups fen hld ack lnk pay car pY cur tok hY) : wY_change_165 post J x1 (nI q) x3 (nI e) fn fc fv fs fe fa mem ups fen hld ack lnk pay car pY cur tok hY := by
  have hi : vp_in (nI q * 16 + nI e) 128 := ld_in16 hq he
  unfold wY_change_165 wY_change_170
  refine br_f (by decide) (And.intro hi ?_)
  rw [ld_cl16 hq he]
  exact br_c (fun z => And.intro hi (nm_e (nm_r (nI_1 e) (h1 z)))) (fun z => nm_r (nI_1 e) (h0 z))
theorem ly_rsL {post : Int32 → SY → Prop} {A f p q : Nat} {x3 : Int32} (hA : A ≤ 16) (hp5 : p < 5) (hq : q < 8) (hp : post x3 (fn, fc, fv, fs, fe, nI A, mem, ups, fen, hld, ack, ld_rs lnk f p q (A - f), pay, car, pY, cur, tok, hY)) : ∀ d k, f + k + d = A → wY_change_128 post (nI p) (nI q) x3 fn fc fv fs fe (nI A) (d + 1) (nI (f + k)) mem ups fen hld ack (ld_rs lnk f p q k) pay car pY cur tok hY := by
  intro d
  induction d with
  | zero =>
    intro k hk
    have ej : A - f = k := by omega
    rw [ej] at hp
    exact br_t (nI_le (by omega) (by omega)) hp
  | succ d ih =>
    intro k hk
    have K := ih (k + 1) (by omega)
    have l0 := ld_lt5 (f + k)
    have l1 := ld_lt5 (f + k + 1)
    have l2 := ld_lt5 (f + k + 2)
    have E0 : nI (f + k) - nI (f + k) / 5 * 5 = nI ((f + k) % 5) := ld_rem5 (by omega)
    have E1 : (nI (f + k) + 1) - (nI (f + k) + 1) / 5 * 5 = nI ((f + k + 1) % 5) := by rw [nI_1, ld_rem5 (by omega)]
    have E2 : (nI (f + k) + 2) - (nI (f + k) + 2) / 5 * 5 = nI ((f + k + 2) % 5) := by rw [ld_p2, ld_rem5 (by omega)]
    have n5 : ¬ (5 : Int32) = 0 := by decide
    refine br_f (nI_ge (by omega) (by omega)) (And.intro n5 ?_)
    rw [E0, E1, E2]
    by_cases z : (p + 5 - (f + k) % 5) % 5 < 3
    · have T : wY_change_165 post (wY_change_128 post (nI p) (nI q) x3 fn fc fv fs fe (nI A) (d + 1)) (nI p) (nI q) x3 (nI (f + k)) fn fc fv fs fe (nI A) mem ups fen hld ack (ld_rs lnk f p q k) pay car pY cur tok hY := by
        refine ly_170 hq (by omega) (fun y => ?_) (fun y => ?_)
        · rw [ld_rs_t z y] at K
          exact K
        · rw [ld_rs_f (fun w => y w.2)] at K
          exact K
      by_cases c0 : p = (f + k) % 5
      · exact br_t (congrArg nI c0) T
      · refine br_f (fun y => c0 ((nI_eq (by omega) (by omega)).mp y)) (And.intro n5 ?_)
        by_cases c1 : p = (f + k + 1) % 5
        · exact br_t (congrArg nI c1) T
        · refine br_f (fun y => c1 ((nI_eq (by omega) (by omega)).mp y)) (And.intro n5 ?_)
          have c2 : p = (f + k + 2) % 5 := by
            rcases (ld_strE hp5).mp z with w | w | w
            · exact absurd w c0
            · exact absurd w c1
            · exact w
          exact br_t (congrArg nI c2) T
    · rw [ld_rs_f (fun w => z w.1)] at K
      have zz := fun w => z ((ld_strE hp5).mpr w)
      refine br_f (fun y => zz (Or.inl ((nI_eq (by omega) (by omega)).mp y))) (And.intro n5 ?_)
      refine br_f (fun y => zz (Or.inr (Or.inl ((nI_eq (by omega) (by omega)).mp y)))) (And.intro n5 ?_)
      refine br_f (fun y => zz (Or.inr (Or.inr ((nI_eq (by omega) (by omega)).mp y)))) ?_
      unfold wY_change_170
      exact br_t rfl (nm_r (nI_1 (f + k)) K)
theorem lx_change {post : Int32 → SX → Prop} {N C A F F' p q : Nat} (hN : N ≤ 8) (hC : C ≤ 16) (hA : A ≤ 16) (hAC : A ≤ C) (hFA : F ≤ A) (hp5 : p < 5) (hq : q < N) (hM : ld_MV (ld_rm mem F p (nI q) (C + 1 - F)) 8) (hw : ¬ fw = 6) (hs : fs = 0) (hc : ∀ j, j < 5 → ¬ mem (C * 5 + j) = nI q) (hu : ¬ ups q = 0) (hFF : F ≤ F') (hF : ld_CF (ld_rm mem F p (nI q) (C + 1 - F)) ack A F') (hp : post (nI F) (nI N, nI C, fv + 1, fs, fe, fw, nI A, nI F' - 1, ld_rm mem F p (nI q) (C + 1 - F), ups, fen, lac, hld, ld_rs lnk F p q (A - F), ack, pay, car, phs, cur, hrd, tok)) : wpX_change post (nI N, nI C, fv, fs, fe, fw, nI A, nI F - 1, mem, ups, fen, lac, hld, lnk, ack, pay, car, phs, cur, hrd, tok) (nI p) (nI q) := by
  unfold wpX_change
  try dsimp only
  refine lx_isPos1 hp5 ?_
  refine br_f (by decide) ?_
  refine lx_isNode1 hq (by omega) ?_
  refine br_f (by decide) (br_f hw (br_t hs ?_))
  refine lx_inCur hC (fun ⟨j, a, b⟩ => absurd b (hc j a)) (fun _ => ?_)
  refine br_t rfl (And.intro (vp_in_nI (by omega) (by decide)) ?_)
  rw [nI_clamp (n := q) (by omega)]
  refine br_f hu (nm_r (e' := nI F) (Int32.sub_add_cancel _ _) ?_)
  unfold wpX_replaceMember
  try dsimp only
  refine Exists.intro (C + 1 - F + 1) ?_
  refine lx_rmL (f := F) (mem := mem) hC hp5 ?_ (C + 1 - F) 0 (by omega)
  try dsimp only
  refine nm_e ?_
  unfold wpX_resend
  try dsimp only
  refine Exists.intro (A - F + 1) ?_
  refine lx_rsL (f := F) (lnk := lnk) hA hp5 (by omega) ?_ (A - F) 0 (by omega)
  dsimp only
  refine lx_advance hA hM hFF hF ?_
  exact hp
end
end
section
/-! change, claim, close: the owed ones -/
section
variable {fn fc fv fs fe fw fa fk : Int32} {mem ups fen lac hld lnk ack pay car phs cur hrd tok pY hY : Nat → Int32}
theorem ly_ch_bad {post : Int32 → SY → Prop} {N : Nat} {v w : Int32} (hN : N ≤ 8) (h : ld_BD 5 v ∨ ((∃ p, p < 5 ∧ v = nI p) ∧ ld_BD N w)) (hp : post (-1) (nI N, fc, fv, fs, fe, fa, mem, ups, fen, hld, ack, lnk, pay, car, pY, cur, tok, hY)) : wpY_change post (nI N, fc, fv, fs, fe, fa, mem, ups, fen, hld, ack, lnk, pay, car, pY, cur, tok, hY) v w := by
  rcases h with h | ⟨⟨p, hp5, rfl⟩, h⟩
  · by_cases z : v < 0
    · exact br_t z hp
    · exact br_f z (br_t (ld_ge5 z (h.resolve_left z)) hp)
  · refine br_f (nI_pos (by omega)) (br_f (nI_nlt (a := 4) (by omega) (by decide)) ?_)
    by_cases z : w < 0
    · exact br_t z hp
    · exact br_f z (br_f (Int32.not_lt.mpr (h.resolve_left z)) hp)
theorem ly_ch_halt {post : Int32 → SY → Prop} {N p q : Nat} (hN : N ≤ 8) (hp5 : p < 5) (hq : q < N) (hw : pY 0 = 6) (hp : post (-2) (nI N, fc, fv, fs, fe, fa, mem, ups, fen, hld, ack, lnk, pay, car, pY, cur, tok, hY)) : wpY_change post (nI N, fc, fv, fs, fe, fa, mem, ups, fen, hld, ack, lnk, pay, car, pY, cur, tok, hY) (nI p) (nI q) :=
  br_f (nI_pos (by omega)) (br_f (nI_nlt (a := 4) (by omega) (by decide)) (br_f (nI_pos (by omega)) (br_t (nI_lt hq (by omega)) (br_t hw hp))))
theorem ly_ch_fen {post : Int32 → SY → Prop} {N p q : Nat} (hN : N ≤ 8) (hp5 : p < 5) (hq : q < N) (hw : ¬ pY 0 = 6) (hs : ¬ fs = 0) (hp : post (-6) (nI N, fc, fv, fs, fe, fa, mem, ups, fen, hld, ack, lnk, pay, car, upd pY 0 6, cur, tok, hY)) : wpY_change post (nI N, fc, fv, fs, fe, fa, mem, ups, fen, hld, ack, lnk, pay, car, pY, cur, tok, hY) (nI p) (nI q) :=
  br_f (nI_pos (by omega)) (br_f (nI_nlt (a := 4) (by omega) (by decide)) (br_f (nI_pos (by omega)) (br_t (nI_lt hq (by omega)) (br_f hw (br_f hs (nm_e hp))))))
theorem ly_ch_tak {post : Int32 → SY → Prop} {N C p q : Nat} (hN : N ≤ 8) (hC : C ≤ 16) (hp5 : p < 5) (hq : q < N) (hw : ¬ pY 0 = 6) (hs : fs = 0) (hc : ∃ j, j < 5 ∧ mem (C * 5 + j) = nI q) (hp : post (-7) (nI N, nI C, fv, fs, fe, fa, mem, ups, fen, hld, ack, lnk, pay, car, pY, cur, tok, hY)) : wpY_change post (nI N, nI C, fv, fs, fe, fa, mem, ups, fen, hld, ack, lnk, pay, car, pY, cur, tok, hY) (nI p) (nI q) := by
  refine br_f (nI_pos (by omega)) (br_f (nI_nlt (a := 4) (by omega) (by decide)) (br_f (nI_pos (by omega)) (br_t (nI_lt hq (by omega)) (br_f hw (br_t hs ?_)))))
  refine ly_inCur hC (fun _ => ?_) (fun z => ?_)
  · exact br_f (by decide) hp
  · obtain ⟨j, a, b⟩ := hc
    exact absurd b (z j a)
theorem ly_ch_down {post : Int32 → SY → Prop} {N C p q : Nat} (hN : N ≤ 8) (hC : C ≤ 16) (hp5 : p < 5) (hq : q < N) (hw : ¬ pY 0 = 6) (hs : fs = 0) (hc : ∀ j, j < 5 → ¬ mem (C * 5 + j) = nI q) (hu : ups q = 0) (hp : post (-5) (nI N, nI C, fv, fs, fe, fa, mem, ups, fen, hld, ack, lnk, pay, car, pY, cur, tok, hY)) : wpY_change post (nI N, nI C, fv, fs, fe, fa, mem, ups, fen, hld, ack, lnk, pay, car, pY, cur, tok, hY) (nI p) (nI q) := by
  refine br_f (nI_pos (by omega)) (br_f (nI_nlt (a := 4) (by omega) (by decide)) (br_f (nI_pos (by omega)) (br_t (nI_lt hq (by omega)) (br_f hw (br_t hs ?_)))))
  refine ly_inCur hC (fun ⟨j, a, b⟩ => absurd b (hc j a)) (fun _ => ?_)
  refine br_t rfl (And.intro (vp_in_nI (by omega) (by decide)) ?_)
  rw [nI_clamp (n := q) (by omega)]
  exact br_t hu hp
theorem ly_ch {post : Int32 → SY → Prop} {N C A F p q : Nat} (hN : N ≤ 8) (hC : C ≤ 16) (hA : A ≤ 16) (hAC : A ≤ C) (hM : ld_MV mem 8) (hp5 : p < 5) (hq : q < N) (hw : ¬ pY 0 = 6) (hs : fs = 0) (hc : ∀ j, j < 5 → ¬ mem (C * 5 + j) = nI q) (hu : ¬ ups q = 0) (hF : ld_CF mem ack A F) (hp : post (nI F) (nI N, nI C, fv + 1, fs, fe, nI A, ld_rm mem F p (nI q) (C + 1 - F), ups, fen, hld, ack, ld_rs lnk F p q (A - F), pay, car, pY, cur, tok, hY)) : wpY_change post (nI N, nI C, fv, fs, fe, nI A, mem, ups, fen, hld, ack, lnk, pay, car, pY, cur, tok, hY) (nI p) (nI q) := by
  have hFA := hF.1
  refine br_f (nI_pos (by omega)) (br_f (nI_nlt (a := 4) (by omega) (by decide)) (br_f (nI_pos (by omega)) (br_t (nI_lt hq (by omega)) (br_f hw (br_t hs ?_)))))
  refine ly_inCur hC (fun ⟨j, a, b⟩ => absurd b (hc j a)) (fun _ => ?_)
  refine br_t rfl (And.intro (vp_in_nI (by omega) (by decide)) ?_)
  rw [nI_clamp (n := q) (by omega)]
  refine br_f hu ?_
  refine ly_confirmed hA hM hF ?_
  refine nm_r (e' := nI F) (Int32.sub_add_cancel _ _) (Exists.intro (C + 1 - F + 1) ?_)
  refine ly_rmL (f := F) (mem := mem) hC hp5 ?_ (C + 1 - F) 0 (by omega)
  refine Exists.intro (A - F + 1) ?_
  exact ly_rsL (f := F) (lnk := lnk) hA hp5 (by omega) hp (A - F) 0 (by omega)
end
theorem i_vc_change {k : Nat} {u : SX} {v : SY} (I : i_Rel k u v) (hk : k + 4 ≤ 2050) (v1 : Int32) (v2 : Int32) : wpX_change (fun r u' => wpY_change (fun r' v' => r' = r ∧ i_Rel (k + 4) u' v') v v1 v2) u v1 v2 := by
  refine ld_el (P := fun u v => wpX_change (fun r u' => wpY_change (fun r' v' => r' = r ∧ i_Rel (k + 4) u' v') v v1 v2) u v1 v2) ?_ I
  intro N C A F fv fs fe fw mem ups fen lac hld lnk ack pay car phs cur hrd tok pY hY h
  have h' := h
  obtain ⟨hS, hM, hZ, hF, hL, hR, hW, hC⟩ := h'
  have hN8 : N ≤ 8 := by omega
  have hC16 : C ≤ 16 := by omega
  rcases ld_tri v1 (N := 5) (by omega) with hb | ⟨p, hp5, rfl⟩
  · unfold wpX_change
    try dsimp only
    refine lx_isPos0 hb ?_
    refine br_t rfl ?_
    exact ly_ch_bad hN8 (Or.inl hb) ⟨rfl, ld_mk _ h⟩
  · rcases ld_tri v2 (N := N) (by omega) with hb | ⟨q, hq, rfl⟩
    · unfold wpX_change
      try dsimp only
      refine lx_isPos1 hp5 ?_
      refine br_f (by decide) ?_
      refine lx_isNode0 hb ?_
      refine br_t rfl ?_
      exact ly_ch_bad hN8 (Or.inr ⟨⟨p, hp5, rfl⟩, hb⟩) ⟨rfl, ld_mk _ h⟩
    · by_cases hw : fw = 6
      · unfold wpX_change
        try dsimp only
        refine lx_isPos1 hp5 ?_
        refine br_f (by decide) ?_
        refine lx_isNode1 hq (by omega) ?_
        refine br_f (by decide) (br_t hw ?_)
        exact ly_ch_halt hN8 hp5 hq (hW.trans hw) ⟨rfl, ld_mk _ h⟩
      · have hw' : ¬ pY 0 = 6 := by rw [hW]; exact hw
        by_cases hs : fs = 0
        · by_cases hc : ∃ j, j < 5 ∧ mem (C * 5 + j) = nI q
          · unfold wpX_change
            try dsimp only
            refine lx_isPos1 hp5 ?_
            refine br_f (by decide) ?_
            refine lx_isNode1 hq (by omega) ?_
            refine br_f (by decide) (br_f hw (br_t hs ?_))
            refine lx_inCur hC16 (fun _ => ?_) (fun z => ?_)
            · refine br_f (by decide) ?_
              exact ly_ch_tak hN8 hC16 hp5 hq hw' hs hc ⟨rfl, ld_mk _ h⟩
            · obtain ⟨j, a, b⟩ := hc
              exact absurd b (z j a)
          · have hc' : ∀ j, j < 5 → ¬ mem (C * 5 + j) = nI q := fun j a b => hc ⟨j, a, b⟩
            by_cases hu : ups q = 0
            · unfold wpX_change
              try dsimp only
              refine lx_isPos1 hp5 ?_
              refine br_f (by decide) ?_
              refine lx_isNode1 hq (by omega) ?_
              refine br_f (by decide) (br_f hw (br_t hs ?_))
              refine lx_inCur hC16 (fun z => absurd z hc) (fun _ => ?_)
              refine br_t rfl (And.intro (vp_in_nI (by omega) (by decide)) ?_)
              rw [nI_clamp (n := q) (by omega)]
              refine br_t hu ?_
              exact ly_ch_down hN8 hC16 hp5 hq hw' hs hc' hu ⟨rfl, ld_mk _ h⟩
            · have hM' := ld_rm_MV (f := F) (p := p) hM hq (C + 1 - F)
              obtain ⟨F', hFF, hF'⟩ := ld_CFup (mem' := ld_rm mem F p (nI q) (C + 1 - F)) (ack' := ack) hF (fun e he i hi => ld_rm_n (by have := ld_lt5 (e + i); omega) _) (fun _ z => z)
              refine lx_change hN8 hC16 (by omega) (by omega) hF.1 hp5 hq (ld_MV8 hM' hN8) hw hs hc' hu hFF hF' ?_
              refine ly_ch hN8 hC16 (by omega) (by omega) (ld_MV8 hM hN8) hp5 hq hw' hs hc' hu hF ?_
              refine ⟨rfl, ld_mk _ (ld_Ra h hM' hZ.2.2 (fun q' hq' e' ha he' => ?_) hF')⟩
              rw [ld_rs_n (A := A) (by omega) he' ha _ (by have := hF.1; omega)]
              exact hZ.2.1 q' hq' e' ha he'
        · unfold wpX_change
          try dsimp only
          refine lx_isPos1 hp5 ?_
          refine br_f (by decide) ?_
          refine lx_isNode1 hq (by omega) ?_
          refine br_f (by decide) (br_f hw (br_f hs ?_))
          exact ly_ch_fen hN8 hp5 hq hw' hs ⟨rfl, ld_mk _ (ld_Rw 6 h)⟩
/-- a client behind an entry into phase P, its cursor at K -/
theorem ld_Ren {N C A F : Nat} {fw : Int32} {mem lac hld lnk ack car phs cur hrd pY hY cur' hrd' hY' : Nat → Int32} {c P K : Nat} (h : ld_RR N C A F fw mem lac hld lnk ack car phs cur hrd pY hY) (h1 : 1 ≤ c) (hP : P ≤ 4) (hK : K ≤ C) (h23 : (P = 2 ∨ P = 3) → K < C) (h3 : P = 3 → K < A) (ec : cur' c = nI K) (en : ∀ j, j ≠ c → cur' j = cur j) (eh : ∀ j, j ≠ c → hrd' j = hrd j) (ey : ∀ d, d ≠ c → ∀ i, i < 8 → hY' (d * 8 + i) = hY (d * 8 + i)) : ld_RR N C A F fw mem lac hld lnk ack car (upd phs c (nI P)) cur' (upd hrd' c 0) (upd pY c (nI P)) (ld_clr hY' c 8) := by
  refine ld_Rc h h1 (fun j hj => pk_un hj) en (fun j hj => by rw [pk_un hj]; exact eh j hj) (fun j hj => pk_un hj) (fun d hd i hi => by rw [ld_clr_out hd hi]; exact ey d hd i hi) ?_
  have hz : ∀ i, i < 8 → (fun i => ld_clr hY' c 8 (c * 8 + i)) i = 0 := fun i hi => ld_clr_in hi
  refine ⟨by rw [pk_us, pk_us], ?_, fun i _ hi => hz i hi, P, K, hP, hK, pk_us, ec, fun z => ⟨h23 z, ?_⟩, h3⟩
  · rw [pk_us, ld_hp_zero 8 hz]
    rfl
  · rw [ld_ct_zero 8 hz]
    omega
section
variable {fn fc fv fs fe fw fa fk : Int32} {mem ups fen lac hld lnk ack pay car phs cur hrd tok pY hY : Nat → Int32}
theorem lx_claim {post : Int32 → SX → Prop} {c : Nat} {s : Int32} (h1 : 1 ≤ c) (h4 : c < 4) (e2 : fs = 2 → post (-11) (fn, fc, fv, fs, fe, fw, fa, fk, mem, ups, fen, lac, hld, lnk, ack, pay, car, phs, cur, hrd, tok)) (e9 : ¬ fs = 2 → ¬ s = fv * 4 + fs → post (-9) (fn, fc, fv, fs, fe, fw, fa, fk, mem, ups, fen, lac, hld, lnk, ack, pay, car, phs, cur, hrd, tok)) (h : ¬ fs = 2 → s = fv * 4 + fs → post ((fv + 1) * 4 + 1) (fn, fc, fv + 1, 1, fe, fw, fa, fk, mem, ups, fen, lac, hld, lnk, ack, pay, car, upd phs c 1, upd cur c 0, upd hrd c 0, upd tok c (fv + 1))) : wpX_claim post (fn, fc, fv, fs, fe, fw, fa, fk, mem, ups, fen, lac, hld, lnk, ack, pay, car, phs, cur, hrd, tok) (nI c) s := by
  have hi : vp_in (nI c) 4 := vp_in_nI h4 (by decide)
  have ec : (nI c).toNatClampNeg = c := nI_clamp (by omega)
  unfold wpX_claim
  try dsimp only
  refine lx_isRec1 h1 h4 ?_
  refine br_f (by decide) (br_c e2 (fun z => ?_))
  refine br_c (fun y => ?_) (e9 z)
  rw [ec]
  refine nm_e (And.intro hi (nm_e (And.intro hi (nm_e ?_))))
  refine lx_enter h4 ?_
  exact h z y
theorem ly_claim {post : Int32 → SY → Prop} {c : Nat} {s : Int32} (h1 : 1 ≤ c) (h4 : c < 4) (e2 : fs = 2 → post (-11) (fn, fc, fv, fs, fe, fa, mem, ups, fen, hld, ack, lnk, pay, car, pY, cur, tok, hY)) (e9 : ¬ fs = 2 → ¬ s = fv * 4 + fs → post (-9) (fn, fc, fv, fs, fe, fa, mem, ups, fen, hld, ack, lnk, pay, car, pY, cur, tok, hY)) (h : ¬ fs = 2 → s = fv * 4 + fs → post ((fv + 1) * 4 + 1) (fn, fc, fv + 1, 1, fe, fa, mem, ups, fen, hld, ack, lnk, pay, car, upd pY c 1, upd cur c 0, upd tok c (fv + 1), ld_clr hY c 8)) : wpY_claim post (fn, fc, fv, fs, fe, fa, mem, ups, fen, hld, ack, lnk, pay, car, pY, cur, tok, hY) (nI c) s := by
  have hi : vp_in (nI c) 4 := vp_in_nI h4 (by decide)
  have ec : (nI c).toNatClampNeg = c := nI_clamp (by omega)
  refine br_f (ld_nlt1 h1 h4) (br_t (ld_le3 h4) (br_c e2 (fun z => ?_)))
  refine br_c (fun y => ?_) (e9 z)
  rw [ec]
  refine nm_e (And.intro hi (nm_e (And.intro hi (nm_e ?_))))
  refine ly_enter h4 ?_
  exact h z y
end
theorem i_vc_claim {k : Nat} {u : SX} {v : SY} (I : i_Rel k u v) (hk : k + 4 ≤ 2050) (v1 : Int32) (v2 : Int32) : wpX_claim (fun r u' => wpY_claim (fun r' v' => r' = r ∧ i_Rel (k + 4) u' v') v v1 v2) u v1 v2 := by
  refine ld_el (P := fun u v => wpX_claim (fun r u' => wpY_claim (fun r' v' => r' = r ∧ i_Rel (k + 4) u' v') v v1 v2) u v1 v2) ?_ I
  intro N C A F fv fs fe fw mem ups fen lac hld lnk ack pay car phs cur hrd tok pY hY h
  rcases ld_tri3 v1 with hb | hb | ⟨c, h1, h4, rfl⟩
  · unfold wpX_claim
    try dsimp only
    refine lx_isRec0 (Or.inl hb) ?_
    refine br_t rfl ?_
    exact br_t hb ⟨rfl, ld_mk _ h⟩
  · have g := ld_ge1 hb
    unfold wpX_claim
    try dsimp only
    refine lx_isRec0 (Or.inr hb) ?_
    refine br_t rfl ?_
    exact br_f g.2.2.2 (br_f g.2.1 ⟨rfl, ld_mk _ h⟩)
  · refine lx_claim h1 h4 (fun z => ?_) (fun z y => ?_) (fun z y => ?_)
    · exact ly_claim h1 h4 (fun _ => ⟨rfl, ld_mk _ h⟩) (fun w => absurd z w) (fun w => absurd z w)
    · exact ly_claim h1 h4 (fun w => absurd w z) (fun _ _ => ⟨rfl, ld_mk _ h⟩) (fun _ w => absurd w y)
    · refine ly_claim h1 h4 (fun w => absurd w z) (fun _ w => absurd y w) (fun _ _ => ?_)
      exact ⟨rfl, ld_mk _ (ld_Ren (P := 1) (K := 0) (cur' := upd cur c 0) h h1 (by omega) (by omega) (by omega) (by omega) pk_us (fun j hj => pk_un hj) (fun _ _ => rfl) (fun _ _ _ _ => rfl))⟩
end
section
/-! close -/
section
variable {fn fc fv fs fe fw fa fk : Int32} {mem ups fen lac hld lnk ack pay car phs cur hrd tok pY hY : Nat → Int32}
theorem lx_closeW {post : Int32 → SX → Prop} (e6 : fw = 6 → post (-2) (fn, fc, fv, fs, fe, fw, fa, fk, mem, ups, fen, lac, hld, lnk, ack, pay, car, phs, cur, hrd, tok)) (ef : ¬ fw = 6 → ¬ fs = 0 → post (-6) (fn, fc, fv, fs, fe, 6, fa, fk, mem, ups, fen, lac, hld, lnk, ack, pay, car, phs, cur, hrd, tok)) (h : ¬ fw = 6 → fs = 0 → post ((fv + 1) * 4 + 2) (fn, fc, fv + 1, 2, fk, 6, fa, fk, mem, ups, fen, lac, hld, lnk, ack, pay, car, phs, cur, hrd, tok)) : wpX_close post (fn, fc, fv, fs, fe, fw, fa, fk, mem, ups, fen, lac, hld, lnk, ack, pay, car, phs, cur, hrd, tok) 0 := by
  refine br_t rfl ?_
  refine br_c e6 (fun z => br_c (fun y => ?_) (ef z))
  refine nm_e ?_
  exact h z y
theorem ly_closeW {post : Int32 → SY → Prop} {A F : Nat} (hA : A ≤ 16) (hM : ld_MV mem 8) (hF : ld_CF mem ack A F) (e6 : pY 0 = 6 → post (-2) (fn, fc, fv, fs, fe, nI A, mem, ups, fen, hld, ack, lnk, pay, car, pY, cur, tok, hY)) (ef : ¬ pY 0 = 6 → ¬ fs = 0 → post (-6) (fn, fc, fv, fs, fe, nI A, mem, ups, fen, hld, ack, lnk, pay, car, upd pY 0 6, cur, tok, hY)) (h : ¬ pY 0 = 6 → fs = 0 → post ((fv + 1) * 4 + 2) (fn, fc, fv + 1, 2, nI F - 1, nI A, mem, ups, fen, hld, ack, lnk, pay, car, upd pY 0 6, cur, tok, hY)) : wpY_close post (fn, fc, fv, fs, fe, nI A, mem, ups, fen, hld, ack, lnk, pay, car, pY, cur, tok, hY) 0 := by
  refine br_f (by decide) (br_t (by decide) (br_t rfl (br_c e6 (fun z => nm_e (br_c (fun y => ?_) (ef z))))))
  refine ly_confirmed hA hM hF ?_
  unfold wY_close_114
  refine nm_e ?_
  exact h z y
theorem lx_closeR {post : Int32 → SX → Prop} {c : Nat} (h1 : 1 ≤ c) (h4 : c < 4) (e10 : ¬ phs c = 4 → post (-10) (fn, fc, fv, fs, fe, fw, fa, fk, mem, ups, fen, lac, hld, lnk, ack, pay, car, phs, cur, hrd, tok)) (e9 : phs c = 4 → ¬ tok c = fv → post (-9) (fn, fc, fv, fs, fe, fw, fa, fk, mem, ups, fen, lac, hld, lnk, ack, pay, car, upd phs c 0, upd cur c 0, upd hrd c 0, tok)) (h : phs c = 4 → tok c = fv → post ((fv + 1) * 4 + 2) (fn, fc, fv + 1, 2, cur c - 1, fw, fa, fk, mem, ups, fen, lac, hld, lnk, ack, pay, car, upd phs c 0, upd cur c 0, upd hrd c 0, tok)) : wpX_close post (fn, fc, fv, fs, fe, fw, fa, fk, mem, ups, fen, lac, hld, lnk, ack, pay, car, phs, cur, hrd, tok) (nI c) := by
  have hi : vp_in (nI c) 4 := vp_in_nI h4 (by decide)
  have ec : (nI c).toNatClampNeg = c := nI_clamp (by omega)
  refine br_f (nI_ne0 (by omega) (by omega)) ?_
  refine lx_isRec1 h1 h4 ?_
  refine br_f (by decide) ?_
  refine And.intro hi ?_
  rw [ec]
  refine br_c (fun z => ?_) e10
  refine And.intro hi (nm_e (And.intro hi (nm_e ?_)))
  refine lx_enter h4 ?_
  dsimp only
  refine And.intro hi (br_c (fun y => ?_) (e9 z))
  refine nm_e ?_
  exact h z y
theorem ly_closeR {post : Int32 → SY → Prop} {c : Nat} (h1 : 1 ≤ c) (h4 : c < 4) (e10 : ¬ pY c = 4 → post (-10) (fn, fc, fv, fs, fe, fa, mem, ups, fen, hld, ack, lnk, pay, car, pY, cur, tok, hY)) (e9 : pY c = 4 → ¬ tok c = fv → post (-9) (fn, fc, fv, fs, fe, fa, mem, ups, fen, hld, ack, lnk, pay, car, upd pY c 0, upd cur c 0, tok, ld_clr hY c 8)) (h : pY c = 4 → tok c = fv → post ((fv + 1) * 4 + 2) (fn, fc, fv + 1, 2, cur c - 1, fa, mem, ups, fen, hld, ack, lnk, pay, car, upd pY c 0, upd cur c 0, tok, ld_clr hY c 8)) : wpY_close post (fn, fc, fv, fs, fe, fa, mem, ups, fen, hld, ack, lnk, pay, car, pY, cur, tok, hY) (nI c) := by
  have hi : vp_in (nI c) 4 := vp_in_nI h4 (by decide)
  have ec : (nI c).toNatClampNeg = c := nI_clamp (by omega)
  refine br_f (nI_pos (by omega)) (br_t (ld_le3 h4) (br_f (nI_ne0 (by omega) (by omega)) (And.intro hi ?_)))
  rw [ec]
  refine br_c (fun z => ?_) e10
  refine And.intro hi (nm_e (And.intro hi (nm_e ?_)))
  refine ly_enter h4 ?_
  dsimp only
  refine And.intro hi (br_c (fun y => ?_) (e9 z))
  unfold wY_close_114
  refine nm_e ?_
  exact h z y
end
theorem i_vc_close {k : Nat} {u : SX} {v : SY} (I : i_Rel k u v) (hk : k + 4 ≤ 2050) (v1 : Int32) : wpX_close (fun r u' => wpY_close (fun r' v' => r' = r ∧ i_Rel (k + 4) u' v') v v1) u v1 := by
  refine ld_el (P := fun u v => wpX_close (fun r u' => wpY_close (fun r' v' => r' = r ∧ i_Rel (k + 4) u' v') v v1) u v1) ?_ I
  intro N C A F fv fs fe fw mem ups fen lac hld lnk ack pay car phs cur hrd tok pY hY h
  have h' := h
  obtain ⟨hS, hM, hZ, hF, hL, hR, hW, hC⟩ := h'
  have hM8 := ld_MV8 hM (by omega)
  rcases ld_tri3 v1 with hb | hb | ⟨c, h1, h4, rfl⟩
  · by_cases h0 : v1 = 0
    · subst h0
      refine lx_closeW (fun z => ?_) (fun z y => ?_) (fun z y => ?_)
      · exact ly_closeW (by omega) hM8 hF (fun _ => ⟨rfl, ld_mk _ h⟩) (fun w => absurd (hW.trans z) w) (fun w => absurd (hW.trans z) w)
      · exact ly_closeW (by omega) hM8 hF (fun w => absurd (hW.symm.trans w) z) (fun _ _ => ⟨rfl, ld_mk _ (ld_Rw 6 h)⟩) (fun _ w => absurd w y)
      · exact ly_closeW (by omega) hM8 hF (fun w => absurd (hW.symm.trans w) z) (fun _ w => absurd y w) (fun _ _ => ⟨rfl, ld_mk _ (ld_Rw 6 h)⟩)
    · refine br_f h0 ?_
      refine lx_isRec0 (Or.inl hb) ?_
      refine br_t rfl ?_
      exact br_t (ld_neg hb h0) ⟨rfl, ld_mk _ h⟩
  · have g := ld_ge1 hb
    refine br_f g.2.2.1 ?_
    refine lx_isRec0 (Or.inr hb) ?_
    refine br_t rfl ?_
    exact br_f g.1 (br_f g.2.1 ⟨rfl, ld_mk _ h⟩)
  · have ep : pY c = phs c := (hC c h1 h4).1
    have hn := ld_Ren (P := 0) (K := 0) (cur' := upd cur c 0) h h1 (by omega) (by omega) (by omega) (by omega) pk_us (fun j hj => pk_un hj) (fun _ _ => rfl) (fun _ _ _ _ => rfl)
    refine lx_closeR h1 h4 (fun z => ?_) (fun z y => ?_) (fun z y => ?_)
    · exact ly_closeR h1 h4 (fun _ => ⟨rfl, ld_mk _ h⟩) (fun w => absurd (ep.symm.trans w) z) (fun w => absurd (ep.symm.trans w) z)
    · exact ly_closeR h1 h4 (fun w => absurd (ep.trans z) w) (fun _ _ => ⟨rfl, ld_mk _ hn⟩) (fun _ w => absurd w y)
    · exact ly_closeR h1 h4 (fun w => absurd (ep.trans z) w) (fun _ w => absurd y w) (fun _ _ => ⟨rfl, ld_mk _ hn⟩)
end
section
/-! the calls that only read -/
theorem i_vc_cell {k : Nat} {u : SX} {v : SY} (I : i_Rel k u v) (hk : k + 4 ≤ 2050) : wpX_cell (fun r => wpY_cell (fun r' => r' = r ∧ i_Rel (k + 4) u v) v) u := by
  refine ld_el (P := fun u v => wpX_cell (fun r => wpY_cell (fun r' => r' = r ∧ i_Rel (k + 4) u v) v) u) ?_ I
  intro N C A F fv fs fe fw mem ups fen lac hld lnk ack pay car phs cur hrd tok pY hY h
  exact And.intro rfl (ld_mk _ h)
theorem i_vc_bound {k : Nat} {u : SX} {v : SY} (I : i_Rel k u v) (hk : k + 4 ≤ 2050) : wpX_bound (fun r => wpY_bound (fun r' => r' = r ∧ i_Rel (k + 4) u v) v) u := by
  refine ld_el (P := fun u v => wpX_bound (fun r => wpY_bound (fun r' => r' = r ∧ i_Rel (k + 4) u v) v) u) ?_ I
  intro N C A F fv fs fe fw mem ups fen lac hld lnk ack pay car phs cur hrd tok pY hY h
  have h' := h
  obtain ⟨hS, hM, hZ, hF, hL, hR, hW, hC⟩ := h'
  refine lx_bound (by omega) (fun z => ?_) (fun z => ?_)
  · exact ly_bound (by omega) (by omega) hL (fun _ => ⟨rfl, ld_mk _ h⟩) (fun w => absurd z w)
  · exact ly_bound (by omega) (by omega) hL (fun w => absurd w z) (fun _ => ⟨rfl, ld_mk _ h⟩)
section
variable {fn fc fv fs fe fw fa fk : Int32} {mem ups fen lac hld lnk ack pay car phs cur hrd tok pY hY : Nat → Int32}
theorem ld_bv {N C : Nat} (hN : N ≤ 8) (hC : C ≤ 16) (hL : ∀ q, q < N → ld_LC hld car C q (lac q)) : ∃ b : Int32, (∀ post : Int32 → Prop, post b → wpX_bound post (nI N, nI C, fv, fs, fe, fw, fa, fk, mem, ups, fen, lac, hld, lnk, ack, pay, car, phs, cur, hrd, tok)) ∧ (∀ post : Int32 → Prop, post b → wpY_bound post (nI N, nI C, fv, fs, fe, fa, mem, ups, fen, hld, ack, lnk, pay, car, pY, cur, tok, hY)) := by
  by_cases z : fs = 2
  · exact ⟨fe, fun post hp => lx_bound hN (fun _ => hp) (fun w => absurd z w), fun post hp => ly_bound hN hC hL (fun _ => hp) (fun w => absurd z w)⟩
  · exact ⟨ld_bf ups lac N, fun post hp => lx_bound hN (fun w => absurd w z) (fun _ => hp), fun post hp => ly_bound hN hC hL (fun w => absurd w z) (fun _ => hp)⟩
theorem ld_rdL {e : Nat} (he : e < 16) (hM : ld_MV mem 8) : ∀ d i (al : Int32), i + d = 3 → ∃ r : Int32, (∀ post : Int32 → Prop, post r → wX_read_38 post (nI e) fn fc fv fs fe fw fa fk mem ups fen lac hld lnk ack pay car phs cur hrd tok (d + 1) al (nI i)) ∧ (∀ post : Int32 → Prop, post r → wY_read_42 post (nI e) fn fc fv fs fe fa mem ups fen hld ack lnk pay car pY cur tok hY (d + 1) al (nI i)) := by
  intro d
  induction d with
  | zero =>
    intro i al hi
    have e3 : i = 3 := by omega
    subst e3
    have h3 : (3 : Int32) ≤ nI 3 := nI_le (a := 3) (Nat.le_refl 3) (by decide)
    by_cases z : al < 2
    · exact ⟨-15, fun post hp => br_t h3 (br_t z hp), fun post hp => br_t h3 (br_t z hp)⟩
    · exact ⟨-16, fun post hp => br_t h3 (br_f z hp), fun post hp => br_t h3 (br_f z hp)⟩
  | succ d ih =>
    intro i al hi
    obtain ⟨m, hm, em⟩ := hM (e * 5 + (e + i) % 5)
    have h3 : ¬ (3 : Int32) ≤ nI i := nI_ge (b := 3) (by omega) (by decide)
    have h8 : vp_in (nI m) 8 := vp_in_nI hm (by decide)
    have h16 : vp_in (nI e) 16 := vp_in_nI he (by decide)
    have hi16 : vp_in (nI m * 16 + nI e) 128 := ld_in16 hm he
    have ec : (nI m * 16 + nI e).toNatClampNeg = m * 16 + e := ld_cl16 hm he
    have eq : (nI m).toNatClampNeg = m := nI_clamp (by omega)
    have ee : (nI e).toNatClampNeg = e := nI_clamp (by omega)
    by_cases z : ups m = 0
    · obtain ⟨r, hX, hY'⟩ := ih (i + 1) al (by omega)
      refine ⟨r, fun post hp => ?_, fun post hp => ?_⟩
      · refine br_f h3 ?_
        refine lx_home (by omega) (by omega) ?_
        rw [em]
        refine And.intro h8 ?_
        rw [eq]
        exact br_t z (nm_r (nI_1 i) (hX post hp))
      · refine br_f h3 ?_
        refine ly_home (by omega) (by omega) ?_
        rw [em]
        refine And.intro h8 ?_
        rw [eq]
        refine br_t z ?_
        unfold wY_read_87
        rw [eq]
        exact And.intro h8 (br_t z (nm_r (nI_1 i) (hY' post hp)))
    · by_cases y : hld (m * 16 + e) = 0
      · obtain ⟨r, hX, hY'⟩ := ih (i + 1) (al + 1) (by omega)
        refine ⟨r, fun post hp => ?_, fun post hp => ?_⟩
        · refine br_f h3 ?_
          refine lx_home (by omega) (by omega) ?_
          rw [em]
          refine And.intro h8 ?_
          rw [eq, ec]
          exact br_f z (nm_e (And.intro hi16 (br_t y (nm_r (nI_1 i) (hX post hp)))))
        · refine br_f h3 ?_
          refine ly_home (by omega) (by omega) ?_
          rw [em]
          refine And.intro h8 ?_
          rw [eq, ec]
          refine br_f z (And.intro hi16 (br_t y ?_))
          unfold wY_read_87
          rw [eq]
          exact And.intro h8 (br_f z (nm_e (nm_r (nI_1 i) (hY' post hp))))
      · refine ⟨pay e, fun post hp => ?_, fun post hp => ?_⟩
        · refine br_f h3 ?_
          refine lx_home (by omega) (by omega) ?_
          rw [em]
          refine And.intro h8 ?_
          rw [eq, ec, ee]
          exact br_f z (nm_e (And.intro hi16 (br_f y (And.intro h16 hp))))
        · refine br_f h3 ?_
          refine ly_home (by omega) (by omega) ?_
          rw [em]
          refine And.intro h8 ?_
          rw [eq, ec, ee]
          exact br_f z (And.intro hi16 (br_f y (And.intro h16 hp)))
end
theorem i_vc_read {k : Nat} {u : SX} {v : SY} (I : i_Rel k u v) (hk : k + 4 ≤ 2050) (v1 : Int32) : wpX_read (fun r => wpY_read (fun r' => r' = r ∧ i_Rel (k + 4) u v) v v1) u v1 := by
  refine ld_el (P := fun u v => wpX_read (fun r => wpY_read (fun r' => r' = r ∧ i_Rel (k + 4) u v) v v1) u v1) ?_ I
  intro N C A F fv fs fe fw mem ups fen lac hld lnk ack pay car phs cur hrd tok pY hY h
  have h' := h
  obtain ⟨hS, hM, hZ, hF, hL, hR, hW, hC⟩ := h'
  unfold wpX_read
  try dsimp only
  rcases ld_tri v1 (N := C) (by omega) with hb | ⟨e, he, rfl⟩
  · refine lx_isEntry0 hb ?_
    refine br_t rfl ?_
    by_cases z : v1 < 0
    · exact br_t z ⟨rfl, ld_mk _ h⟩
    · exact br_f z (br_f (Int32.not_lt.mpr (hb.resolve_left z)) ⟨rfl, ld_mk _ h⟩)
  · obtain ⟨b, bX, bY⟩ := ld_bv (fv := fv) (fs := fs) (fe := fe) (fw := fw) (fa := nI A) (fk := nI F - 1) (mem := mem) (ups := ups) (fen := fen) (lnk := lnk) (ack := ack) (pay := pay) (phs := phs) (cur := cur) (hrd := hrd) (tok := tok) (pY := pY) (hY := hY) (by omega) (by omega) hL
    obtain ⟨r, rX, rY⟩ := ld_rdL (fn := nI N) (fc := nI C) (fv := fv) (fs := fs) (fe := fe) (fw := fw) (fa := nI A) (fk := nI F - 1) (mem := mem) (ups := ups) (fen := fen) (lac := lac) (hld := hld) (lnk := lnk) (ack := ack) (pay := pay) (car := car) (phs := phs) (cur := cur) (hrd := hrd) (tok := tok) (pY := pY) (hY := hY) (e := e) (by omega) (ld_MV8 hM (by omega)) 3 0 0 rfl
    refine lx_isEntry1 he (by omega) ?_
    refine br_f (by decide) ?_
    refine bX _ ?_
    have hn : ¬ nI e < 0 := nI_pos (by omega)
    have hc : nI e < nI C := nI_lt he (by omega)
    by_cases z : nI e ≤ b
    · refine br_t z (Exists.intro 4 (rX _ ?_))
      refine br_f hn (br_t hc ?_)
      refine bY _ ?_
      exact br_t z (Exists.intro 4 (rY _ ⟨rfl, ld_mk _ h⟩))
    · refine br_f z ?_
      by_cases y : fs = 2
      · refine br_t y ?_
        refine br_f hn (br_t hc ?_)
        refine bY _ ?_
        exact br_f z (br_t y ⟨rfl, ld_mk _ h⟩)
      · refine br_f y ?_
        refine br_f hn (br_t hc ?_)
        refine bY _ ?_
        exact br_f z (br_f y ⟨rfl, ld_mk _ h⟩)
theorem i_vc_member {k : Nat} {u : SX} {v : SY} (I : i_Rel k u v) (hk : k + 4 ≤ 2050) (v1 : Int32) (v2 : Int32) : wpX_member (fun r => wpY_member (fun r' => r' = r ∧ i_Rel (k + 4) u v) v v1 v2) u v1 v2 := by
  refine ld_el (P := fun u v => wpX_member (fun r => wpY_member (fun r' => r' = r ∧ i_Rel (k + 4) u v) v v1 v2) u v1 v2) ?_ I
  intro N C A F fv fs fe fw mem ups fen lac hld lnk ack pay car phs cur hrd tok pY hY h
  have h' := h
  obtain ⟨hS, hM, hZ, hF, hL, hR, hW, hC⟩ := h'
  by_cases z : v1 < 0
  · exact br_t z (br_t z ⟨rfl, ld_mk _ h⟩)
  · by_cases y : nI C < v1
    · exact br_f z (br_t y (br_f z (br_t y ⟨rfl, ld_mk _ h⟩)))
    · obtain ⟨e, he, rfl⟩ := nI_of z
      have he' : ¬ C < e := fun w => y ((nI_ltI (by omega) he).mpr w)
      refine br_f z (br_f y ?_)
      rcases ld_tri v2 (N := 5) (by omega) with hb | ⟨p, hp, rfl⟩
      · refine lx_isPos0 hb ?_
        refine br_t rfl ?_
        refine br_f z (br_f y ?_)
        by_cases x : v2 < 0
        · exact br_t x ⟨rfl, ld_mk _ h⟩
        · exact br_f x (br_f (Int32.not_le.mpr (ld_ge5 x (hb.resolve_left x))) ⟨rfl, ld_mk _ h⟩)
      · refine lx_isPos1 hp ?_
        refine br_f (by decide) (And.intro (ld_in5 (by omega) hp) ?_)
        refine br_f z (br_f y (br_f (nI_pos (by omega)) (br_t (nI_le (b := 4) (by omega) (by decide)) (And.intro (ld_in5 (by omega) hp) ?_))))
        exact ⟨rfl, ld_mk _ h⟩
theorem i_vc_link {k : Nat} {u : SX} {v : SY} (I : i_Rel k u v) (hk : k + 4 ≤ 2050) (v1 : Int32) (v2 : Int32) : wpX_link (fun r => wpY_link (fun r' => r' = r ∧ i_Rel (k + 4) u v) v v1 v2) u v1 v2 := by
  refine ld_el (P := fun u v => wpX_link (fun r => wpY_link (fun r' => r' = r ∧ i_Rel (k + 4) u v) v v1 v2) u v1 v2) ?_ I
  intro N C A F fv fs fe fw mem ups fen lac hld lnk ack pay car phs cur hrd tok pY hY h
  have h' := h
  obtain ⟨hS, hM, hZ, hF, hL, hR, hW, hC⟩ := h'
  unfold wpX_link
  try dsimp only
  rcases ld_triP v1 v2 (N := N) (C := C) (by omega) (by omega) with hb | ⟨q, e, hq, he, rfl, rfl⟩
  · refine lx_isPair0 (by omega) hb ?_
    refine br_t rfl ?_
    unfold wpY_link
    try dsimp only
    refine ly_out1 (by omega) hb ?_
    exact br_f (by decide) ⟨rfl, ld_mk _ h⟩
  · have hi : vp_in (nI q * 16 + nI e) 128 := ld_in16 (by omega) (by omega)
    refine lx_isPair1 (by omega) (by omega) hq he ?_
    refine br_f (by decide) (nm_e (And.intro hi ?_))
    by_cases z : ack (nI q * 16 + nI e).toNatClampNeg = 0
    · refine br_t z (And.intro hi ?_)
      unfold wpY_link
      try dsimp only
      refine ly_out0 (by omega) (by omega) hq he ?_
      exact br_t rfl (And.intro hi (And.intro hi (br_t z ⟨Int32.add_zero _, ld_mk _ h⟩)))
    · refine br_f z (And.intro hi ?_)
      unfold wpY_link
      try dsimp only
      refine ly_out0 (by omega) (by omega) hq he ?_
      exact br_t rfl (And.intro hi (And.intro hi (br_f z ⟨rfl, ld_mk _ h⟩)))
theorem i_vc_draft {k : Nat} {u : SX} {v : SY} (I : i_Rel k u v) (hk : k + 4 ≤ 2050) (v1 : Int32) : wpX_draft (fun r => wpY_draft (fun r' => r' = r ∧ i_Rel (k + 4) u v) v v1) u v1 := by
  refine ld_el (P := fun u v => wpX_draft (fun r => wpY_draft (fun r' => r' = r ∧ i_Rel (k + 4) u v) v v1) u v1) ?_ I
  intro N C A F fv fs fe fw mem ups fen lac hld lnk ack pay car phs cur hrd tok pY hY h
  have h' := h
  obtain ⟨hS, hM, hZ, hF, hL, hR, hW, hC⟩ := h'
  unfold wpX_draft
  try dsimp only
  rcases ld_tri v1 (N := C) (by omega) with hb | ⟨e, he, rfl⟩
  · refine lx_isEntry0 hb ?_
    refine br_t rfl ?_
    by_cases z : v1 < 0
    · exact br_t z ⟨rfl, ld_mk _ h⟩
    · exact br_f z (br_f (Int32.not_lt.mpr (hb.resolve_left z)) ⟨rfl, ld_mk _ h⟩)
  · have hi : vp_in (nI e) 16 := vp_in_nI (by omega) (by decide)
    have hn : ¬ nI e < 0 := nI_pos (by omega)
    have hc : nI e < nI C := nI_lt he (by omega)
    refine lx_isEntry1 he (by omega) ?_
    refine br_f (by decide) ?_
    by_cases z : nI e < nI A
    · refine br_t z (And.intro hi (And.intro hi ?_))
      exact br_f hn (br_t hc (br_t z (And.intro hi (And.intro hi ⟨rfl, ld_mk _ h⟩))))
    · refine br_f z ?_
      exact br_f hn (br_t hc (br_f z ⟨rfl, ld_mk _ h⟩))
end
section
/-! node, progress -/
/-- a bit's weight -/
def ld_wt (x w : Int32) : Int32 := if x = 0 then 0 else w
theorem ld_wt0 {x w : Int32} (h : x = 0) : ld_wt x w = 0 := if_pos h
theorem ld_wt1 {x w : Int32} (h : ¬ x = 0) : ld_wt x w = w := if_neg h
theorem ld_nad (t a b d : Int32) : a + b + d + t = t + a + b + d := by
  rw [Int32.add_comm (a + b + d) t, Int32.add_assoc t a b, Int32.add_assoc t (a + b) d]
section
variable {fn fc fv fs fe fw fa fk : Int32} {mem ups fen lac hld lnk ack pay car phs cur hrd tok pY hY : Nat → Int32}
theorem lx_nd47 {post : Int32 → Prop} {q e : Nat} {t : Int32} (hq : q < 8) (he : e < 16) (hp : post (t + ld_wt (hld (q * 16 + e)) 4)) : wX_node_47 post (nI q) (nI e) t fn fc fv fs fe fw fa fk mem ups fen lac hld lnk ack pay car phs cur hrd tok := by
  unfold wX_node_47
  rw [ld_cl16 hq he]
  refine And.intro (ld_in16 hq he) ?_
  by_cases z : hld (q * 16 + e) = 0
  · rw [ld_wt0 z, Int32.add_zero] at hp
    exact br_t z hp
  · rw [ld_wt1 z] at hp
    exact br_f z (nm_e hp)
theorem lx_nd35 {post : Int32 → Prop} {q e : Nat} {t : Int32} (hq : q < 8) (he : e < 16) (hp : post (t + ld_wt (fen q) 2 + ld_wt (hld (q * 16 + e)) 4)) : wX_node_35 post (nI q) (nI e) t fn fc fv fs fe fw fa fk mem ups fen lac hld lnk ack pay car phs cur hrd tok := by
  unfold wX_node_35
  rw [nI_clamp (n := q) (by omega)]
  refine And.intro (vp_in_nI hq (by decide)) ?_
  by_cases z : fen q = 0
  · rw [ld_wt0 z, Int32.add_zero] at hp
    exact br_t z (lx_nd47 hq he hp)
  · rw [ld_wt1 z] at hp
    exact br_f z (nm_e (lx_nd47 hq he hp))
theorem lx_node {post : Int32 → Prop} {N C q e : Nat} (hN : N ≤ 8) (hC : C ≤ 16) (hq : q < N) (he : e < C) (hp : post (8 * (lac q + 1) + ld_wt (ups q) 1 + ld_wt (fen q) 2 + ld_wt (hld (q * 16 + e)) 4)) : wpX_node post (nI N, nI C, fv, fs, fe, fw, fa, fk, mem, ups, fen, lac, hld, lnk, ack, pay, car, phs, cur, hrd, tok) (nI q) (nI e) := by
  have h8 : vp_in (nI q) 8 := vp_in_nI (by omega) (by decide)
  unfold wpX_node
  try dsimp only
  refine lx_isPair1 (by omega) hC hq he ?_
  refine br_f (by decide) (And.intro h8 ?_)
  rw [nI_clamp (n := q) (by omega)]
  refine nm_e (And.intro h8 ?_)
  by_cases z : ups q = 0
  · rw [ld_wt0 z, Int32.add_zero] at hp
    exact br_t z (lx_nd35 (by omega) (by omega) hp)
  · rw [ld_wt1 z] at hp
    exact br_f z (nm_e (lx_nd35 (by omega) (by omega) hp))
theorem ly_nd59 {post : Int32 → Prop} {C q : Nat} {z0 z1 : Int32} (hq : q < 8) (hC : C ≤ 16) (hL : ld_LC hld car C q (lac q)) (hp : post (z1 + z0 + 8 * (lac q + 1))) : wY_node_59 post (nI q) z0 z1 fn (nI C) fv fs fe fa mem ups fen hld ack lnk pay car pY cur tok hY := by
  unfold wY_node_59
  refine nm_e ?_
  refine ly_lac hC hq hL ?_
  exact hp
theorem ly_nd39 {post : Int32 → Prop} {C q e : Nat} {z0 z1 : Int32} (hq : q < 8) (he : e < 16) (hC : C ≤ 16) (hL : ld_LC hld car C q (lac q)) (hp : post (z1 + z0 + ld_wt (hld (q * 16 + e)) 4 + 8 * (lac q + 1))) : wY_node_39 post (nI q) (nI e) z0 z1 fn (nI C) fv fs fe fa mem ups fen hld ack lnk pay car pY cur tok hY := by
  unfold wY_node_39
  rw [ld_cl16 hq he]
  refine And.intro (ld_in16 hq he) ?_
  by_cases z : hld (q * 16 + e) = 0
  · rw [ld_wt0 z] at hp
    exact br_t z (ly_nd59 hq hC hL hp)
  · rw [ld_wt1 z] at hp
    exact br_f z (ly_nd59 hq hC hL hp)
theorem ly_nd25 {post : Int32 → Prop} {C q e : Nat} {z0 : Int32} (hq : q < 8) (he : e < 16) (hC : C ≤ 16) (hL : ld_LC hld car C q (lac q)) (hp : post (z0 + ld_wt (fen q) 2 + ld_wt (hld (q * 16 + e)) 4 + 8 * (lac q + 1))) : wY_node_25 post (nI q) (nI e) z0 fn (nI C) fv fs fe fa mem ups fen hld ack lnk pay car pY cur tok hY := by
  unfold wY_node_25
  rw [nI_clamp (n := q) (by omega)]
  refine And.intro (vp_in_nI hq (by decide)) ?_
  by_cases z : fen q = 0
  · rw [ld_wt0 z] at hp
    exact br_t z (ly_nd39 hq he hC hL hp)
  · rw [ld_wt1 z] at hp
    exact br_f z (ly_nd39 hq he hC hL hp)
theorem ly_node {post : Int32 → Prop} {N C q e : Nat} (hN : N ≤ 8) (hC : C ≤ 16) (hq : q < N) (he : e < C) (hL : ld_LC hld car C q (lac q)) (hp : post (ld_wt (ups q) 1 + ld_wt (fen q) 2 + ld_wt (hld (q * 16 + e)) 4 + 8 * (lac q + 1))) : wpY_node post (nI N, nI C, fv, fs, fe, fa, mem, ups, fen, hld, ack, lnk, pay, car, pY, cur, tok, hY) (nI q) (nI e) := by
  unfold wpY_node
  try dsimp only
  refine ly_out0 (by omega) hC hq he ?_
  refine br_t rfl (And.intro (vp_in_nI (by omega) (by decide)) ?_)
  rw [nI_clamp (n := q) (by omega)]
  by_cases z : ups q = 0
  · rw [ld_wt0 z] at hp
    exact br_t z (ly_nd25 (by omega) (by omega) hC hL hp)
  · rw [ld_wt1 z] at hp
    exact br_f z (ly_nd25 (by omega) (by omega) hC hL hp)
theorem ly_prL {post : Int32 → Prop} {N c : Nat} {base : Int32} (hN : N ≤ 8) (hc : c < 4) (h0 : pY c = 0 → post (base + nI (256 * ld_hp (fun i => hY (c * 8 + i)) N))) (h1 : ¬ pY c = 0 → tok c = fv → post (base + nI (256 * ld_hp (fun i => hY (c * 8 + i)) N) + 65536)) (h2 : ¬ pY c = 0 → ¬ tok c = fv → post (base + nI (256 * ld_hp (fun i => hY (c * 8 + i)) N))) : ∀ d i, i + d = N → wY_progress_51 post (nI c) (nI N) fc fv fs fe fa mem ups fen hld ack lnk pay car pY cur tok hY (d + 1) (base + nI (256 * ld_hp (fun i => hY (c * 8 + i)) i)) (nI i) := by
  have hi4 : vp_in (nI c) 4 := vp_in_nI hc (by decide)
  have ec : (nI c).toNatClampNeg = c := nI_clamp (by omega)
  intro d
  induction d with
  | zero =>
    intro i hi
    have eN : i = N := by omega
    subst eN
    refine br_t (nI_le (Nat.le_refl i) (by omega)) (And.intro hi4 ?_)
    rw [ec]
    exact br_c h0 (fun z => And.intro hi4 (br_c (h1 z) (h2 z)))
  | succ d ih =>
    intro i hi
    have K := ih (i + 1) (by omega)
    refine br_f (nI_ge (by omega) (by omega)) (And.intro (ld_in8 hc (by omega)) ?_)
    rw [ld_cl8 hc (by omega)]
    by_cases z : hY (c * 8 + i) = 0
    · rw [ld_hp_s0 (b := fun i => hY (c * 8 + i)) z] at K
      exact br_t z (nm_r (nI_1 i) K)
    · rw [ld_hp_s1 (b := fun i => hY (c * 8 + i)) z, Nat.mul_add, ← nI_add, ← Int32.add_assoc] at K
      rw [ld_s256 i (by omega)]
      exact br_f z (nm_e (nm_r (nI_1 i) K))
end
theorem i_vc_node {k : Nat} {u : SX} {v : SY} (I : i_Rel k u v) (hk : k + 4 ≤ 2050) (v1 : Int32) (v2 : Int32) : wpX_node (fun r => wpY_node (fun r' => r' = r ∧ i_Rel (k + 4) u v) v v1 v2) u v1 v2 := by
  refine ld_el (P := fun u v => wpX_node (fun r => wpY_node (fun r' => r' = r ∧ i_Rel (k + 4) u v) v v1 v2) u v1 v2) ?_ I
  intro N C A F fv fs fe fw mem ups fen lac hld lnk ack pay car phs cur hrd tok pY hY h
  have h' := h
  obtain ⟨hS, hM, hZ, hF, hL, hR, hW, hC⟩ := h'
  rcases ld_triP v1 v2 (N := N) (C := C) (by omega) (by omega) with hb | ⟨q, e, hq, he, rfl, rfl⟩
  · unfold wpX_node
    try dsimp only
    refine lx_isPair0 (by omega) hb ?_
    refine br_t rfl ?_
    unfold wpY_node
    try dsimp only
    refine ly_out1 (by omega) hb ?_
    exact br_f (by decide) ⟨rfl, ld_mk _ h⟩
  · refine lx_node (N := N) (C := C) (by omega) (by omega) hq he ?_
    refine ly_node (N := N) (C := C) (by omega) (by omega) hq he (hL q hq) ?_
    exact ⟨ld_nad _ _ _ _, ld_mk _ h⟩
theorem i_vc_progress {k : Nat} {u : SX} {v : SY} (I : i_Rel k u v) (hk : k + 4 ≤ 2050) (v1 : Int32) : wpX_progress (fun r => wpY_progress (fun r' => r' = r ∧ i_Rel (k + 4) u v) v v1) u v1 := by
  refine ld_el (P := fun u v => wpX_progress (fun r => wpY_progress (fun r' => r' = r ∧ i_Rel (k + 4) u v) v v1) u v1) ?_ I
  intro N C A F fv fs fe fw mem ups fen lac hld lnk ack pay car phs cur hrd tok pY hY h
  have h' := h
  obtain ⟨hS, hM, hZ, hF, hL, hR, hW, hC⟩ := h'
  rcases ld_tri3 v1 with hb | hb | ⟨c, h1, h4, rfl⟩
  · by_cases h0 : v1 = 0
    · subst h0
      refine br_t rfl ?_
      refine br_f (by decide) (br_t (by decide) (br_t rfl ?_))
      refine ly_confirmed (by omega) (ld_MV8 hM (by omega)) hF ?_
      exact ⟨by rw [hW], ld_mk _ h⟩
    · refine br_f h0 ?_
      refine lx_isRec0 (Or.inl hb) ?_
      refine br_t rfl ?_
      exact br_t (ld_neg hb h0) ⟨rfl, ld_mk _ h⟩
  · have g := ld_ge1 hb
    refine br_f g.2.2.1 ?_
    refine lx_isRec0 (Or.inr hb) ?_
    refine br_t rfl ?_
    exact br_f g.1 (br_f g.2.1 ⟨rfl, ld_mk _ h⟩)
  · have hi : vp_in (nI c) 4 := vp_in_nI h4 (by decide)
    have ec : (nI c).toNatClampNeg = c := nI_clamp (by omega)
    obtain ⟨ep, hh, hb0, _⟩ := hC c h1 h4
    have e8 : ld_hp (fun i => hY (c * 8 + i)) 8 = ld_hp (fun i => hY (c * 8 + i)) N := by
      have t := ld_hp_tail (b := fun i => hY (c * 8 + i)) (N := N) (8 - N) (fun i a b => hb0 i a (by omega))
      rw [show N + (8 - N) = 8 from by omega] at t
      exact t
    have ex : 256 * hrd c = nI (256 * ld_hp (fun i => hY (c * 8 + i)) N) := by rw [hh, ld_n256, pk_mul, e8]
    have YW : ∀ post : Int32 → Prop, (pY c = 0 → post (pY c + 8 * cur c + nI (256 * ld_hp (fun i => hY (c * 8 + i)) N))) → (¬ pY c = 0 → tok c = fv → post (pY c + 8 * cur c + nI (256 * ld_hp (fun i => hY (c * 8 + i)) N) + 65536)) → (¬ pY c = 0 → ¬ tok c = fv → post (pY c + 8 * cur c + nI (256 * ld_hp (fun i => hY (c * 8 + i)) N))) → wpY_progress post (nI N, nI C, fv, fs, fe, nI A, mem, ups, fen, hld, ack, lnk, pay, car, pY, cur, tok, hY) (nI c) := by
      intro post a b d
      refine br_f (nI_pos (by omega)) (br_t (ld_le3 h4) (br_f (nI_ne0 (by omega) (by omega)) (And.intro hi (And.intro hi ?_))))
      rw [ec]
      have K := ly_prL (fc := nI C) (fs := fs) (fe := fe) (fa := nI A) (mem := mem) (ups := ups) (fen := fen) (hld := hld) (lnk := lnk) (ack := ack) (pay := pay) (car := car) (cur := cur) (by omega) h4 a b d N 0 (by omega)
      rw [show nI (256 * ld_hp (fun i => hY (c * 8 + i)) 0) = 0 from rfl, Int32.add_zero] at K
      exact nm_e (Exists.intro (N + 1) K)
    refine br_f (nI_ne0 (by omega) (by omega)) ?_
    refine lx_isRec1 h1 h4 ?_
    refine br_f (by decide) (And.intro hi (And.intro hi (And.intro hi ?_)))
    rw [ec, ex]
    refine nm_e (And.intro hi ?_)
    by_cases z : phs c = 0
    · refine br_t z ?_
      exact YW _ (fun _ => ⟨by rw [ep], ld_mk _ h⟩) (fun w => absurd (ep.trans z) w) (fun w => absurd (ep.trans z) w)
    · refine br_f z (And.intro hi ?_)
      by_cases y : tok c = fv
      · refine br_t y (nm_e ?_)
        exact YW _ (fun w => absurd (ep.symm.trans w) z) (fun _ _ => ⟨by rw [ep], ld_mk _ h⟩) (fun _ w => absurd y w)
      · refine br_f y ?_
        exact YW _ (fun w => absurd (ep.symm.trans w) z) (fun _ w => absurd w y) (fun _ _ => ⟨by rw [ep], ld_mk _ h⟩)
end
section
/-! contact: X's walk -/
theorem ld_bq {hY : Nat → Int32} {c q : Nat} : (fun i => upd hY (c * 8 + q) 1 (c * 8 + i)) = upd (fun i => hY (c * 8 + i)) q 1 := by
  funext i
  by_cases z : i = q
  · subst z
    rw [pk_us, pk_us]
  · rw [pk_un z, pk_un (by omega)]
/-- the heard set of client c behind a reply of q -/
def ld_h1 (hY : Nat → Int32) (c q : Nat) : Int32 := nI (ld_hp (fun i => upd hY (c * 8 + q) 1 (c * 8 + i)) 8)
theorem ld_h1E {hrd hY : Nat → Int32} {c q : Nat} (hq : q < 8) (hh : hrd c = nI (ld_hp (fun i => hY (c * 8 + i)) 8)) : (hrd c ||| ((1 : Int32) <<< (nI q &&& 31))) = ld_h1 hY c q := by
  unfold ld_h1
  rw [hh, ld_or _ hq, ld_bq]
/-- the cursors behind a fencing reply -/
def ld_cu (lac cur : Nat → Int32) (q c : Nat) : Nat → Int32 := if lac q + 1 ≤ cur c then cur else upd cur c (lac q + 1)
theorem ld_cu_n {lac cur : Nat → Int32} {q c j : Nat} (h : j ≠ c) : ld_cu lac cur q c j = cur j := by
  unfold ld_cu
  by_cases z : lac q + 1 ≤ cur c
  · rw [if_pos z]
  · rw [if_neg z, pk_un h]
theorem ld_cu_c {lac cur : Nat → Int32} {q c C j K : Nat} (hj : j ≤ C) (hK : K ≤ C) (ej : lac q + 1 = nI j) (ek : cur c = nI K) : ∃ K1, K1 ≤ C ∧ ld_cu lac cur q c c = nI K1 := by
  unfold ld_cu
  by_cases z : lac q + 1 ≤ cur c
  · rw [if_pos z]
    exact ⟨K, hK, ek⟩
  · rw [if_neg z, pk_us]
    exact ⟨j, hj, ej⟩
section
variable {fn fc fv fs fe fw fa fk : Int32} {mem ups fen lac hld lnk ack pay car phs cur hrd tok pY hY : Nat → Int32}
theorem lx_tgt1 {post : Int32 → Prop} {C c q : Nat} (hC : C ≤ 16) (hc : c < 4) (hp : phs c = 1) (h1 : (∃ p, p < 5 ∧ mem (C * 5 + p) = nI q) → post 1) (h0 : (∀ p, p < 5 → ¬ mem (C * 5 + p) = nI q) → post 0) : wpX_isTarget post (fn, nI C, fv, fs, fe, fw, fa, fk, mem, ups, fen, lac, hld, lnk, ack, pay, car, phs, cur, hrd, tok) (nI c) (nI q) := by
  refine And.intro (vp_in_nI hc (by decide)) ?_
  rw [nI_clamp (n := c) (by omega)]
  refine br_t hp ?_
  refine lx_inCur hC (fun z => ?_) (fun z => ?_)
  · exact And.intro narrow_b1 (h1 z)
  · exact And.intro narrow_b0 (h0 z)
theorem lx_tgt2 {post : Int32 → Prop} {C K c q : Nat} (hC : C ≤ 16) (hK : K < C) (hc : c < 4) (hp : ¬ phs c = 1) (hk : cur c = nI K) (h1 : ld_Hm mem K (nI q) → post 1) (h0 : ¬ ld_Hm mem K (nI q) → post 0) : wpX_isTarget post (fn, nI C, fv, fs, fe, fw, fa, fk, mem, ups, fen, lac, hld, lnk, ack, pay, car, phs, cur, hrd, tok) (nI c) (nI q) := by
  refine And.intro (vp_in_nI hc (by decide)) ?_
  rw [nI_clamp (n := c) (by omega)]
  refine br_f hp (And.intro (vp_in_nI hc (by decide)) ?_)
  rw [hk]
  refine lx_isHome hC hK (fun z => ?_) (fun z => ?_)
  · exact And.intro narrow_b1 (h1 z)
  · exact And.intro narrow_b0 (h0 z)
theorem lx_ct_idle {post : Int32 → SX → Prop} {N c q : Nat} {a : Int32} (hN : N ≤ 8) (h1 : 1 ≤ c) (hc : c < 4) (hq : q < N) (hp : phs c = 0 ∨ phs c = 4) (h : post (-10) (nI N, fc, fv, fs, fe, fw, fa, fk, mem, ups, fen, lac, hld, lnk, ack, pay, car, phs, cur, hrd, tok)) : wpX_contact post (nI N, fc, fv, fs, fe, fw, fa, fk, mem, ups, fen, lac, hld, lnk, ack, pay, car, phs, cur, hrd, tok) (nI c) (nI q) a := by
  unfold wpX_contact
  try dsimp only
  refine lx_isRec1 h1 hc ?_
  refine br_f (by decide) ?_
  refine lx_isNode1 hq (by omega) ?_
  refine br_f (by decide) (And.intro (vp_in_nI hc (by decide)) ?_)
  rw [nI_clamp (n := c) (by omega)]
  refine nm_e ?_
  rcases hp with hp | hp
  · exact br_t hp h
  · exact br_f (by rw [hp]; decide) (br_t hp h)
theorem lx_ct {post : Int32 → SX → Prop} {N C K c q : Nat} {a : Int32} {T : Prop} (hN : N ≤ 8) (hC : C ≤ 16) (h1 : 1 ≤ c) (hc : c < 4) (hq : q < N) (n0 : ¬ phs c = 0) (n4 : ¬ phs c = 4) (hk : cur c = nI K) (hK : phs c = 3 → K < C) (hT : ∀ Q : Int32 → Prop, (T → Q 1) → (¬ T → Q 0) → wpX_isTarget Q (nI N, nI C, fv, fs, fe, fw, fa, fk, mem, ups, fen, lac, hld, lnk, ack, pay, car, phs, cur, hrd, tok) (nI c) (nI q)) (e8 : ¬ T → post (-8) (nI N, nI C, fv, fs, fe, fw, fa, fk, mem, ups, fen, lac, hld, lnk, ack, pay, car, phs, cur, hrd, tok)) (e5 : T → ups q = 0 → post (-5) (nI N, nI C, fv, fs, fe, fw, fa, fk, mem, ups, fen, lac, hld, lnk, ack, pay, car, phs, cur, hrd, tok)) (h3 : T → ¬ ups q = 0 → phs c = 3 → wX_contact_88 post (nI c) (nI q) a (nI N) (nI C) fv fs fe fw fa fk mem ups (upd fen q 1) (ld_sl lac car q K) (upd hld (q * 16 + K) 1) lnk ack pay car phs cur hrd tok) (hh : T → ¬ ups q = 0 → ¬ phs c = 3 → wX_contact_88 post (nI c) (nI q) a (nI N) (nI C) fv fs fe fw fa fk mem ups (upd fen q 1) lac hld lnk ack pay car phs cur hrd tok) : wpX_contact post (nI N, nI C, fv, fs, fe, fw, fa, fk, mem, ups, fen, lac, hld, lnk, ack, pay, car, phs, cur, hrd, tok) (nI c) (nI q) a := by
  have hi : vp_in (nI c) 4 := vp_in_nI hc (by decide)
  have h8 : vp_in (nI q) 8 := vp_in_nI (by omega) (by decide)
  unfold wpX_contact
  try dsimp only
  refine lx_isRec1 h1 hc ?_
  refine br_f (by decide) ?_
  refine lx_isNode1 hq (by omega) ?_
  refine br_f (by decide) (And.intro hi ?_)
  rw [nI_clamp (n := c) (by omega), nI_clamp (n := q) (by omega), ld_b1, hk]
  refine nm_e (br_f n0 (br_f n4 ?_))
  refine hT _ (fun t => ?_) (fun t => ?_)
  · refine br_f (by decide) (And.intro h8 (br_c (e5 t) (fun z => ?_)))
    refine And.intro h8 (nm_e (br_c (fun y => And.intro hi ?_) (hh t z)))
    refine lx_store hC (by omega) (hK y) ?_
    exact h3 t z y
  · exact br_t rfl (e8 t)
theorem lx_43 {post : SX → Prop} {C K c : Nat} (hC : C ≤ 16) (hc : c < 4) (hM : ld_MV mem 8) (hh : hrd c = nI (ld_hp (fun i => hY (c * 8 + i)) 8)) (hK : K ≤ C) (hk : cur c = nI K) (hn : ¬ ld_AS mem hY C c → post (fn, nI C, fv, fs, fe, fw, fa, fk, mem, ups, fen, lac, hld, lnk, ack, pay, car, phs, cur, hrd, tok)) (h4 : ld_AS mem hY C c → K = C → post (fn, nI C, fv, fs, fe, fw, fa, fk, mem, ups, fen, lac, hld, lnk, ack, pay, car, upd phs c 4, cur, upd hrd c 0, tok)) (h2 : ld_AS mem hY C c → K ≠ C → post (fn, nI C, fv, fs, fe, fw, fa, fk, mem, ups, fen, lac, hld, lnk, ack, pay, car, upd phs c 2, cur, upd hrd c 0, tok)) : wX_takeFenceReply_43 post (nI c) fn (nI C) fv fs fe fw fa fk mem ups fen lac hld lnk ack pay car phs cur hrd tok := by
  unfold wX_takeFenceReply_43
  refine lx_allSt hC hc hM hh (fun z => ?_) (fun z => ?_)
  · refine br_f (by decide) ?_
    refine lx_readOn hc hC hK hk (fun y => ?_) (fun y => ?_)
    · exact h4 z y
    · exact h2 z y
  · exact br_t rfl (hn z)
theorem lx_tkF {post : SX → Prop} {C K1 c q : Nat} (hC : C ≤ 16) (hc : c < 4) (hq : q < 8) (hM : ld_MV mem 8) (hh : hrd c = nI (ld_hp (fun i => hY (c * 8 + i)) 8)) (hK : K1 ≤ C) (hk : ld_cu lac cur q c c = nI K1) (hn : ¬ ld_AS mem (upd hY (c * 8 + q) 1) C c → post (fn, nI C, fv, fs, fe, fw, fa, fk, mem, ups, fen, lac, hld, lnk, ack, pay, car, phs, ld_cu lac cur q c, upd hrd c (ld_h1 hY c q), tok)) (h4 : ld_AS mem (upd hY (c * 8 + q) 1) C c → K1 = C → post (fn, nI C, fv, fs, fe, fw, fa, fk, mem, ups, fen, lac, hld, lnk, ack, pay, car, upd phs c 4, ld_cu lac cur q c, upd (upd hrd c (ld_h1 hY c q)) c 0, tok)) (h2 : ld_AS mem (upd hY (c * 8 + q) 1) C c → K1 ≠ C → post (fn, nI C, fv, fs, fe, fw, fa, fk, mem, ups, fen, lac, hld, lnk, ack, pay, car, upd phs c 2, ld_cu lac cur q c, upd (upd hrd c (ld_h1 hY c q)) c 0, tok)) : wpX_takeFenceReply post (fn, nI C, fv, fs, fe, fw, fa, fk, mem, ups, fen, lac, hld, lnk, ack, pay, car, phs, cur, hrd, tok) (nI c) (nI q) := by
  have hi : vp_in (nI c) 4 := vp_in_nI hc (by decide)
  have h8 : vp_in (nI q) 8 := vp_in_nI (by omega) (by decide)
  refine And.intro hi (And.intro hi ?_)
  rw [nI_clamp (n := c) (by omega), nI_clamp (n := q) (by omega), ld_h1E hq hh]
  refine nm_e (And.intro h8 (And.intro hi ?_))
  by_cases z : lac q + 1 ≤ cur c
  · have e : ld_cu lac cur q c = cur := if_pos z
    rw [e] at hk hn h4 h2
    exact br_t z (lx_43 (hY := upd hY (c * 8 + q) 1) hC hc hM pk_us hK hk hn h4 h2)
  · have e : ld_cu lac cur q c = upd cur c (lac q + 1) := if_neg z
    rw [e] at hk hn h4 h2
    exact br_f z (And.intro h8 (And.intro hi (nm_e (lx_43 (hY := upd hY (c * 8 + q) 1) hC hc hM pk_us hK hk hn h4 h2))))
theorem lx_c1 {post : Int32 → SX → Prop} {C K1 c q : Nat} {a : Int32} (hC : C ≤ 16) (hc : c < 4) (hq : q < 8) (hM : ld_MV mem 8) (hp : phs c = 1) (hh : hrd c = nI (ld_hp (fun i => hY (c * 8 + i)) 8)) (hK : K1 ≤ C) (hk : ld_cu lac cur q c c = nI K1) (e12 : a = 0 → post (-12) (fn, nI C, fv, fs, fe, fw, fa, fk, mem, ups, fen, lac, hld, lnk, ack, pay, car, phs, cur, hrd, tok)) (hn : ¬ a = 0 → ¬ ld_AS mem (upd hY (c * 8 + q) 1) C c → post 1 (fn, nI C, fv, fs, fe, fw, fa, fk, mem, ups, fen, lac, hld, lnk, ack, pay, car, phs, ld_cu lac cur q c, upd hrd c (ld_h1 hY c q), tok)) (h4 : ¬ a = 0 → ld_AS mem (upd hY (c * 8 + q) 1) C c → K1 = C → post 4 (fn, nI C, fv, fs, fe, fw, fa, fk, mem, ups, fen, lac, hld, lnk, ack, pay, car, upd phs c 4, ld_cu lac cur q c, upd (upd hrd c (ld_h1 hY c q)) c 0, tok)) (h2 : ¬ a = 0 → ld_AS mem (upd hY (c * 8 + q) 1) C c → K1 ≠ C → post 2 (fn, nI C, fv, fs, fe, fw, fa, fk, mem, ups, fen, lac, hld, lnk, ack, pay, car, upd phs c 2, ld_cu lac cur q c, upd (upd hrd c (ld_h1 hY c q)) c 0, tok)) : wX_contact_88 post (nI c) (nI q) a fn (nI C) fv fs fe fw fa fk mem ups fen lac hld lnk ack pay car phs cur hrd tok := by
  have hi : vp_in (nI c) 4 := vp_in_nI hc (by decide)
  have ec : (nI c).toNatClampNeg = c := nI_clamp (by omega)
  unfold wX_contact_88
  refine br_c e12 (fun z => ?_)
  refine And.intro hi ?_
  rw [ec]
  refine nm_e (br_t hp ?_)
  refine lx_tkF hC hc hq hM hh hK hk (fun y => ?_) (fun y w => ?_) (fun y w => ?_)
  · refine And.intro hi ?_
    rw [hp]
    exact hn z y
  · refine And.intro hi ?_
    rw [pk_us]
    exact h4 z y w
  · refine And.intro hi ?_
    rw [pk_us]
    exact h2 z y w
theorem lx_c2 {post : Int32 → SX → Prop} {C K c q : Nat} {a : Int32} (hC : C ≤ 16) (hc : c < 4) (hq : q < 8) (hp : phs c = 2) (hh : hrd c = nI (ld_hp (fun i => hY (c * 8 + i)) 8)) (hK : K < C) (hk : cur c = nI K) (e12 : a = 0 → post (-12) (fn, nI C, fv, fs, fe, fw, fa, fk, mem, ups, fen, lac, hld, lnk, ack, pay, car, phs, cur, hrd, tok)) (h3 : ¬ a = 0 → ¬ hld (q * 16 + K) = 0 → post 3 (fn, nI C, fv, fs, fe, fw, fa, fk, mem, ups, fen, lac, hld, lnk, ack, pay, car, upd phs c 3, cur, upd hrd c 0, tok)) (hn : ¬ a = 0 → hld (q * 16 + K) = 0 → ld_ct (fun i => upd hY (c * 8 + q) 1 (c * 8 + i)) 8 < 2 → post 2 (fn, nI C, fv, fs, fe, fw, fa, fk, mem, ups, fen, lac, hld, lnk, ack, pay, car, phs, cur, upd hrd c (ld_h1 hY c q), tok)) (h4 : ¬ a = 0 → hld (q * 16 + K) = 0 → 2 ≤ ld_ct (fun i => upd hY (c * 8 + q) 1 (c * 8 + i)) 8 → post 4 (fn, nI C, fv, fs, fe, fw, fa, fk, mem, ups, fen, lac, hld, lnk, ack, pay, car, upd phs c 4, cur, upd (upd hrd c (ld_h1 hY c q)) c 0, tok)) : wX_contact_88 post (nI c) (nI q) a fn (nI C) fv fs fe fw fa fk mem ups fen lac hld lnk ack pay car phs cur hrd tok := by
  have hi : vp_in (nI c) 4 := vp_in_nI hc (by decide)
  have h8 : vp_in (nI q) 8 := vp_in_nI (by omega) (by decide)
  have ec : (nI c).toNatClampNeg = c := nI_clamp (by omega)
  have n1 : ¬ phs c = 1 := by rw [hp]; decide
  unfold wX_contact_88
  refine br_c e12 (fun z => ?_)
  refine And.intro hi ?_
  rw [ec]
  refine nm_e (br_f n1 (br_t hp ?_))
  refine And.intro hi ?_
  rw [ec, hk]
  refine nm_e ?_
  refine lx_isEntry1 hK hC ?_
  refine br_f (by decide) (And.intro (ld_in16 hq (by omega)) ?_)
  rw [ld_cl16 hq (by omega)]
  by_cases y : hld (q * 16 + K) = 0
  · refine br_t y ?_
    unfold wX_takeReadReply_36
    rw [ec, ld_h1E hq hh]
    refine And.intro hi (And.intro hi (nm_e ?_))
    refine lx_two (b := fun i => upd hY (c * 8 + q) 1 (c * 8 + i)) hc pk_us (fun w => ?_) (fun w => ?_)
    · refine br_t rfl ?_
      refine And.intro hi ?_
      rw [hp]
      exact hn z y w
    · refine br_f (by decide) ?_
      refine lx_enter hc ?_
      refine And.intro hi ?_
      rw [pk_us]
      exact h4 z y w
  · refine br_f y ?_
    refine lx_enter hc ?_
    refine And.intro hi ?_
    rw [pk_us]
    exact h3 z y
theorem lx_c3 {post : Int32 → SX → Prop} {C K c q : Nat} {a : Int32} (hC : C ≤ 16) (hc : c < 4) (hq : q < 8) (hp : phs c = 3) (hh : hrd c = nI (ld_hp (fun i => hY (c * 8 + i)) 8)) (hK : K < C) (hk : cur c = nI K) (e12 : a = 0 → post (-12) (fn, nI C, fv, fs, fe, fw, fa, fk, mem, ups, fen, lac, hld, lnk, ack, pay, car, phs, cur, hrd, tok)) (hn : ¬ a = 0 → ld_ct (fun i => upd hY (c * 8 + q) 1 (c * 8 + i)) 8 < 2 → post 3 (fn, nI C, fv, fs, fe, fw, fa, fk, mem, ups, fen, lac, hld, lnk, ack, pay, car, phs, cur, upd hrd c (ld_h1 hY c q), tok)) (h4 : ¬ a = 0 → 2 ≤ ld_ct (fun i => upd hY (c * 8 + q) 1 (c * 8 + i)) 8 → K + 1 = C → post 4 (fn, nI C, fv, fs, fe, fw, fa, fk, mem, ups, fen, lac, hld, lnk, ack, pay, car, upd phs c 4, upd cur c (nI (K + 1)), upd (upd hrd c (ld_h1 hY c q)) c 0, tok)) (h2 : ¬ a = 0 → 2 ≤ ld_ct (fun i => upd hY (c * 8 + q) 1 (c * 8 + i)) 8 → K + 1 ≠ C → post 2 (fn, nI C, fv, fs, fe, fw, fa, fk, mem, ups, fen, lac, hld, lnk, ack, pay, car, upd phs c 2, upd cur c (nI (K + 1)), upd (upd hrd c (ld_h1 hY c q)) c 0, tok)) : wX_contact_88 post (nI c) (nI q) a fn (nI C) fv fs fe fw fa fk mem ups fen lac hld lnk ack pay car phs cur hrd tok := by
  have hi : vp_in (nI c) 4 := vp_in_nI hc (by decide)
  have h8 : vp_in (nI q) 8 := vp_in_nI (by omega) (by decide)
  have ec : (nI c).toNatClampNeg = c := nI_clamp (by omega)
  have n1 : ¬ phs c = 1 := by rw [hp]; decide
  have n2 : ¬ phs c = 2 := by rw [hp]; decide
  unfold wX_contact_88
  refine br_c e12 (fun z => ?_)
  refine And.intro hi ?_
  rw [ec]
  refine nm_e (br_f n1 (br_f n2 ?_))
  refine And.intro hi (And.intro hi ?_)
  rw [ec, ld_h1E hq hh, hk, nI_1 K]
  refine nm_e ?_
  refine lx_two (b := fun i => upd hY (c * 8 + q) 1 (c * 8 + i)) hc pk_us (fun w => ?_) (fun w => ?_)
  · refine br_t rfl ?_
    refine And.intro hi ?_
    rw [hp]
    exact hn z w
  · refine br_f (by decide) (And.intro hi (And.intro hi (nm_e ?_)))
    refine lx_readOn (K := K + 1) hc hC (by omega) pk_us (fun y => ?_) (fun y => ?_)
    · refine And.intro hi ?_
      rw [pk_us]
      exact h4 z w y
    · refine And.intro hi ?_
      rw [pk_us]
      exact h2 z w y
end
end
section
/-! contact: Y's walk -/
section
variable {fn fc fv fs fe fw fa fk : Int32} {mem ups fen lac hld lnk ack pay car phs cur hrd tok pY hY : Nat → Int32}
theorem ly_ct_idle {post : Int32 → SY → Prop} {N c q : Nat} {a : Int32} (hN : N ≤ 8) (h1 : 1 ≤ c) (hc : c < 4) (hq : q < N) (hp : pY c = 0 ∨ pY c = 4) (h : post (-10) (nI N, fc, fv, fs, fe, fa, mem, ups, fen, hld, ack, lnk, pay, car, pY, cur, tok, hY)) : wpY_contact post (nI N, fc, fv, fs, fe, fa, mem, ups, fen, hld, ack, lnk, pay, car, pY, cur, tok, hY) (nI c) (nI q) a := by
  have hi : vp_in (nI c) 4 := vp_in_nI hc (by decide)
  refine br_f (ld_nlt1 h1 hc) (br_f (ld_nlt3 hc) (br_f (nI_pos (by omega)) (br_t (nI_lt hq (by omega)) (And.intro hi ?_))))
  rw [nI_clamp (n := c) (by omega)]
  refine nm_e (And.intro hi (nm_e ?_))
  rcases hp with hp | hp
  · exact br_t hp h
  · exact br_f (by rw [hp]; decide) (br_t hp h)
theorem ly_ct1 {post : Int32 → SY → Prop} {N C K c q : Nat} {a : Int32} (hN : N ≤ 8) (hC : C ≤ 16) (h1 : 1 ≤ c) (hc : c < 4) (hq : q < N) (hp : pY c = 1) (hk : cur c = nI K) (e8 : (∀ p, p < 5 → ¬ mem (C * 5 + p) = nI q) → post (-8) (nI N, nI C, fv, fs, fe, fa, mem, ups, fen, hld, ack, lnk, pay, car, pY, cur, tok, hY)) (h : (∃ p, p < 5 ∧ mem (C * 5 + p) = nI q) → wY_contact_90 post (nI c) (nI q) a 1 (nI K) (nI N) (nI C) fv fs fe fa mem ups fen hld ack lnk pay car pY cur tok hY) : wpY_contact post (nI N, nI C, fv, fs, fe, fa, mem, ups, fen, hld, ack, lnk, pay, car, pY, cur, tok, hY) (nI c) (nI q) a := by
  have hi : vp_in (nI c) 4 := vp_in_nI hc (by decide)
  refine br_f (ld_nlt1 h1 hc) (br_f (ld_nlt3 hc) (br_f (nI_pos (by omega)) (br_t (nI_lt hq (by omega)) (And.intro hi ?_))))
  rw [nI_clamp (n := c) (by omega), hp, hk]
  refine nm_e (And.intro hi (nm_e (br_f (by decide) (br_f (by decide) (br_t rfl ?_)))))
  refine ly_inCur hC (fun z => ?_) (fun z => ?_)
  · refine br_f (by decide) ?_
    unfold wY_contact_71
    exact br_t rfl (h z)
  · exact br_t rfl (e8 z)
theorem ly_ct2 {post : Int32 → SY → Prop} {N K c q : Nat} {a x4 : Int32} (hN : N ≤ 8) (hK : K < 16) (h1 : 1 ≤ c) (hc : c < 4) (hq : q < N) (hp : pY c = x4) (n0 : ¬ x4 = 0) (n4 : ¬ x4 = 4) (n1 : ¬ x4 = 1) (hk : cur c = nI K) (e8 : ¬ ld_Hm mem K (nI q) → post (-8) (nI N, fc, fv, fs, fe, fa, mem, ups, fen, hld, ack, lnk, pay, car, pY, cur, tok, hY)) (h : ld_Hm mem K (nI q) → wY_contact_90 post (nI c) (nI q) a x4 (nI K) (nI N) fc fv fs fe fa mem ups fen hld ack lnk pay car pY cur tok hY) : wpY_contact post (nI N, fc, fv, fs, fe, fa, mem, ups, fen, hld, ack, lnk, pay, car, pY, cur, tok, hY) (nI c) (nI q) a := by
  have hi : vp_in (nI c) 4 := vp_in_nI hc (by decide)
  refine br_f (ld_nlt1 h1 hc) (br_f (ld_nlt3 hc) (br_f (nI_pos (by omega)) (br_t (nI_lt hq (by omega)) (And.intro hi ?_))))
  rw [nI_clamp (n := c) (by omega), hp, hk]
  refine nm_e (And.intro hi (nm_e (br_f n0 (br_f n4 (br_f n1 ?_)))))
  unfold wY_contact_71
  refine br_f n1 ?_
  refine ly_isHome hK (fun z => ?_) (fun z => ?_)
  · exact br_f (by decide) (h z)
  · exact br_t rfl (e8 z)
theorem ly_90 {post : Int32 → SY → Prop} {K c q : Nat} {a x4 : Int32} (hq : q < 8) (hK : x4 = 3 → K < 16) (e5 : ups q = 0 → post (-5) (fn, fc, fv, fs, fe, fa, mem, ups, fen, hld, ack, lnk, pay, car, pY, cur, tok, hY)) (h3 : ¬ ups q = 0 → x4 = 3 → wY_contact_128 post (nI c) (nI q) a x4 (nI K) fn fc fv fs fe fa mem ups (upd fen q 1) (upd hld (q * 16 + K) 1) ack lnk pay car pY cur tok hY) (h : ¬ ups q = 0 → ¬ x4 = 3 → wY_contact_128 post (nI c) (nI q) a x4 (nI K) fn fc fv fs fe fa mem ups (upd fen q 1) hld ack lnk pay car pY cur tok hY) : wY_contact_90 post (nI c) (nI q) a x4 (nI K) fn fc fv fs fe fa mem ups fen hld ack lnk pay car pY cur tok hY := by
  have h8 : vp_in (nI q) 8 := vp_in_nI (by omega) (by decide)
  unfold wY_contact_90
  rw [nI_clamp (n := q) (by omega), ld_b1]
  refine And.intro h8 (br_c e5 (fun z => And.intro h8 (nm_e (br_c (fun y => ?_) (h z)))))
  refine And.intro (ld_in16 hq (hK y)) ?_
  rw [ld_cl16 hq (hK y)]
  exact nm_e (h3 z y)
theorem ly_128 {post : Int32 → SY → Prop} {K c q : Nat} {a x4 : Int32} (hc : c < 4) (hq : q < 8) (hK : x4 = 2 → K < 16) (e12 : a = 0 → post (-12) (fn, fc, fv, fs, fe, fa, mem, ups, fen, hld, ack, lnk, pay, car, pY, cur, tok, hY)) (h3 : ¬ a = 0 → x4 = 2 → ¬ hld (q * 16 + K) = 0 → post 3 (fn, fc, fv, fs, fe, fa, mem, ups, fen, hld, ack, lnk, pay, car, upd pY c 3, cur, tok, ld_clr hY c 8)) (h : ¬ a = 0 → (x4 = 2 → hld (q * 16 + K) = 0) → wY_contact_164 post (nI c) (nI q) x4 (nI K) fn fc fv fs fe fa mem ups fen hld ack lnk pay car pY cur tok hY) : wY_contact_128 post (nI c) (nI q) a x4 (nI K) fn fc fv fs fe fa mem ups fen hld ack lnk pay car pY cur tok hY := by
  unfold wY_contact_128
  refine br_c e12 (fun z => br_c (fun y => ?_) (fun y => h z (fun w => absurd w y)))
  refine And.intro (ld_in16 hq (hK y)) ?_
  rw [ld_cl16 hq (hK y)]
  refine br_c (fun w => h z (fun _ => w)) (fun w => ?_)
  refine ly_enter hc ?_
  exact h3 z y w
theorem ly_206 {post : Int32 → SY → Prop} {C K c : Nat} (hC : C ≤ 16) (hc : c < 4) (hM : ld_MV mem 8) (hK : K ≤ C) (hk : cur c = nI K) (hp : pY c = 1) (hn : ¬ ld_AS mem hY C c → post 1 (fn, nI C, fv, fs, fe, fa, mem, ups, fen, hld, ack, lnk, pay, car, pY, cur, tok, hY)) (h4 : ld_AS mem hY C c → K = C → post 4 (fn, nI C, fv, fs, fe, fa, mem, ups, fen, hld, ack, lnk, pay, car, upd pY c 4, cur, tok, ld_clr hY c 8)) (h2 : ld_AS mem hY C c → K ≠ C → post 2 (fn, nI C, fv, fs, fe, fa, mem, ups, fen, hld, ack, lnk, pay, car, upd pY c 2, cur, tok, ld_clr hY c 8)) : wY_contact_206 post (nI c) fn (nI C) fv fs fe fa mem ups fen hld ack lnk pay car pY cur tok hY := by
  have hi : vp_in (nI c) 4 := vp_in_nI hc (by decide)
  have ec : (nI c).toNatClampNeg = c := nI_clamp (by omega)
  unfold wY_contact_206
  rw [ec, hp, hk]
  refine ly_fenced hC hc hM (fun z => ?_) (fun z => ?_)
  · refine br_f (by decide) (And.intro hi ?_)
    by_cases y : K = C
    · refine br_t (by rw [y]) ?_
      unfold wY_contact_234
      refine ly_enter hc ?_
      refine And.intro hi ?_
      rw [ec, pk_us]
      exact h4 z y
    · refine br_f (fun w => y ((nI_eq (by omega) (by omega)).mp w)) ?_
      unfold wY_contact_234
      refine ly_enter hc ?_
      refine And.intro hi ?_
      rw [ec, pk_us]
      exact h2 z y
  · exact br_t rfl (And.intro hi (hn z))
theorem ly_164F {post : Int32 → SY → Prop} {C K K1 c q : Nat} (hC : C ≤ 16) (hc : c < 4) (hq : q < 8) (hM : ld_MV mem 8) (hL : ld_LC hld car C q (lac q)) (hk : cur c = nI K) (hK : K1 ≤ C) (hk1 : ld_cu lac cur q c c = nI K1) (hp : pY c = 1) (hn : ¬ ld_AS mem (upd hY (c * 8 + q) 1) C c → post 1 (fn, nI C, fv, fs, fe, fa, mem, ups, fen, hld, ack, lnk, pay, car, pY, ld_cu lac cur q c, tok, upd hY (c * 8 + q) 1)) (h4 : ld_AS mem (upd hY (c * 8 + q) 1) C c → K1 = C → post 4 (fn, nI C, fv, fs, fe, fa, mem, ups, fen, hld, ack, lnk, pay, car, upd pY c 4, ld_cu lac cur q c, tok, ld_clr (upd hY (c * 8 + q) 1) c 8)) (h2 : ld_AS mem (upd hY (c * 8 + q) 1) C c → K1 ≠ C → post 2 (fn, nI C, fv, fs, fe, fa, mem, ups, fen, hld, ack, lnk, pay, car, upd pY c 2, ld_cu lac cur q c, tok, ld_clr (upd hY (c * 8 + q) 1) c 8)) : wY_contact_164 post (nI c) (nI q) 1 (nI K) fn (nI C) fv fs fe fa mem ups fen hld ack lnk pay car pY cur tok hY := by
  have hi : vp_in (nI c) 4 := vp_in_nI hc (by decide)
  unfold wY_contact_164
  rw [ld_cl8 hc hq, ld_b1, nI_clamp (n := c) (by omega), ← hk]
  refine And.intro (ld_in8 hc hq) (nm_e (br_t rfl ?_))
  refine ly_lac hC hq hL ?_
  refine nm_e ?_
  by_cases z : lac q + 1 ≤ cur c
  · have e : ld_cu lac cur q c = cur := if_pos z
    rw [e] at hk1 hn h4 h2
    exact br_t z (ly_206 hC hc hM hK hk1 hp hn h4 h2)
  · have e : ld_cu lac cur q c = upd cur c (lac q + 1) := if_neg z
    rw [e] at hk1 hn h4 h2
    exact br_f z (And.intro hi (nm_e (ly_206 hC hc hM hK hk1 hp hn h4 h2)))
theorem ly_164R {post : Int32 → SY → Prop} {K c q : Nat} (hc : c < 4) (hq : q < 8) (hp : pY c = 2) (hn : ld_ct (fun i => upd hY (c * 8 + q) 1 (c * 8 + i)) 8 ≠ 2 → post 2 (fn, fc, fv, fs, fe, fa, mem, ups, fen, hld, ack, lnk, pay, car, pY, cur, tok, upd hY (c * 8 + q) 1)) (h4 : ld_ct (fun i => upd hY (c * 8 + q) 1 (c * 8 + i)) 8 = 2 → post 4 (fn, fc, fv, fs, fe, fa, mem, ups, fen, hld, ack, lnk, pay, car, upd pY c 4, cur, tok, ld_clr (upd hY (c * 8 + q) 1) c 8)) : wY_contact_164 post (nI c) (nI q) 2 (nI K) fn fc fv fs fe fa mem ups fen hld ack lnk pay car pY cur tok hY := by
  have hi : vp_in (nI c) 4 := vp_in_nI hc (by decide)
  have ec : (nI c).toNatClampNeg = c := nI_clamp (by omega)
  have hb := ld_ct_le (fun i => upd hY (c * 8 + q) 1 (c * 8 + i)) 8
  unfold wY_contact_164
  rw [ld_cl8 hc hq, ld_b1, ec]
  refine And.intro (ld_in8 hc hq) (nm_e (br_f (by decide) ?_))
  refine ly_hc hc ?_
  refine pk_eq _ 2 (fun z => br_f (by decide) ?_) (fun z => And.intro hi ?_)
  · unfold wY_contact_265
    refine br_t rfl ?_
    unfold wY_contact_286 wY_contact_291
    refine ly_enter hc ?_
    refine And.intro hi ?_
    rw [ec, pk_us]
    exact h4 z
  · rw [hp]
    exact hn z
theorem ly_164W {post : Int32 → SY → Prop} {C K c q : Nat} (hC : C ≤ 16) (hK : K < C) (hc : c < 4) (hq : q < 8) (hp : pY c = 3) (hn : ld_ct (fun i => upd hY (c * 8 + q) 1 (c * 8 + i)) 8 ≠ 2 → post 3 (fn, nI C, fv, fs, fe, fa, mem, ups, fen, hld, ack, lnk, pay, car, pY, cur, tok, upd hY (c * 8 + q) 1)) (h4 : ld_ct (fun i => upd hY (c * 8 + q) 1 (c * 8 + i)) 8 = 2 → K + 1 = C → post 4 (fn, nI C, fv, fs, fe, fa, mem, ups, fen, hld, ack, lnk, pay, car, upd pY c 4, upd cur c (nI (K + 1)), tok, ld_clr (upd hY (c * 8 + q) 1) c 8)) (h2 : ld_ct (fun i => upd hY (c * 8 + q) 1 (c * 8 + i)) 8 = 2 → K + 1 ≠ C → post 2 (fn, nI C, fv, fs, fe, fa, mem, ups, fen, hld, ack, lnk, pay, car, upd pY c 2, upd cur c (nI (K + 1)), tok, ld_clr (upd hY (c * 8 + q) 1) c 8)) : wY_contact_164 post (nI c) (nI q) 3 (nI K) fn (nI C) fv fs fe fa mem ups fen hld ack lnk pay car pY cur tok hY := by
  have hi : vp_in (nI c) 4 := vp_in_nI hc (by decide)
  have ec : (nI c).toNatClampNeg = c := nI_clamp (by omega)
  have hb := ld_ct_le (fun i => upd hY (c * 8 + q) 1 (c * 8 + i)) 8
  unfold wY_contact_164
  rw [ld_cl8 hc hq, ld_b1, ec, nI_1 K]
  refine And.intro (ld_in8 hc hq) (nm_e (br_f (by decide) ?_))
  refine ly_hc hc ?_
  refine pk_eq _ 2 (fun z => br_t rfl (And.intro hi (nm_e ?_))) (fun z => And.intro hi ?_)
  · unfold wY_contact_265
    rw [ec, pk_us]
    refine br_f (by decide) (And.intro hi ?_)
    by_cases y : K + 1 = C
    · refine br_t (by rw [y]) ?_
      unfold wY_contact_286 wY_contact_291
      refine ly_enter hc ?_
      refine And.intro hi ?_
      rw [ec, pk_us]
      exact h4 z y
    · refine br_f (fun w => y ((nI_eq (by omega) (by omega)).mp w)) ?_
      unfold wY_contact_291
      refine ly_enter hc ?_
      refine And.intro hi ?_
      rw [ec, pk_us]
      exact h2 z y
  · rw [hp]
    exact hn z
end
end
section
/-! contact -/
/-- a client that has heard q and stays in its phase -/
theorem ld_Rst {N C A F : Nat} {fw : Int32} {mem lac hld lnk ack car phs cur hrd pY hY cur' : Nat → Int32} {c q P K : Nat} (h : ld_RR N C A F fw mem lac hld lnk ack car phs cur hrd pY hY) (h1 : 1 ≤ c) (hc : c < 4) (hq : q < N) (hP : P ≤ 4) (hp : phs c = nI P) (hK : K ≤ C) (ec : cur' c = nI K) (en : ∀ j, j ≠ c → cur' j = cur j) (h23 : (P = 2 ∨ P = 3) → K < C ∧ ld_ct (fun i => upd hY (c * 8 + q) 1 (c * 8 + i)) 8 ≤ 1) (h3 : P = 3 → K < A) : ld_RR N C A F fw mem lac hld lnk ack car phs cur' (upd hrd c (ld_h1 hY c q)) pY (upd hY (c * 8 + q) 1) := by
  have h' := h
  obtain ⟨hS, hM, hZ, hF, hL, hR, hW, hC⟩ := h'
  obtain ⟨ep, hh, hb0, _⟩ := hC c h1 hc
  refine ld_Rc h h1 (fun _ _ => rfl) en (fun j hj => pk_un hj) (fun _ _ => rfl) (fun d hd i hi => pk_un (by omega)) ?_
  refine ⟨ep, pk_us, fun i a b => ?_, P, K, hP, hK, hp, ec, h23, h3⟩
  show upd hY (c * 8 + q) 1 (c * 8 + i) = 0
  rw [pk_un (by omega)]
  exact hb0 i a b
theorem i_vc_contact {k : Nat} {u : SX} {v : SY} (I : i_Rel k u v) (hk : k + 4 ≤ 2050) (v1 : Int32) (v2 : Int32) (v3 : Int32) : wpX_contact (fun r u' => wpY_contact (fun r' v' => r' = r ∧ i_Rel (k + 4) u' v') v v1 v2 (lw_bz v3)) u v1 v2 (lw_bz v3) := by
  generalize lw_bz v3 = a
  refine ld_el (P := fun u v => wpX_contact (fun r u' => wpY_contact (fun r' v' => r' = r ∧ i_Rel (k + 4) u' v') v v1 v2 a) u v1 v2 a) ?_ I
  intro N C A F fv fs fe fw mem ups fen lac hld lnk ack pay car phs cur hrd tok pY hY h
  have h' := h
  obtain ⟨hS, hM, hZ, hF, hL, hR, hW, hC⟩ := h'
  have hN8 : N ≤ 8 := by omega
  have hC16 : C ≤ 16 := by omega
  have hM8 := ld_MV8 hM hN8
  rcases ld_tri3 v1 with hb | hb | ⟨c, h1, h4, rfl⟩
  · unfold wpX_contact
    try dsimp only
    refine lx_isRec0 (Or.inl hb) ?_
    refine br_t rfl ?_
    exact br_t hb ⟨rfl, ld_mk _ h⟩
  · have g := ld_ge1 hb
    unfold wpX_contact
    try dsimp only
    refine lx_isRec0 (Or.inr hb) ?_
    refine br_t rfl ?_
    exact br_f g.2.2.2 (br_t hb ⟨rfl, ld_mk _ h⟩)
  · rcases ld_tri v2 (N := N) (by omega) with hb | ⟨q, hq, rfl⟩
    · unfold wpX_contact
      try dsimp only
      refine lx_isRec1 h1 h4 ?_
      refine br_f (by decide) ?_
      refine lx_isNode0 hb ?_
      refine br_t rfl ?_
      refine br_f (ld_nlt1 h1 h4) (br_f (ld_nlt3 h4) ?_)
      by_cases z : v2 < 0
      · exact br_t z ⟨rfl, ld_mk _ h⟩
      · exact br_f z (br_f (Int32.not_lt.mpr (hb.resolve_left z)) ⟨rfl, ld_mk _ h⟩)
    · obtain ⟨ep, hh, hb0, P, K, hP, hK, hp, hcu, h23, h3⟩ := hC c h1 h4
      have hq8 : q < 8 := by omega
      have hct : ld_ct (fun i => upd hY (c * 8 + q) 1 (c * 8 + i)) 8 ≤ ld_ct (fun i => hY (c * 8 + i)) 8 + 1 := by
        rw [ld_bq]
        have t := ld_ct_upd (f := fun i => hY (c * 8 + i)) (q := q) (x := 1) 8
        rw [if_pos hq8] at t
        exact t
      have hPs : P = 0 ∨ P = 1 ∨ P = 2 ∨ P = 3 ∨ P = 4 := by omega
      rcases hPs with rfl | rfl | rfl | rfl | rfl
      · refine lx_ct_idle hN8 h1 h4 hq (Or.inl hp) ?_
        refine ly_ct_idle hN8 h1 h4 hq (Or.inl (ep.trans hp)) ?_
        exact ⟨rfl, ld_mk _ h⟩
      · have hp1 : phs c = 1 := hp
        have hpY : pY c = 1 := ep.trans hp
        obtain ⟨j, hj, ej⟩ := ld_Rlac h hq
        obtain ⟨K1, hK1, ek1⟩ := ld_cu_c (lac := lac) (cur := cur) (q := q) (c := c) (C := C) (by omega) hK ej hcu
        refine lx_ct (T := ∃ p, p < 5 ∧ mem (C * 5 + p) = nI q) hN8 hC16 h1 h4 hq (by rw [hp1]; decide) (by rw [hp1]; decide) hcu (fun z => by rw [hp1] at z; exact absurd z (by decide)) (fun Q t0 t1 => lx_tgt1 hC16 h4 hp1 t0 (fun w => t1 (fun ⟨p, x, y⟩ => w p x y))) (fun t => ?_) (fun t z => ?_) (fun _ _ z => by rw [hp1] at z; exact absurd z (by decide)) (fun t z _ => ?_)
        · refine ly_ct1 hN8 hC16 h1 h4 hq hpY hcu (fun _ => ?_) (fun w => absurd w t)
          exact ⟨rfl, ld_mk _ h⟩
        · refine ly_ct1 hN8 hC16 h1 h4 hq hpY hcu (fun w => ?_) (fun _ => ?_)
          · obtain ⟨p, x, y⟩ := t
            exact absurd y (w p x)
          · refine ly_90 hq8 (fun w => absurd w (by decide)) (fun _ => ?_) (fun w => absurd z w) (fun w => absurd z w)
            exact ⟨rfl, ld_mk _ h⟩
        · have YP : ∀ post : Int32 → SY → Prop, wY_contact_128 post (nI c) (nI q) a 1 (nI K) (nI N) (nI C) fv fs fe (nI A) mem ups (upd fen q 1) hld ack lnk pay car pY cur tok hY → wpY_contact post (nI N, nI C, fv, fs, fe, nI A, mem, ups, fen, hld, ack, lnk, pay, car, pY, cur, tok, hY) (nI c) (nI q) a := by
            intro post hh2
            refine ly_ct1 hN8 hC16 h1 h4 hq hpY hcu (fun w => ?_) (fun _ => ?_)
            · obtain ⟨p, x, y⟩ := t
              exact absurd y (w p x)
            · exact ly_90 hq8 (fun w => absurd w (by decide)) (fun w => absurd w z) (fun _ w => absurd w (by decide)) (fun _ _ => hh2)
          refine lx_c1 hC16 h4 hq8 hM8 hp1 hh hK1 ek1 (fun w => ?_) (fun w x => ?_) (fun w x y => ?_) (fun w x y => ?_)
          · refine YP _ (ly_128 h4 hq8 (fun w => absurd w (by decide)) (fun _ => ?_) (fun g => absurd w g) (fun g => absurd w g))
            exact ⟨rfl, ld_mk _ h⟩
          · refine YP _ (ly_128 h4 hq8 (fun w => absurd w (by decide)) (fun g => absurd g w) (fun _ g => absurd g (by decide)) (fun _ _ => ?_))
            refine ly_164F hC16 h4 hq8 hM8 (hL q hq) hcu hK1 ek1 hpY (fun _ => ?_) (fun g => absurd g x) (fun g => absurd g x)
            exact ⟨rfl, ld_mk _ (ld_Rst h h1 h4 hq hP hp hK1 ek1 (fun j hj => ld_cu_n hj) (fun g => absurd g (by decide)) (fun g => absurd g (by decide)))⟩
          · refine YP _ (ly_128 h4 hq8 (fun w => absurd w (by decide)) (fun g => absurd g w) (fun _ g => absurd g (by decide)) (fun _ _ => ?_))
            refine ly_164F hC16 h4 hq8 hM8 (hL q hq) hcu hK1 ek1 hpY (fun g => absurd x g) (fun _ _ => ?_) (fun _ g => absurd y g)
            exact ⟨rfl, ld_mk _ (ld_Ren (P := 4) (K := K1) h h1 (by omega) hK1 (by omega) (by omega) ek1 (fun j hj => ld_cu_n hj) (fun j hj => pk_un hj) (fun d hd i hi => pk_un (by omega)))⟩
          · refine YP _ (ly_128 h4 hq8 (fun w => absurd w (by decide)) (fun g => absurd g w) (fun _ g => absurd g (by decide)) (fun _ _ => ?_))
            refine ly_164F hC16 h4 hq8 hM8 (hL q hq) hcu hK1 ek1 hpY (fun g => absurd x g) (fun _ g => absurd g y) (fun _ _ => ?_)
            exact ⟨rfl, ld_mk _ (ld_Ren (P := 2) (K := K1) h h1 (by omega) hK1 (by omega) (by omega) ek1 (fun j hj => ld_cu_n hj) (fun j hj => pk_un hj) (fun d hd i hi => pk_un (by omega)))⟩
      · have hp2 : phs c = 2 := hp
        have hpY : pY c = 2 := ep.trans hp
        obtain ⟨hKC, hc1⟩ := h23 (Or.inl rfl)
        refine lx_ct (T := ld_Hm mem K (nI q)) hN8 hC16 h1 h4 hq (by rw [hp2]; decide) (by rw [hp2]; decide) hcu (fun z => by rw [hp2] at z; exact absurd z (by decide)) (fun Q t0 t1 => lx_tgt2 hC16 hKC h4 (by rw [hp2]; decide) hcu t0 t1) (fun t => ?_) (fun t z => ?_) (fun _ _ z => by rw [hp2] at z; exact absurd z (by decide)) (fun t z _ => ?_)
        · refine ly_ct2 hN8 (by omega) h1 h4 hq hpY (by decide) (by decide) (by decide) hcu (fun _ => ?_) (fun w => absurd w t)
          exact ⟨rfl, ld_mk _ h⟩
        · refine ly_ct2 hN8 (by omega) h1 h4 hq hpY (by decide) (by decide) (by decide) hcu (fun w => absurd t w) (fun _ => ?_)
          refine ly_90 hq8 (fun w => absurd w (by decide)) (fun _ => ?_) (fun w => absurd z w) (fun w => absurd z w)
          exact ⟨rfl, ld_mk _ h⟩
        · have YP : ∀ post : Int32 → SY → Prop, wY_contact_128 post (nI c) (nI q) a 2 (nI K) (nI N) (nI C) fv fs fe (nI A) mem ups (upd fen q 1) hld ack lnk pay car pY cur tok hY → wpY_contact post (nI N, nI C, fv, fs, fe, nI A, mem, ups, fen, hld, ack, lnk, pay, car, pY, cur, tok, hY) (nI c) (nI q) a := by
            intro post hh2
            refine ly_ct2 hN8 (by omega) h1 h4 hq hpY (by decide) (by decide) (by decide) hcu (fun w => absurd t w) (fun _ => ?_)
            exact ly_90 hq8 (fun w => absurd w (by decide)) (fun w => absurd w z) (fun _ w => absurd w (by decide)) (fun _ _ => hh2)
          refine lx_c2 hC16 h4 hq8 hp2 hh hKC hcu (fun w => ?_) (fun w x => ?_) (fun w x y => ?_) (fun w x y => ?_)
          · refine YP _ (ly_128 h4 hq8 (fun _ => by omega) (fun _ => ?_) (fun g => absurd w g) (fun g => absurd w g))
            exact ⟨rfl, ld_mk _ h⟩
          · refine YP _ (ly_128 h4 hq8 (fun _ => by omega) (fun g => absurd g w) (fun _ _ _ => ?_) (fun _ g => absurd (g rfl) x))
            have hKA : K < A := ld_Zlt hZ.1 hq8 (by omega) x
            exact ⟨rfl, ld_mk _ (ld_Ren (P := 3) (K := K) h h1 (by omega) hK (fun _ => hKC) (fun _ => hKA) hcu (fun _ _ => rfl) (fun _ _ => rfl) (fun _ _ _ _ => rfl))⟩
          · refine YP _ (ly_128 h4 hq8 (fun _ => by omega) (fun g => absurd g w) (fun _ _ g => absurd x g) (fun _ _ => ?_))
            refine ly_164R h4 hq8 hpY (fun _ => ?_) (fun g => by omega)
            exact ⟨rfl, ld_mk _ (ld_Rst h h1 h4 hq hP hp hK hcu (fun _ _ => rfl) (fun _ => ⟨hKC, by omega⟩) (fun g => absurd g (by decide)))⟩
          · refine YP _ (ly_128 h4 hq8 (fun _ => by omega) (fun g => absurd g w) (fun _ _ g => absurd x g) (fun _ _ => ?_))
            refine ly_164R h4 hq8 hpY (fun g => by omega) (fun _ => ?_)
            exact ⟨rfl, ld_mk _ (ld_Ren (P := 4) (K := K) h h1 (by omega) hK (by omega) (by omega) hcu (fun _ _ => rfl) (fun j hj => pk_un hj) (fun d hd i hi => pk_un (by omega)))⟩
      · have hp3 : phs c = 3 := hp
        have hpY : pY c = 3 := ep.trans hp
        obtain ⟨hKC, hc1⟩ := h23 (Or.inr rfl)
        have hKA := h3 rfl
        have hs := ld_Rs h hq hKA
        refine lx_ct (T := ld_Hm mem K (nI q)) hN8 hC16 h1 h4 hq (by rw [hp3]; decide) (by rw [hp3]; decide) hcu (fun _ => hKC) (fun Q t0 t1 => lx_tgt2 hC16 hKC h4 (by rw [hp3]; decide) hcu t0 t1) (fun t => ?_) (fun t z => ?_) (fun t z _ => ?_) (fun _ _ z => absurd hp3 z)
        · refine ly_ct2 hN8 (by omega) h1 h4 hq hpY (by decide) (by decide) (by decide) hcu (fun _ => ?_) (fun w => absurd w t)
          exact ⟨rfl, ld_mk _ h⟩
        · refine ly_ct2 hN8 (by omega) h1 h4 hq hpY (by decide) (by decide) (by decide) hcu (fun w => absurd t w) (fun _ => ?_)
          refine ly_90 hq8 (fun _ => by omega) (fun _ => ?_) (fun w => absurd z w) (fun w => absurd z w)
          exact ⟨rfl, ld_mk _ h⟩
        · have YP : ∀ post : Int32 → SY → Prop, wY_contact_128 post (nI c) (nI q) a 3 (nI K) (nI N) (nI C) fv fs fe (nI A) mem ups (upd fen q 1) (upd hld (q * 16 + K) 1) ack lnk pay car pY cur tok hY → wpY_contact post (nI N, nI C, fv, fs, fe, nI A, mem, ups, fen, hld, ack, lnk, pay, car, pY, cur, tok, hY) (nI c) (nI q) a := by
            intro post hh2
            refine ly_ct2 hN8 (by omega) h1 h4 hq hpY (by decide) (by decide) (by decide) hcu (fun w => absurd t w) (fun _ => ?_)
            exact ly_90 hq8 (fun _ => by omega) (fun w => absurd w z) (fun _ _ => hh2) (fun _ w => absurd rfl w)
          refine lx_c3 hC16 h4 hq8 hp3 hh hKC hcu (fun w => ?_) (fun w x => ?_) (fun w x y => ?_) (fun w x y => ?_)
          · refine YP _ (ly_128 h4 hq8 (fun w => absurd w (by decide)) (fun _ => ?_) (fun g => absurd w g) (fun g => absurd w g))
            exact ⟨rfl, ld_mk _ hs⟩
          · refine YP _ (ly_128 h4 hq8 (fun w => absurd w (by decide)) (fun g => absurd g w) (fun _ g => absurd g (by decide)) (fun _ _ => ?_))
            refine ly_164W hC16 hKC h4 hq8 hpY (fun _ => ?_) (fun g => by omega) (fun g => by omega)
            exact ⟨rfl, ld_mk _ (ld_Rst hs h1 h4 hq hP hp hK hcu (fun _ _ => rfl) (fun _ => ⟨hKC, by omega⟩) (fun _ => hKA))⟩
          · refine YP _ (ly_128 h4 hq8 (fun w => absurd w (by decide)) (fun g => absurd g w) (fun _ g => absurd g (by decide)) (fun _ _ => ?_))
            refine ly_164W hC16 hKC h4 hq8 hpY (fun g => by omega) (fun _ _ => ?_) (fun _ g => absurd y g)
            exact ⟨rfl, ld_mk _ (ld_Ren (P := 4) (K := K + 1) hs h1 (by omega) (by omega) (by omega) (by omega) pk_us (fun j hj => pk_un hj) (fun j hj => pk_un hj) (fun d hd i hi => pk_un (by omega)))⟩
          · refine YP _ (ly_128 h4 hq8 (fun w => absurd w (by decide)) (fun g => absurd g w) (fun _ g => absurd g (by decide)) (fun _ _ => ?_))
            refine ly_164W hC16 hKC h4 hq8 hpY (fun g => by omega) (fun _ g => absurd g y) (fun _ _ => ?_)
            exact ⟨rfl, ld_mk _ (ld_Ren (P := 2) (K := K + 1) hs h1 (by omega) (by omega) (by omega) (by omega) pk_us (fun j hj => pk_un hj) (fun j hj => pk_un hj) (fun d hd i hi => pk_un (by omega)))⟩
      · refine lx_ct_idle hN8 h1 h4 hq (Or.inr hp) ?_
        refine ly_ct_idle hN8 h1 h4 hq (Or.inr (ep.trans hp)) ?_
        exact ⟨rfl, ld_mk _ h⟩
end
