section
/-! ===== pure numbers: rows of letters, slices, the law's shifts ===== -/
/-- a row of k letters -/
def zt_R (k n : Nat) : Prop := 8 ^ k ≤ n ∧ n < 2 * 8 ^ k
theorem zt_pw {a b : Nat} (h : a ≤ b) : 8 ^ a ≤ 8 ^ b := Nat.pow_le_pow_right (by decide) h
theorem zt_pb {k : Nat} (h : k ≤ 7) : 8 ^ k ≤ 2097152 := by
  have := zt_pw h
  have e : (8 : Nat) ^ 7 = 2097152 := by decide
  omega
theorem zt_top {k n : Nat} (hk : k ≤ 6) (h : zt_R k n) : n < 524288 := by
  have h1 := zt_pw hk
  have h2 := h.2
  have e : (8 : Nat) ^ 6 = 262144 := by decide
  omega
theorem zt_ps (k : Nat) : (8 : Nat) ^ (k + 1) = 8 ^ k * 8 := Nat.pow_succ 8 k
theorem zt_pos (k : Nat) : 0 < (8 : Nat) ^ k := Nat.pow_pos (by decide)
theorem zt_hi {k n : Nat} (h : zt_R k n) : n < 8 ^ (k + 1) := by
  have h2 := h.2
  have e := zt_ps k
  have p := zt_pos k
  omega
theorem zt_uniq2 {k k' n : Nat} (h1 : 8 ^ k ≤ n) (h2 : n < 8 ^ (k + 1)) (h' : zt_R k' n) : k = k' := by
  have g := zt_hi h'
  have g1 := h'.1
  rcases Nat.lt_trichotomy k k' with a | a | a
  · have := zt_pw (show k + 1 ≤ k' from a)
    omega
  · exact a
  · have := zt_pw (show k' + 1 ≤ k from a)
    omega
theorem zt_uniq {k k' n : Nat} (h : zt_R k n) (h' : zt_R k' n) : k = k' := zt_uniq2 h.1 (zt_hi h) h'
theorem zt_sizes (n : Nat) : ∃ k, k ≤ 7 ∧ (k = 0 ∨ 8 ^ k ≤ n) ∧ (k = 7 ∨ n < 8 ^ (k + 1)) := by
  by_cases h0 : n < 8
  · exact ⟨0, by omega, Or.inl rfl, Or.inr h0⟩
  by_cases h1 : n < 64
  · exact ⟨1, by omega, Or.inr (show 8 ≤ n by omega), Or.inr h1⟩
  by_cases h2 : n < 512
  · exact ⟨2, by omega, Or.inr (show 64 ≤ n by omega), Or.inr h2⟩
  by_cases h3 : n < 4096
  · exact ⟨3, by omega, Or.inr (show 512 ≤ n by omega), Or.inr h3⟩
  by_cases h4 : n < 32768
  · exact ⟨4, by omega, Or.inr (show 4096 ≤ n by omega), Or.inr h4⟩
  by_cases h5 : n < 262144
  · exact ⟨5, by omega, Or.inr (show 32768 ≤ n by omega), Or.inr h5⟩
  by_cases h6 : n < 2097152
  · exact ⟨6, by omega, Or.inr (show 262144 ≤ n by omega), Or.inr h6⟩
  · exact ⟨7, by omega, Or.inr (show 2097152 ≤ n by omega), Or.inl rfl⟩
theorem zt_1s : ∀ k, k < 7 → (1 : Int32) <<< (((3 * nI k) + 3) &&& 31) = nI (8 ^ (k + 1)) := by decide +kernel
theorem zt_1k : ∀ k, k < 7 → (1 : Int32) <<< ((3 * nI k) &&& 31) = nI (8 ^ k) := by decide +kernel
theorem zt_2k : ∀ k, k < 7 → (2 : Int32) <<< ((3 * nI k) &&& 31) = nI (2 * 8 ^ k) := by decide +kernel
theorem zt_s3 : ∀ e, e < 9 → (((3 * nI e) &&& 31).toBitVec.smod 32).toNat = 3 * e := by decide +kernel
theorem zt_shr {n e : Nat} (hn : n < 2 ^ 31) (he : e < 9) : nI n >>> ((3 * nI e) &&& 31) = nI (n / 8 ^ e) := by
  rw [pk_shrN hn _ (3 * e) (zt_s3 e he), Nat.pow_mul]
theorem zt_lay : ∀ k, k < 8 → (nI k + 1) >>> ((1 : Int32) &&& 31) = nI ((k + 1) / 2) := by decide +kernel
theorem zt_i1 : ∀ k, k < 7 → ∀ l, l < 3 → 2 * l < k → (nI k - 1) - (2 * nI l) = nI (k - 1 - 2 * l) := by decide +kernel
theorem zt_i2 : ∀ k, k < 7 → ∀ l, l < 3 → 2 * l + 1 < k → (nI k - 2) - (2 * nI l) = nI (k - 2 - 2 * l) := by decide +kernel
theorem zt_i3 (l : Nat) : 2 * nI l + 1 = nI (2 * l + 1) := by
  rw [← nI_1, ← pk_mul]
  rfl
theorem zt_ne {b : Nat} (h : b < 2 ^ 31) : ¬ nI b = -1 := fun e => nI_pos h (by rw [e]; decide)
/-- slice i of a word n of k letters -/
def zt_sl (k n i : Nat) : Nat := if 2 * i + 1 < k then 9 * (n / 8 ^ (k - 1 - 2 * i) % 8 + 1) + n / 8 ^ (k - 2 - 2 * i) % 8 + 1 else 9 * (n / 8 ^ (k - 1 - 2 * i) % 8 + 1)
theorem zt_sl_lt (k n i : Nat) : zt_sl k n i < 82 ∧ 9 ≤ zt_sl k n i := by
  unfold zt_sl
  split <;> omega
/-- one step of wordOf -/
def zt_st (q s : Nat) : Nat := if s % 9 ≤ 0 then 8 * q + s / 9 - 1 else 8 * (8 * q + s / 9 - 1) + s % 9 - 1
theorem zt_d8 (n e : Nat) : 8 * (n / 8 ^ (e + 1)) + n / 8 ^ e % 8 = n / 8 ^ e := by
  rw [zt_ps, ← Nat.div_div_eq_div_mul]
  omega
theorem zt_step {k n i : Nat} (hi : 2 * i < k) : zt_st (n / 8 ^ (k - 2 * i)) (zt_sl k n i) = n / 8 ^ (k - 2 * (i + 1)) := by
  unfold zt_sl
  by_cases h : 2 * i + 1 < k
  · rw [if_pos h]
    have e1 : k - 2 * i = k - 1 - 2 * i + 1 := by omega
    have e2 : k - 1 - 2 * i = k - 2 - 2 * i + 1 := by omega
    have e3 : k - 2 * (i + 1) = k - 2 - 2 * i := by omega
    have d1 := zt_d8 n (k - 1 - 2 * i)
    have d2 := zt_d8 n (k - 2 - 2 * i)
    rw [← e1] at d1
    rw [← e2] at d2
    rw [e3]
    generalize n / 8 ^ (k - 2 * i) = A at *
    generalize n / 8 ^ (k - 1 - 2 * i) = B at *
    generalize n / 8 ^ (k - 2 - 2 * i) = C at *
    unfold zt_st
    rw [if_neg (by omega)]
    omega
  · rw [if_neg h]
    have e1 : k - 2 * i = k - 1 - 2 * i + 1 := by omega
    have e3 : k - 2 * (i + 1) = k - 1 - 2 * i := by omega
    have d1 := zt_d8 n (k - 1 - 2 * i)
    rw [← e1] at d1
    rw [e3]
    generalize n / 8 ^ (k - 2 * i) = A at *
    generalize n / 8 ^ (k - 1 - 2 * i) = B at *
    unfold zt_st
    rw [if_pos (by omega)]
    omega
theorem zt_q0 {k n : Nat} (h : zt_R k n) : n / 8 ^ (k - 2 * 0) = 1 := by
  have h1 := h.1
  have h2 := h.2
  have p := zt_pos k
  show n / 8 ^ k = 1
  rw [Nat.div_eq_iff p]
  omega
theorem zt_qe {k n l : Nat} (h : k ≤ 2 * l) : n / 8 ^ (k - 2 * l) = n := by
  rw [show k - 2 * l = 0 by omega]
  exact Nat.div_one n
/-- the same slices: the same word -/
theorem zt_inj {k n t m : Nat} (h : zt_R k n) (h' : zt_R t m) (he : (t + 1) / 2 = (k + 1) / 2) (hs : ∀ i, i < (k + 1) / 2 → zt_sl t m i = zt_sl k n i) : m = n := by
  have key : ∀ i, i ≤ (k + 1) / 2 → m / 8 ^ (t - 2 * i) = n / 8 ^ (k - 2 * i) := by
    intro i
    induction i with
    | zero => intro _; rw [zt_q0 h, zt_q0 h']
    | succ i ih =>
      intro hi
      rw [← zt_step (show 2 * i < k by omega), ← zt_step (show 2 * i < t by omega), ih (by omega), hs i (by omega)]
  have := key ((k + 1) / 2) (Nat.le_refl _)
  rwa [zt_qe (by omega), zt_qe (by omega)] at this
/-! the law's six shifts -/
def zt_beg (j m k n : Nat) : Prop := j ≤ k ∧ n / 8 ^ (k - j) = m
def zt_up (m x : Nat) : Nat := if x = m then x else if x < 8 * m then x else x / 8
theorem zt_up_le (m x : Nat) : zt_up m x ≤ x := by
  unfold zt_up
  split
  · exact Nat.le_refl _
  · split
    · exact Nat.le_refl _
    · exact Nat.div_le_self _ _
def zt_ups (m : Nat) : Nat → Nat → Nat
  | 0, x => x
  | f + 1, x => zt_ups m f (zt_up m x)
theorem zt_ups_fix {m x : Nat} (h : zt_up m x = x) : ∀ f, zt_ups m f x = x
  | 0 => rfl
  | f + 1 => by
    show zt_ups m f (zt_up m x) = x
    rw [h]
    exact zt_ups_fix h f
theorem zt_ups_iff {j m : Nat} (hm : zt_R j m) : ∀ f s x, zt_R s x → j ≤ s → s - j ≤ f → (zt_ups m f x = m ↔ x / 8 ^ (s - j) = m) := by
  intro f
  induction f with
  | zero =>
    intro s x hx hj hf
    rw [show s - j = 0 by omega]
    show x = m ↔ x / 1 = m
    rw [Nat.div_one]
  | succ f ih =>
    intro s x hx hj hf
    by_cases e : x = m
    · have es : s = j := zt_uniq hx (e ▸ hm)
      rw [zt_ups_fix (show zt_up m x = x by unfold zt_up; rw [if_pos e]), show s - j = 0 by omega]
      show x = m ↔ x / 1 = m
      rw [Nat.div_one]
    · by_cases l : x < 8 * m
      · rw [zt_ups_fix (show zt_up m x = x by unfold zt_up; rw [if_neg e, if_pos l])]
        refine ⟨fun z => absurd z e, fun z => ?_⟩
        exfalso
        by_cases es : s = j
        · rw [show s - j = 0 by omega] at z
          exact e ((Nat.div_one x).symm.trans z)
        · rw [show s - j = (s - j - 1) + 1 by omega, Nat.pow_succ', ← Nat.div_div_eq_div_mul] at z
          have : x / 8 / 8 ^ (s - j - 1) ≤ x / 8 := Nat.div_le_self _ _
          omega
      · have h1 := hx.1
        have h2 := hx.2
        have g1 := hm.1
        have g2 := hm.2
        have es : j + 1 ≤ s := by
          rcases Nat.lt_or_ge j s with a | a
          · exact a
          · have := zt_pw a
            omega
        have e8 : (8 : Nat) ^ s = 8 ^ (s - 1) * 8 := by
          rw [← zt_ps, show s - 1 + 1 = s by omega]
        have hr : zt_R (s - 1) (x / 8) := ⟨by omega, by omega⟩
        show zt_ups m f (zt_up m x) = m ↔ _
        rw [show zt_up m x = x / 8 by unfold zt_up; rw [if_neg e, if_neg l], ih (s - 1) (x / 8) hr (by omega) (by omega)]
        rw [show s - j = (s - 1 - j) + 1 by omega, Nat.pow_succ', ← Nat.div_div_eq_div_mul]
theorem zt_up6 {j m k n : Nat} (hj : j ≤ 6) (hk : k ≤ 6) (hm : zt_R j m) (hn : zt_R k n) (hle : m ≤ n) : zt_ups m 6 n = m ↔ zt_beg j m k n := by
  have hjk : j ≤ k := by
    rcases Nat.lt_or_ge k j with a | a
    · have := zt_pw (show k + 1 ≤ j from a)
      have := zt_hi hn
      have := hm.1
      omega
    · exact a
  rw [zt_ups_iff hm 6 k n hn hjk (by omega)]
  exact ⟨fun z => ⟨hjk, z⟩, fun z => z.2⟩
theorem zt_gt {j m k n : Nat} (hlt : n < m) : ¬ zt_beg j m k n := fun z => by
  have := Nat.div_le_self n (8 ^ (k - j))
  have := z.2
  omega
end
section
/-! ===== the static methods ===== -/
theorem zt_p31 {k : Nat} (h : k ≤ 6) : 8 ^ k < 2 ^ 31 ∧ 2 * 8 ^ k < 2 ^ 31 := by
  have := zt_pb (show k ≤ 7 by omega)
  exact ⟨by omega, by omega⟩
def zt_row (x : Int32) : Prop := ∃ k n, k ≤ 6 ∧ zt_R k n ∧ x = nI n
def zt_word (x : Int32) : Prop := ∃ k n, 1 ≤ k ∧ k ≤ 6 ∧ zt_R k n ∧ x = nI n
theorem zt_sz {post : Int32 → Prop} {n k : Nat} (hn : n < 2 ^ 31) (hk : k ≤ 7) (hlo : k = 0 ∨ 8 ^ k ≤ n) (hhi : k = 7 ∨ n < 8 ^ (k + 1)) (hp : post (nI k)) : wpX_sizeOf post () (nI n) :=
  pk_loop (σ := Unit) (fun f i _ => wX_sizeOf_2 post (nI n) f (nI i)) (fun _ _ => True) k 0 () (by omega) trivial
    (fun f _ _ => pk_le 7 k (fun _ => hp) (fun z => br_t (by
      rw [zt_1s k z]
      refine nI_lt ?_ (Nat.lt_of_le_of_lt (zt_pb (show k + 1 ≤ 7 by omega)) (by decide))
      rcases hhi with a | a
      · omega
      · exact a) hp))
    (fun f i _ hi _ hw => pk_le 7 i (fun z => absurd z (by omega)) (fun z => br_f (by
      rw [zt_1s i z]
      refine nI_nlt (Nat.le_trans (zt_pw (show i + 1 ≤ k from hi)) ?_) hn
      rcases hlo with a | a
      · omega
      · exact a) (nm_r (nI_1 i) (hw () trivial))))
theorem zt_szneg {post : Int32 → Prop} {x : Int32} (hx : x < 0) (hp : post 0) : wpX_sizeOf post () x :=
  ⟨1, br_f (by decide) (br_t (Int32.lt_trans hx (by decide)) hp)⟩
theorem zt_szR {post : Int32 → Prop} {n k : Nat} (hk : k ≤ 6) (h : zt_R k n) (hp : post (nI k)) : wpX_sizeOf post () (nI n) :=
  zt_sz (by have := zt_top hk h; omega) (by omega) (Or.inr h.1) (Or.inr (zt_hi h)) hp
theorem zt_isRow_t {post : Int32 → Prop} {n k : Nat} (hk : k ≤ 6) (h : zt_R k n) (hp : post 1) : wpX_isRow post () (nI n) := by
  have hn := zt_top hk h
  unfold wpX_isRow
  refine zt_szR hk h (pk_lt 6 k (fun z => absurd z (by omega)) (fun _ => ?_))
  rw [zt_1k k (by omega), zt_2k k (by omega)]
  exact br_f (nI_nlt h.1 (by omega)) (br_f (nI_ge h.2 (zt_p31 hk).2) hp)
theorem zt_isRow_f {post : Int32 → Prop} {x : Int32} (h : ¬ zt_row x) (hp : post 0) : wpX_isRow post () x := by
  unfold wpX_isRow
  by_cases hx : x < 0
  · exact zt_szneg hx (br_f (by decide) (br_t (Int32.lt_trans hx (by decide)) hp))
  · obtain ⟨n, hn, rfl⟩ := nI_of hx
    obtain ⟨k, hk, lo, hi⟩ := zt_sizes n
    refine zt_sz hn hk lo hi (pk_lt 6 k (fun _ => hp) (fun z => ?_))
    rw [zt_1k k (by omega), zt_2k k (by omega)]
    exact pk_lt n (8 ^ k) (fun _ => hp) (fun z1 => pk_le (2 * 8 ^ k) n (fun _ => hp) (fun z2 => absurd ⟨k, n, z, ⟨z1, z2⟩, rfl⟩ h) rfl rfl (zt_p31 z).2 hn) rfl rfl hn (zt_p31 z).1
theorem zt_isWord_t {post : Int32 → Prop} {n k : Nat} (h1 : 1 ≤ k) (hk : k ≤ 6) (h : zt_R k n) (hp : post 1) : wpX_isWord post () (nI n) := by
  have hn := zt_top hk h
  have h8 : 8 ≤ n := Nat.le_trans (zt_pw h1) h.1
  unfold wpX_isWord
  exact pk_le n 1 (fun z => absurd z (by omega)) (fun _ => zt_isRow_t hk h (br_f (by decide) hp))
theorem zt_isWord_f {post : Int32 → Prop} {x : Int32} (h : ¬ zt_word x) (hp : post 0) : wpX_isWord post () x := by
  unfold wpX_isWord
  refine br_c (fun _ => hp) (fun z => ?_)
  refine zt_isRow_f (fun hr => ?_) (br_t rfl hp)
  obtain ⟨k, n, hk, hR, rfl⟩ := hr
  rcases Nat.eq_zero_or_pos k with e | e
  · subst e
    have h2 : n < 2 * 1 := hR.2
    exact z (nI_le (show n ≤ 1 by omega) (by decide))
  · exact h ⟨k, n, e, hk, hR, rfl⟩
theorem zt_rng {x : Int32} : zt_word x ↔ ((8 ≤ x.toInt ∧ x.toInt < 16) ∨ (64 ≤ x.toInt ∧ x.toInt < 128) ∨ (512 ≤ x.toInt ∧ x.toInt < 1024) ∨ (4096 ≤ x.toInt ∧ x.toInt < 8192) ∨ (32768 ≤ x.toInt ∧ x.toInt < 65536) ∨ (262144 ≤ x.toInt ∧ x.toInt < 524288)) := by
  constructor
  · rintro ⟨k, n, h1, h6, hR, rfl⟩
    have hn := zt_top h6 hR
    rw [nI_toInt (by omega)]
    obtain ⟨lo, hi⟩ := hR
    rcases (show k = 1 ∨ k = 2 ∨ k = 3 ∨ k = 4 ∨ k = 5 ∨ k = 6 by omega) with e | e | e | e | e | e
    all_goals (subst e; omega)
  · intro h
    have hx : ¬ x < 0 := by
      rw [Int32.lt_iff_toInt_lt]
      show ¬ x.toInt < 0
      omega
    obtain ⟨n, hn, rfl⟩ := nI_of hx
    rw [nI_toInt hn] at h
    rcases h with h | h | h | h | h | h
    · exact ⟨1, n, by decide, by decide, ⟨by omega, by omega⟩, rfl⟩
    · exact ⟨2, n, by decide, by decide, ⟨by omega, by omega⟩, rfl⟩
    · exact ⟨3, n, by decide, by decide, ⟨by omega, by omega⟩, rfl⟩
    · exact ⟨4, n, by decide, by decide, ⟨by omega, by omega⟩, rfl⟩
    · exact ⟨5, n, by decide, by decide, ⟨by omega, by omega⟩, rfl⟩
    · exact ⟨6, n, by decide, by decide, ⟨by omega, by omega⟩, rfl⟩
theorem zt_lit : (7 : Int32).toInt = 7 ∧ (16 : Int32).toInt = 16 ∧ (63 : Int32).toInt = 63 ∧ (128 : Int32).toInt = 128 ∧ (512 : Int32).toInt = 512 ∧ (1024 : Int32).toInt = 1024 ∧ (4095 : Int32).toInt = 4095 ∧ (8192 : Int32).toInt = 8192 ∧ (32767 : Int32).toInt = 32767 ∧ (65536 : Int32).toInt = 65536 ∧ (262143 : Int32).toInt = 262143 ∧ (524288 : Int32).toInt = 524288 := by decide +kernel
theorem zt_lword {post : Int32 → Prop} {x : Int32} (h1 : zt_word x → post 1) (h0 : ¬ zt_word x → post 0) : wpL_word post () x := by
  rw [zt_rng] at h1 h0
  unfold wpL_word wL_word_78 wL_word_19
  obtain ⟨e1, e2, e3, e4, e5, e6, e7, e8, e9, e10, e11, e12⟩ := zt_lit
  simp only [Int32.le_iff_toInt_le, Int32.lt_iff_toInt_lt, e1, e2, e3, e4, e5, e6, e7, e8, e9, e10, e11, e12]
  generalize x.toInt = t at *
  clear e1 e2 e3 e4 e5 e6 e7 e8 e9 e10 e11 e12
  repeat' (first | apply And.intro | intro _)
  all_goals (first | exact h1 (by omega) | exact h0 (by omega))
theorem zt_begins {post : Int32 → Prop} {j m k n : Nat} (hj : j ≤ 6) (hk : k ≤ 6) (hm : zt_R j m) (hn : zt_R k n) (h1 : zt_beg j m k n → post 1) (h0 : ¬ zt_beg j m k n → post 0) : wpX_begins post () (nI m) (nI n) := by
  have bm := zt_top hj hm
  have bn := zt_top hk hn
  unfold wpX_begins
  refine zt_szR hk hn (zt_szR hj hm ?_)
  rcases Nat.lt_or_ge k j with a | a
  · exact nm_e (br_t (pk_sneg (by omega) a) (h0 (fun z => absurd z.1 (by omega))))
  · refine nm_r (pk_sub a) (br_f (nI_pos (by omega)) ?_)
    have bd := Nat.div_le_self n (8 ^ (k - j))
    rw [zt_shr (by omega) (by omega)]
    exact pk_eq (n / 8 ^ (k - j)) m (fun e => h1 ⟨a, e⟩) (fun e => h0 (fun z => e z.2))
theorem zt_layers {post : Int32 → Prop} {k n : Nat} (hk : k ≤ 6) (h : zt_R k n) (hp : post (nI ((k + 1) / 2))) : wpX_layersOf post () (nI n) := by
  unfold wpX_layersOf
  refine zt_szR hk h ?_
  rw [zt_lay k (by omega)]
  exact hp
theorem zt_v1 (f g : Nat) : ((9 * (nI f + 1)) + nI g) + 1 = nI (9 * (f + 1) + g + 1) := by
  rw [nI_1, show (9 : Int32) = nI 9 from rfl, pk_mul, nI_add, nI_1]
theorem zt_v0 (f : Nat) : 9 * (nI f + 1) = nI (9 * (f + 1)) := by
  rw [nI_1, show (9 : Int32) = nI 9 from rfl, pk_mul]
theorem zt_and7 {q : Nat} (h : q < 2 ^ 31) : nI q &&& 7 = nI (q % 8) := pk_andN (by omega) 3 (by decide)
theorem zt_slice {post : Int32 → Prop} {k n l : Nat} (hk : k ≤ 6) (h : zt_R k n) (hl : 2 * l < k) (hp : post (nI (zt_sl k n l))) : wpX_sliceOf post () (nI n) (nI l) := by
  have hn := zt_top hk h
  unfold wpX_sliceOf
  refine zt_szR hk h ?_
  have b1 := Nat.div_le_self n (8 ^ (k - 1 - 2 * l))
  have b2 := Nat.div_le_self n (8 ^ (k - 2 - 2 * l))
  refine nm_r (e' := nI (n / 8 ^ (k - 1 - 2 * l) % 8)) ?_ ?_
  · rw [zt_i1 k (by omega) l (by omega) hl, zt_shr (by omega) (by omega), zt_and7 (by omega)]
  · refine pk_lt (2 * l + 1) k (fun z => ?_) (fun z => ?_) (zt_i3 l)
    · refine nm_r (e' := nI (n / 8 ^ (k - 2 - 2 * l) % 8)) ?_ ?_
      · rw [zt_i2 k (by omega) l (by omega) z, zt_shr (by omega) (by omega), zt_and7 (by omega)]
      · rw [zt_v1]
        unfold zt_sl at hp
        rw [if_pos z] at hp
        exact hp
    · rw [zt_v0]
      unfold zt_sl at hp
      rw [if_neg (by omega)] at hp
      exact hp
end
section
/-! ===== a chain of one node that has one entry; find, get, has ===== -/
/-- the picture: l layers, node i and entry 4 i for layer i; the slices sl; the value val at the last entry -/
def zt_P (l : Nat) (sl : Nat → Nat) (val : Int32) (a1 a2 a3 a4 a5 a6 : Nat → Int32) : Prop :=
  (∀ i, i < l → a1 i = 205057 ∧ a2 i = -1 ∧ a3 (4 * i) = nI (sl i)) ∧ (∀ i, i + 1 < l → a5 (4 * i) = 0 ∧ a6 (4 * i) = nI (i + 1)) ∧ a5 (4 * (l - 1)) = 1 ∧ a6 (4 * (l - 1)) = -1 ∧ a4 (4 * (l - 1)) = val
theorem zt_e0 (b : Nat) : ((4 : Int32) * nI b) + (((205057 : Int32) >>> ((((4 : Int32) * 0) + 4) &&& 31)) &&& 15) = nI (4 * b) := by
  rw [show ((205057 : Int32) >>> ((((4 : Int32) * 0) + 4) &&& 31)) &&& 15 = 0 by decide, Int32.add_zero]
  exact pk_mul 4 b
section
variable {post : Int32 → Prop} {ft ff fc fl fu : Int32} {a1 a2 a3 a4 a5 a6 a7 a8 a9 a10 a11 a12 : Nat → Int32}
theorem zt_size {b : Nat} {v : Int32} (hb : b < 122) (hv : a1 b &&& 15 = v) (hp : post v) : wpX_sizeOfNode post (ft, ff, fc, fl, fu, a1, a2, a3, a4, a5, a6, a7, a8, a9, a10, a11, a12) (nI b) :=
  ⟨pk_in b 122 hb, by rw [nI_clamp (by omega), hv]; exact hp⟩
theorem zt_size1 {b : Nat} (hb : b < 122) (ho : a1 b = 205057) (hp : post 1) : wpX_sizeOfNode post (ft, ff, fc, fl, fu, a1, a2, a3, a4, a5, a6, a7, a8, a9, a10, a11, a12) (nI b) :=
  zt_size hb (by rw [ho]; decide) hp
theorem zt_size0 {b : Nat} (hb : b < 122) (ho : a1 b = 205056) (hp : post 0) : wpX_sizeOfNode post (ft, ff, fc, fl, fu, a1, a2, a3, a4, a5, a6, a7, a8, a9, a10, a11, a12) (nI b) :=
  zt_size hb (by rw [ho]; decide) hp
theorem zt_entry0 {b : Nat} (hb : b < 122) (ho : a1 b = 205057) (hp : post (nI (4 * b))) : wpX_entryAt post (ft, ff, fc, fl, fu, a1, a2, a3, a4, a5, a6, a7, a8, a9, a10, a11, a12) (nI b) 0 :=
  ⟨pk_in b 122 hb, by rw [nI_clamp (by omega), ho, zt_e0]; exact hp⟩
theorem zt_nodeFor {b : Nat} {s : Int32} (hb : b < 122) (hf : a2 b = -1) (hp : post (nI b)) : wpX_nodeFor post (ft, ff, fc, fl, fu, a1, a2, a3, a4, a5, a6, a7, a8, a9, a10, a11, a12) (nI b) s :=
  ⟨pk_in b 122 hb, nm_r (e' := -1) (by rw [nI_clamp (by omega), hf]) ⟨1, br_t rfl hp⟩⟩
theorem zt_lesA {b f : Nat} {s x : Int32} (hb : b < 122) (ho : a1 b = 205057) (hx : 1 ≤ x) (hp : post x) : wX_lesserIn_2 post (nI b) s ft ff fc fl fu a1 a2 a3 a4 a5 a6 a7 a8 a9 a10 a11 a12 (f + 1) x := by
  unfold wX_lesserIn_2
  exact zt_size1 hb ho (br_t hx hp)
theorem zt_lesser {b : Nat} {s v : Int32} (hb : b < 122) (ho : a1 b = 205057) (hs : a3 (4 * b) = v) (h0 : s ≤ v → post 0) (h1 : ¬ s ≤ v → post 1) : wpX_lesserIn post (ft, ff, fc, fl, fu, a1, a2, a3, a4, a5, a6, a7, a8, a9, a10, a11, a12) (nI b) s := by
  unfold wpX_lesserIn
  dsimp only
  refine ⟨0 + 1 + 1, ?_⟩
  unfold wX_lesserIn_2
  refine zt_size1 hb ho (br_f (by decide) (zt_entry0 hb ho ⟨pk_in (4 * b) 488 (by omega), ?_⟩))
  rw [nI_clamp (by omega), hs]
  exact br_c h0 (fun z => nm_r (e' := 1) (by decide) (zt_lesA hb ho (by decide) (h1 z)))
theorem zt_lesser0 {b : Nat} {s : Int32} (hb : b < 122) (ho : a1 b = 205056) (hp : post 0) : wpX_lesserIn post (ft, ff, fc, fl, fu, a1, a2, a3, a4, a5, a6, a7, a8, a9, a10, a11, a12) (nI b) s := by
  unfold wpX_lesserIn
  dsimp only
  refine ⟨0 + 1, ?_⟩
  unfold wX_lesserIn_2
  exact zt_size0 hb ho (br_t (by decide) hp)
theorem zt_entryFor {b : Nat} {s v : Int32} (hb : b < 122) (ho : a1 b = 205057) (hf : a2 b = -1) (hs : a3 (4 * b) = v) (h1 : v = s → post (nI (4 * b))) (h0 : ¬ v = s → post (-1)) : wpX_entryFor post (ft, ff, fc, fl, fu, a1, a2, a3, a4, a5, a6, a7, a8, a9, a10, a11, a12) (nI b) s :=
  br_f (zt_ne (by omega)) (zt_nodeFor hb hf (zt_lesser hb ho hs
    (fun _ => zt_size1 hb ho (br_f (by decide) (zt_entry0 hb ho ⟨pk_in (4 * b) 488 (by omega), by
      rw [nI_clamp (by omega), hs]
      exact br_c (fun e => zt_entry0 hb ho (h1 e)) h0⟩)))
    (fun z => zt_size1 hb ho (br_t (by decide) (h0 (fun e => z (e ▸ Int32.le_refl v)))))))
theorem zt_entryForN {s : Int32} (hp : post (-1)) : wpX_entryFor post (ft, ff, fc, fl, fu, a1, a2, a3, a4, a5, a6, a7, a8, a9, a10, a11, a12) (-1) s := br_t rfl hp
theorem zt_find_loop {k n t m : Nat} {val : Int32} (hk1 : 1 ≤ k) (hk : k ≤ 6) (hR : zt_R k n) (ht1 : 1 ≤ t) (ht : t ≤ 6) (hM : zt_R t m) (P : zt_P ((k + 1) / 2) (zt_sl k n) val a1 a2 a3 a4 a5 a6)
    (H1 : m = n → post (nI (4 * ((k + 1) / 2 - 1)))) (H0 : ¬ m = n → post (-1) ∧ ∀ i, i + 1 < (k + 1) / 2 → post (nI (4 * i))) :
    ∀ f i, i ≤ (t + 1) / 2 → i ≤ (k + 1) / 2 → (t + 1) / 2 - i < f → (∀ j, j < i → zt_sl t m j = zt_sl k n j) → wX_find_16 post (nI m) (nI ((t + 1) / 2)) ft ff fc fl fu a1 a2 a3 a4 a5 a6 a7 a8 a9 a10 a11 a12 f (if i < (k + 1) / 2 then nI i else -1) (if i = 0 then -1 else nI (4 * (i - 1))) (nI i) := by
  intro f
  induction f with
  | zero => intro i h1 h2 h3; omega
  | succ f ih =>
    intro i h1 h2 h3 hs
    refine pk_le ((t + 1) / 2) i (fun z => ?_) (fun z => zt_slice ht hM (by omega) ?_)
    · rw [if_neg (show ¬ i = 0 by omega)]
      by_cases e : (t + 1) / 2 = (k + 1) / 2
      · rw [show i - 1 = (k + 1) / 2 - 1 by omega]
        exact H1 (zt_inj hR hM e (fun j hj => hs j (by omega)))
      · refine (H0 (fun y => e ?_)).2 (i - 1) (by omega)
        rw [zt_uniq hR (y ▸ hM)]
    · have hd : ¬ (m = n ∧ ¬ (zt_sl t m i = zt_sl k n i ∧ (t + 1) / 2 = (k + 1) / 2)) := by
        rintro ⟨y, y2⟩
        have ek := zt_uniq hR (y ▸ hM)
        exact y2 ⟨by rw [y, ek], by rw [ek]⟩
      by_cases hl : i < (k + 1) / 2
      · rw [if_pos hl]
        obtain ⟨o, fo, sl⟩ := P.1 i hl
        refine zt_entryFor (by omega) o fo sl (fun e => br_f (zt_ne (by omega)) ⟨pk_in (4 * i) 488 (by omega), ?_⟩) (fun e => br_t rfl (H0 (fun y => hd ⟨y, fun g => e (by rw [g.1])⟩)).1)
        have es : zt_sl t m i = zt_sl k n i := by
          have b1 := zt_sl_lt t m i
          have b2 := zt_sl_lt k n i
          exact ((nI_eq (by omega) (by omega)).mp e).symm
        refine nm_r (e' := if i + 1 < (k + 1) / 2 then nI (i + 1) else -1) ?_ (nm_r (nI_1 i) ?_)
        · rw [nI_clamp (by omega)]
          by_cases c : i + 1 < (k + 1) / 2
          · rw [if_pos c]
            exact (P.2.1 i c).2
          · rw [if_neg c, show 4 * i = 4 * ((k + 1) / 2 - 1) by omega]
            exact P.2.2.2.1
        · have q := ih (i + 1) (by omega) (by omega) (by omega) (lt_s hs es)
          rw [if_neg (show ¬ i + 1 = 0 by omega)] at q
          exact q
      · rw [if_neg hl]
        exact br_t rfl (br_t rfl (H0 (fun y => hd ⟨y, fun g => by omega⟩)).1)
theorem zt_find {k n t m : Nat} {val : Int32} (hk1 : 1 ≤ k) (hk : k ≤ 6) (hR : zt_R k n) (ht1 : 1 ≤ t) (ht : t ≤ 6) (hM : zt_R t m) (P : zt_P ((k + 1) / 2) (zt_sl k n) val a1 a2 a3 a4 a5 a6)
    (H1 : m = n → post (nI (4 * ((k + 1) / 2 - 1)))) (H0 : ¬ m = n → post (-1) ∧ ∀ i, i + 1 < (k + 1) / 2 → post (nI (4 * i))) : wpX_find post (0, ff, fc, fl, fu, a1, a2, a3, a4, a5, a6, a7, a8, a9, a10, a11, a12) (nI m) := by
  unfold wpX_find
  dsimp only
  refine zt_layers ht hM ⟨(t + 1) / 2 + 1, ?_⟩
  have q := zt_find_loop (ft := 0) (ff := ff) (fc := fc) (fl := fl) (fu := fu) (a7 := a7) (a8 := a8) (a9 := a9) (a10 := a10) (a11 := a11) (a12 := a12) hk1 hk hR ht1 ht hM P H1 H0 ((t + 1) / 2 + 1) 0 (by omega) (by omega) (by omega) (fun j hj => absurd hj (by omega))
  rw [if_pos (show 0 < (k + 1) / 2 by omega), if_pos rfl] at q
  exact q
theorem zt_find0 {t m : Nat} (ht1 : 1 ≤ t) (ht : t ≤ 6) (hM : zt_R t m) (hp : post (-1)) : wpX_find post (-1, ff, fc, fl, fu, a1, a2, a3, a4, a5, a6, a7, a8, a9, a10, a11, a12) (nI m) := by
  unfold wpX_find
  dsimp only
  exact zt_layers ht hM ⟨1, pk_le ((t + 1) / 2) 0 (fun z => absurd z (by omega)) (fun _ => zt_slice (l := 0) ht hM (by omega) (br_t rfl (br_t rfl hp)))⟩
/-! get and has -/
theorem zt_get_t {k n t m : Nat} {val : Int32} (hk1 : 1 ≤ k) (hk : k ≤ 6) (hR : zt_R k n) (ht1 : 1 ≤ t) (ht : t ≤ 6) (hM : zt_R t m) (P : zt_P ((k + 1) / 2) (zt_sl k n) val a1 a2 a3 a4 a5 a6)
    (H1 : m = n → post val) (H0 : ¬ m = n → post 0) : wpX_get post (0, ff, fc, fl, fu, a1, a2, a3, a4, a5, a6, a7, a8, a9, a10, a11, a12) (nI m) := by
  unfold wpX_get
  dsimp only
  refine zt_isWord_t ht1 ht hM (br_f (by decide) (zt_find hk1 hk hR ht1 ht hM P (fun e => ?_) (fun e => ⟨br_t (by decide) (H0 e), fun i hi => ?_⟩)))
  · refine br_f (nI_pos (by omega)) ⟨pk_in (4 * ((k + 1) / 2 - 1)) 488 (by omega), ?_⟩
    rw [nI_clamp (by omega), P.2.2.1, P.2.2.2.2]
    exact br_f (by decide) ⟨pk_in (4 * ((k + 1) / 2 - 1)) 488 (by omega), H1 e⟩
  · refine br_f (nI_pos (by omega)) ⟨pk_in (4 * i) 488 (by omega), ?_⟩
    rw [nI_clamp (by omega), (P.2.1 i hi).1]
    exact br_t rfl (H0 e)
theorem zt_get_f {v : Int32} (h : ¬ zt_word v) (hp : post 0) : wpX_get post (ft, ff, fc, fl, fu, a1, a2, a3, a4, a5, a6, a7, a8, a9, a10, a11, a12) v := by
  unfold wpX_get
  dsimp only
  exact zt_isWord_f h (br_t rfl hp)
theorem zt_get_0 {t m : Nat} (ht1 : 1 ≤ t) (ht : t ≤ 6) (hM : zt_R t m) (hp : post 0) : wpX_get post (-1, ff, fc, fl, fu, a1, a2, a3, a4, a5, a6, a7, a8, a9, a10, a11, a12) (nI m) := by
  unfold wpX_get
  dsimp only
  exact zt_isWord_t ht1 ht hM (br_f (by decide) (zt_find0 ht1 ht hM (br_t (by decide) hp)))
theorem zt_has_t {k n t m : Nat} {val : Int32} (hk1 : 1 ≤ k) (hk : k ≤ 6) (hR : zt_R k n) (ht1 : 1 ≤ t) (ht : t ≤ 6) (hM : zt_R t m) (P : zt_P ((k + 1) / 2) (zt_sl k n) val a1 a2 a3 a4 a5 a6)
    (H1 : m = n → post 1) (H0 : ¬ m = n → post 0) : wpX_has post (0, ff, fc, fl, fu, a1, a2, a3, a4, a5, a6, a7, a8, a9, a10, a11, a12) (nI m) := by
  unfold wpX_has
  dsimp only
  refine zt_isWord_t ht1 ht hM (br_f (by decide) (zt_find hk1 hk hR ht1 ht hM P (fun e => ?_) (fun e => ⟨br_t (by decide) (H0 e), fun i hi => ?_⟩)))
  · refine br_f (nI_pos (by omega)) ⟨pk_in (4 * ((k + 1) / 2 - 1)) 488 (by omega), ?_⟩
    rw [nI_clamp (by omega), P.2.2.1]
    exact br_f (by decide) (H1 e)
  · refine br_f (nI_pos (by omega)) ⟨pk_in (4 * i) 488 (by omega), ?_⟩
    rw [nI_clamp (by omega), (P.2.1 i hi).1]
    exact br_t rfl (H0 e)
theorem zt_has_f {v : Int32} (h : ¬ zt_word v) (hp : post (-1)) : wpX_has post (ft, ff, fc, fl, fu, a1, a2, a3, a4, a5, a6, a7, a8, a9, a10, a11, a12) v := by
  unfold wpX_has
  dsimp only
  exact zt_isWord_f h (br_t rfl hp)
theorem zt_has_0 {t m : Nat} (ht1 : 1 ≤ t) (ht : t ≤ 6) (hM : zt_R t m) (hp : post 0) : wpX_has post (-1, ff, fc, fl, fu, a1, a2, a3, a4, a5, a6, a7, a8, a9, a10, a11, a12) (nI m) := by
  unfold wpX_has
  dsimp only
  exact zt_isWord_t ht1 ht hM (br_f (by decide) (zt_find0 ht1 ht hM (br_t (by decide) hp)))
end
end
section
/-! ===== the empty tree; one word put into it ===== -/
theorem zt_fill {f s : Nat → Int32} {i c : Nat} {x : Int32} (hc : c = i) (h : ∀ j, j < i → s j = f j) (hx : x = f i) : ∀ j, j < i + 1 → upd s c x j = f j := by
  intro j hj
  rw [hc]
  by_cases e : j = i
  · rw [e, pk_us, hx]
  · rw [pk_un e]
    exact h j (by omega)
theorem zt_init {post : St2 → Prop} (H : ∀ a7 : Nat → Int32, (∀ j, j < 122 → a7 j = 121 - nI j) → post (-1, 122, 0, 0, 0, fun _ => 0, fun _ => 0, fun _ => 0, fun _ => 0, fun _ => 0, fun _ => 0, a7, fun _ => 0, fun _ => 0, fun _ => 0, fun _ => 0, fun _ => 0)) : wpX_init post 12 2407 (0, 0, 0, 0, 0) := by
  refine ⟨by decide, by decide, by decide, by decide, by decide, by decide, by decide, by decide, by decide, by decide, by decide, by decide, by decide, by decide, by decide, by decide, by decide, by decide, by decide, by decide, by decide, by decide, by decide, by decide, ?_⟩
  exact pk_loop (fun f i s => wX_init_108 post 12 2407 12 2407 (-1) 0 0 0 0 f (nI i) (fun _ => 0) (fun _ => 0) (fun _ => 0) (fun _ => 0) (fun _ => 0) (fun _ => 0) s (fun _ => 0) (fun _ => 0) (fun _ => 0) (fun _ => 0) (fun _ => 0)) (fun i s => ∀ j, j < i → s j = 121 - nI j) 122 0 (fun _ => 0) (by omega) (fun j hj => absurd hj (by omega))
    (fun f s h => pk_le 122 122 (fun _ => H s h) (fun z => absurd z (by omega)))
    (fun f i s hi h hw => pk_le 122 i (fun z => absurd z (by omega)) (fun _ => ⟨pk_in i 122 hi, nm_e (nm_r (nI_1 i) (hw _ (zt_fill (f := fun j => 121 - nI j) (nI_clamp (by omega)) h rfl)))⟩))
section
variable {ft ff fc fl fu : Int32} {a1 a2 a3 a4 a5 a6 a7 a8 a9 a10 a11 a12 : Nat → Int32}
theorem zt_take {post : Int32 → St2 → Prop} {i : Nat} (hi : i < 122) (hf : ff = nI (122 - i)) (h7 : a7 (121 - i) = nI i) (hp : post (nI i) (ft, nI (121 - i), fc, fl, fu, upd a1 i 205056, upd a2 i (-1), a3, a4, a5, a6, a7, a8, a9, a10, a11, a12)) : wpX_takeNode post (ft, ff, fc, fl, fu, a1, a2, a3, a4, a5, a6, a7, a8, a9, a10, a11, a12) := by
  unfold wpX_takeNode
  dsimp only
  refine nm_r (e' := nI (121 - i)) ?_ ⟨pk_in (121 - i) 122 (by omega), nm_r (e' := nI i) (by rw [nI_clamp (by omega), h7]) ⟨pk_in i 122 hi, nm_r (e' := upd a1 i 205056) (by rw [nI_clamp (by omega)]) ⟨pk_in i 122 hi, nm_r (e' := upd a2 i (-1)) (by rw [nI_clamp (by omega)]) hp⟩⟩⟩
  rw [hf]
  show nI (122 - i) - nI 1 = nI (121 - i)
  rw [pk_sub (by omega), show 122 - i - 1 = 121 - i by omega]
theorem zt_head0 {post : St2 → Prop} {h : Int32} (hp : post (h, ff, fc, fl, fu, a1, a2, a3, a4, a5, a6, a7, a8, a9, a10, a11, a12)) : wpX_setHead post (ft, ff, fc, fl, fu, a1, a2, a3, a4, a5, a6, a7, a8, a9, a10, a11, a12) (-1) h := br_t rfl hp
theorem zt_head1 {post : St2 → Prop} {h : Int32} {e : Nat} (he : e < 488) (hp : post (ft, ff, fc, fl, fu, a1, a2, a3, a4, a5, upd a6 e h, a7, a8, a9, a10, a11, a12)) : wpX_setHead post (ft, ff, fc, fl, fu, a1, a2, a3, a4, a5, a6, a7, a8, a9, a10, a11, a12) (nI e) h :=
  br_f (zt_ne (by omega)) ⟨pk_in e 488 he, nm_r (e' := upd a6 e h) (by rw [nI_clamp (by omega)]) hp⟩
theorem zt_insert {post : Int32 → St2 → Prop} {i : Nat} {s : Int32} (hi : i < 122) (ho : a1 i = 205056) (hf : a2 i = -1) (hp : post (nI (4 * i)) (ft, ff, fc, fl, fu, upd a1 i 205057, a2, upd a3 (4 * i) s, upd a4 (4 * i) 0, upd a5 (4 * i) 0, upd a6 (4 * i) (-1), a7, a8, a9, a10, a11, a12)) : wpX_insert post (ft, ff, fc, fl, fu, a1, a2, a3, a4, a5, a6, a7, a8, a9, a10, a11, a12) (nI i) s := by
  unfold wpX_insert
  dsimp only
  refine zt_nodeFor hi hf (zt_size0 hi ho (br_f (by decide) ?_))
  unfold wX_insert_28
  refine zt_lesser0 hi ho (zt_size0 hi ho ⟨pk_in i 122 hi, ?_⟩)
  rw [nI_clamp (by omega), ho]
  refine nm_r (e' := 0) (by decide) ⟨pk_in i 122 hi, nm_r (e' := 12816) (by decide) (nm_r (e' := 0) (by decide) (nm_r (e' := 0) (by decide) (nm_r (e' := 801) (by decide) (nm_r (e' := 12816) (by decide) ⟨pk_in i 122 hi, ?_⟩))))⟩
  refine nm_r (e' := upd a1 i 205057) (congrArg (upd a1 i) (by decide)) (nm_r (e' := nI (4 * i)) ?_ ?_)
  · rw [Int32.add_zero]
    exact pk_mul 4 i
  · exact ⟨pk_in (4 * i) 488 (by omega), nm_r (e' := upd a3 (4 * i) s) (by rw [nI_clamp (by omega)]) ⟨pk_in (4 * i) 488 (by omega), nm_r (e' := upd a5 (4 * i) 0) (by rw [nI_clamp (by omega)]) ⟨pk_in (4 * i) 488 (by omega), nm_r (e' := upd a4 (4 * i) 0) (by rw [nI_clamp (by omega)]) ⟨pk_in (4 * i) 488 (by omega), nm_r (e' := upd a6 (4 * i) (-1)) (by rw [nI_clamp (by omega)]) hp⟩⟩⟩⟩
theorem zt_79 {post : Int32 → St2 → Prop} {J : Int32 → Int32 → Int32 → Int32 → Int32 → Int32 → Int32 → (Nat → Int32) → (Nat → Int32) → (Nat → Int32) → (Nat → Int32) → (Nat → Int32) → (Nat → Int32) → (Nat → Int32) → (Nat → Int32) → (Nat → Int32) → (Nat → Int32) → (Nat → Int32) → (Nat → Int32) → Prop} {x1 x3 s : Int32} {i l : Nat} (hi : i < 122) (ho : a1 i = 205056) (hf : a2 i = -1) (hJ : J (nI (4 * i)) (nI (l + 1)) ft ff fc fl fu (upd a1 i 205057) a2 (upd a3 (4 * i) s) (upd a4 (4 * i) 0) (upd a5 (4 * i) 0) (upd a6 (4 * i) (-1)) a7 a8 a9 a10 a11 a12) : wX_makePath_79 post J x1 x3 (nI l) s (nI i) ft ff fc fl fu a1 a2 a3 a4 a5 a6 a7 a8 a9 a10 a11 a12 := by
  unfold wX_makePath_79
  exact zt_insert hi ho hf (nm_r (nI_1 l) hJ)
end
/-- i layers of the path stand -/
def zt_M (i : Nat) (sl : Nat → Nat) (a1 a2 a3 a5 a6 a7 : Nat → Int32) : Prop :=
  (∀ j, j < i → a1 j = 205057 ∧ a2 j = -1 ∧ a3 (4 * j) = nI (sl j) ∧ a5 (4 * j) = 0) ∧ (∀ j, j + 1 < i → a6 (4 * j) = nI (j + 1)) ∧ (0 < i → a6 (4 * (i - 1)) = -1) ∧ (∀ j, j < 122 → a7 j = 121 - nI j)
theorem zt_M_next {i : Nat} {sl : Nat → Nat} {a1 a2 a3 a5 a6 a6' a7 : Nat → Int32} {x : Int32} (h : zt_M i sl a1 a2 a3 a5 a6 a7) (h1 : ∀ j, j + 1 < i → a6' (4 * j) = nI (j + 1)) (h2 : 0 < i → a6' (4 * (i - 1)) = nI i) :
    zt_M (i + 1) sl (upd (upd a1 i x) i 205057) (upd a2 i (-1)) (upd a3 (4 * i) (nI (sl i))) (upd a5 (4 * i) 0) (upd a6' (4 * i) (-1)) a7 := by
  obtain ⟨g1, g2, g3, g4⟩ := h
  refine ⟨fun j hj => ?_, fun j hj => ?_, fun _ => pk_us, g4⟩
  · by_cases e : j = i
    · subst e
      exact ⟨pk_us, pk_us, pk_us, pk_us⟩
    · obtain ⟨q1, q2, q3, q4⟩ := g1 j (by omega)
      rw [pk_un e, pk_un e, pk_un e, pk_un (by omega), pk_un (by omega)]
      exact ⟨q1, q2, q3, q4⟩
  · rw [pk_un (by omega)]
    by_cases e : j + 1 < i
    · exact h1 j e
    · have e2 : j = i - 1 := by omega
      have h3 := h2 (by omega)
      rw [e2, h3, show i - 1 + 1 = i by omega]
section
variable {fc fl fu : Int32} {a7 a8 a9 a10 a11 a12 : Nat → Int32}
theorem zt_path_loop {post : Int32 → St2 → Prop} {k n : Nat} (hk1 : 1 ≤ k) (hk : k ≤ 6) (hR : zt_R k n)
    (H : ∀ a1 a2 a3 a4 a5 a6 : Nat → Int32, zt_M ((k + 1) / 2) (zt_sl k n) a1 a2 a3 a5 a6 a7 → post (nI (4 * ((k + 1) / 2 - 1))) (0, nI (122 - (k + 1) / 2), fc, fl, fu, a1, a2, a3, a4, a5, a6, a7, a8, a9, a10, a11, a12)) :
    ∀ d i, ∀ a1 a2 a3 a4 a5 a6 : Nat → Int32, i + d = (k + 1) / 2 → zt_M i (zt_sl k n) a1 a2 a3 a5 a6 a7 → wX_makePath_10 post (nI n) (nI ((k + 1) / 2)) (d + 1) (if i = 0 then -1 else nI (4 * (i - 1))) (nI i) (if i = 0 then -1 else 0) (nI (122 - i)) fc fl fu a1 a2 a3 a4 a5 a6 a7 a8 a9 a10 a11 a12 := by
  intro d
  induction d with
  | zero =>
    intro i a1 a2 a3 a4 a5 a6 hi hM
    refine pk_le ((k + 1) / 2) i (fun _ => ?_) (fun z => absurd z (by omega))
    rw [if_neg (show ¬ i = 0 by omega), if_neg (show ¬ i = 0 by omega)]
    rw [show i = (k + 1) / 2 by omega] at hM ⊢
    exact H a1 a2 a3 a4 a5 a6 hM
  | succ d ih =>
    intro i a1 a2 a3 a4 a5 a6 hi hM
    refine pk_le ((k + 1) / 2) i (fun z => absurd z (by omega)) (fun _ => zt_slice hk hR (by omega) ?_)
    have h7 : a7 (121 - i) = nI i := by
      rw [hM.2.2.2 (121 - i) (by omega)]
      show nI 121 - nI (121 - i) = nI i
      rw [pk_sub (by omega), show 121 - (121 - i) = i by omega]
    by_cases e : i = 0
    · subst e
      rw [if_pos rfl, if_pos rfl]
      refine br_t rfl ?_
      unfold wX_makePath_42
      refine zt_entryForN (br_t rfl (br_t rfl (zt_take (i := 0) (by omega) rfl h7 (zt_head0 (zt_79 (i := 0) (l := 0) (by omega) pk_us pk_us ?_)))))
      have q := ih 1 _ _ _ (upd a4 (4 * 0) 0) _ _ (by omega) (zt_M_next (x := 205056) (a6' := a6) hM (fun j hj => absurd hj (by omega)) (fun hj => absurd hj (by omega)))
      rw [if_neg (show ¬ 1 = 0 by omega), if_neg (show ¬ 1 = 0 by omega)] at q
      exact q
    · rw [if_neg e, if_neg e]
      refine br_f (zt_ne (by omega)) ⟨pk_in (4 * (i - 1)) 488 (by omega), ?_⟩
      rw [nI_clamp (by omega), hM.2.2.1 (by omega)]
      unfold wX_makePath_42
      refine zt_entryForN (br_t rfl (br_t rfl (zt_take (i := i) (by omega) rfl h7 (zt_head1 (e := 4 * (i - 1)) (by omega) (zt_79 (i := i) (l := i) (by omega) pk_us pk_us ?_)))))
      have q := ih (i + 1) _ _ _ (upd a4 (4 * i) 0) _ _ (by omega) (zt_M_next (x := 205056) (a6' := upd a6 (4 * (i - 1)) (nI i)) hM (fun j hj => by rw [pk_un (by omega)]; exact hM.2.1 j hj) (fun _ => pk_us))
      rw [if_neg (show ¬ i + 1 = 0 by omega), if_neg (show ¬ i + 1 = 0 by omega), show 122 - (i + 1) = 121 - i by omega] at q
      exact q
theorem zt_path {post : Int32 → St2 → Prop} {k n : Nat} {a1 a2 a3 a4 a5 a6 : Nat → Int32} (hk1 : 1 ≤ k) (hk : k ≤ 6) (hR : zt_R k n) (h7 : ∀ j, j < 122 → a7 j = 121 - nI j)
    (H : ∀ a1 a2 a3 a4 a5 a6 : Nat → Int32, zt_M ((k + 1) / 2) (zt_sl k n) a1 a2 a3 a5 a6 a7 → post (nI (4 * ((k + 1) / 2 - 1))) (0, nI (122 - (k + 1) / 2), fc, fl, fu, a1, a2, a3, a4, a5, a6, a7, a8, a9, a10, a11, a12)) :
    wpX_makePath post (-1, 122, fc, fl, fu, a1, a2, a3, a4, a5, a6, a7, a8, a9, a10, a11, a12) (nI n) := by
  unfold wpX_makePath
  dsimp only
  refine zt_layers hk hR ⟨(k + 1) / 2 + 1, ?_⟩
  have q := zt_path_loop (post := post) (fc := fc) (fl := fl) (fu := fu) (a7 := a7) (a8 := a8) (a9 := a9) (a10 := a10) (a11 := a11) (a12 := a12) hk1 hk hR H ((k + 1) / 2) 0 a1 a2 a3 a4 a5 a6 (by omega) ⟨fun j hj => absurd hj (by omega), fun j hj => absurd hj (by omega), fun hj => absurd hj (by omega), h7⟩
  rw [if_pos rfl, if_pos rfl] at q
  exact q
theorem zt_put_t {post : Int32 → St2 → Prop} {k n : Nat} {val : Int32} {a1 a2 a3 a4 a5 a6 : Nat → Int32} (hk1 : 1 ≤ k) (hk : k ≤ 6) (hR : zt_R k n) (h7 : ∀ j, j < 122 → a7 j = 121 - nI j)
    (H : ∀ a1 a2 a3 a4 a5 a6 : Nat → Int32, zt_P ((k + 1) / 2) (zt_sl k n) val a1 a2 a3 a4 a5 a6 → post 1 (0, nI (122 - (k + 1) / 2), 1, 0, 0, a1, a2, a3, a4, a5, a6, a7, a8, a9, a10, a11, a12)) :
    wpX_put post (-1, 122, 0, 0, 0, a1, a2, a3, a4, a5, a6, a7, a8, a9, a10, a11, a12) (nI n) val := by
  unfold wpX_put
  dsimp only
  refine zt_isWord_t hk1 hk hR (br_f (by decide) (zt_find0 hk1 hk hR (br_t (by decide) ?_)))
  unfold wX_put_42
  refine br_f (by decide) (zt_path hk1 hk hR h7 (fun a1 a2 a3 a4 a5 a6 M => ?_))
  refine ⟨pk_in (4 * ((k + 1) / 2 - 1)) 488 (by omega), nm_r (e' := upd a5 (4 * ((k + 1) / 2 - 1)) 1) (by rw [nI_clamp (by omega)]) ⟨pk_in (4 * ((k + 1) / 2 - 1)) 488 (by omega), nm_r (e' := upd a4 (4 * ((k + 1) / 2 - 1)) val) (by rw [nI_clamp (by omega)]) (nm_r (e' := 1) (by decide) (H a1 a2 a3 _ _ a6 ?_))⟩⟩
  obtain ⟨g1, g2, g3, g4⟩ := M
  exact ⟨fun i hi => ⟨(g1 i hi).1, (g1 i hi).2.1, (g1 i hi).2.2.1⟩, fun i hi => ⟨by rw [pk_un (by omega)]; exact (g1 i (by omega)).2.2.2, g2 i hi⟩, pk_us, g3 (by omega), pk_us⟩
end
theorem zt_put_f {post : Int32 → St2 → Prop} {ft ff fc fl fu : Int32} {a1 a2 a3 a4 a5 a6 a7 a8 a9 a10 a11 a12 : Nat → Int32} {x val : Int32} (h : ¬ zt_word x) (hp : post (-1) (ft, ff, fc, fl, fu, a1, a2, a3, a4, a5, a6, a7, a8, a9, a10, a11, a12)) : wpX_put post (ft, ff, fc, fl, fu, a1, a2, a3, a4, a5, a6, a7, a8, a9, a10, a11, a12) x val := by
  unfold wpX_put
  dsimp only
  exact zt_isWord_f h (br_t rfl hp)
end
section
/-! ===== wordOf, list, common ===== -/
theorem zt_w1 {q s : Nat} (hs : 9 ≤ s) (hs2 : s < 82) : ((8 * nI q) + (nI s / 9)) - 1 = nI (8 * q + s / 9 - 1) := by
  show nI 8 * nI q + nI s / nI 9 - nI 1 = _
  rw [pk_mul, pk_div (by omega) (by decide) (by decide), nI_add, pk_sub (by omega)]
theorem zt_w2 {q r : Nat} (hr : 1 ≤ r) : ((8 * nI q) + nI r) - 1 = nI (8 * q + r - 1) := by
  show nI 8 * nI q + nI r - nI 1 = _
  rw [pk_mul, nI_add, pk_sub (by omega)]
section
variable {ft ff fc fl fu : Int32} {a1 a2 a3 a4 a5 a6 a7 a8 a9 a10 a11 a12 : Nat → Int32}
theorem zt_wordOf {post : Int32 → Prop} {k n : Nat} (hk1 : 1 ≤ k) (hk : k ≤ 6) (hR : zt_R k n) (h8 : ∀ i, i < (k + 1) / 2 → a8 i = nI (4 * i)) (h3 : ∀ i, i < (k + 1) / 2 → a3 (4 * i) = nI (zt_sl k n i)) (hp : post (nI n)) : wpX_wordOf post (ft, ff, fc, fl, fu, a1, a2, a3, a4, a5, a6, a7, a8, a9, a10, a11, a12) (nI ((k + 1) / 2 - 1)) := by
  unfold wpX_wordOf
  dsimp only
  obtain ⟨F, q⟩ := pk_loop (σ := Unit) (fun f i _ => wX_wordOf_4 post (nI ((k + 1) / 2 - 1)) ft ff fc fl fu a1 a2 a3 a4 a5 a6 a7 a8 a9 a10 a11 a12 f (nI (n / 8 ^ (k - 2 * i))) (nI i)) (fun _ _ => True) ((k + 1) / 2) 0 () (by omega) trivial
    (fun f _ _ => pk_lt ((k + 1) / 2 - 1) ((k + 1) / 2) (fun _ => by rw [zt_qe (by omega)]; exact hp) (fun z => absurd z (by omega)))
    (fun f i _ hi _ hw => pk_lt ((k + 1) / 2 - 1) i (fun z => absurd z (by omega)) (fun _ => ⟨pk_in i 3 (by omega), by
      rw [nI_clamp (n := i) (by omega), h8 i hi, nI_clamp (n := 4 * i) (by omega), h3 i hi]
      have hst := zt_step (k := k) (n := n) (i := i) (by omega)
      have hlt := zt_sl_lt k n i
      have hw2 := hw () trivial
      rw [← hst] at hw2
      generalize n / 8 ^ (k - 2 * i) = Q at *
      generalize zt_sl k n i = s at *
      refine ⟨pk_in (4 * i) 488 (by omega), nm_e ⟨by decide, nm_r (zt_w1 hlt.2 hlt.1) ⟨by decide, ?_⟩⟩⟩
      rw [show nI s - nI s / 9 * 9 = nI (s % 9) from pk_rem (by omega) (by decide) (by decide)]
      unfold zt_st at hw2
      refine pk_le (s % 9) 0 (fun z => nm_r (nI_1 i) ?_) (fun z => ⟨by decide, nm_r (zt_w2 (by omega)) (nm_r (nI_1 i) ?_)⟩)
      · rw [if_pos z] at hw2
        exact hw2
      · rw [if_neg (by omega)] at hw2
        exact hw2⟩))
  rw [zt_q0 hR] at q
  exact ⟨F, q⟩
/-! the steps of list -/
theorem zt_ls_end {post : St2 → Prop} {i t f : Nat} (hi : i < 3) (ht : t < 400) (ha : a11 i = -1) (h : wX_list_51 post ft ff fc fu f (nI i + (-1)) (nI (t + 1)) fl a1 a2 a3 a4 a5 a6 a7 a8 a9 a10 a11 a12) : wX_list_51 post ft ff fc fu (f + 1) (nI i) (nI t) fl a1 a2 a3 a4 a5 a6 a7 a8 a9 a10 a11 a12 :=
  pk_le 400 t (fun z => absurd z (by omega)) (fun _ => br_f (nI_pos (by omega)) ⟨pk_in i 3 hi, nm_r (e' := -1) (by rw [nI_clamp (by omega), ha]) (br_t rfl (nm_e (nm_r (nI_1 t) h)))⟩)
theorem zt_ls_next {post : St2 → Prop} {i t f : Nat} (hi : i < 3) (ht : t < 400) (ha : a11 i = nI i) (hs : a12 i = 1) (ho : a1 i = 205057) (hf : a2 i = -1) (h : wX_list_51 post ft ff fc fu f (nI i) (nI (t + 1)) fl a1 a2 a3 a4 a5 a6 a7 a8 a9 a10 (upd a11 i (-1)) (upd a12 i 0)) : wX_list_51 post ft ff fc fu (f + 1) (nI i) (nI t) fl a1 a2 a3 a4 a5 a6 a7 a8 a9 a10 a11 a12 := by
  refine pk_le 400 t (fun z => absurd z (by omega)) (fun _ => br_f (nI_pos (by omega)) ⟨pk_in i 3 hi, nm_r (e' := nI i) (by rw [nI_clamp (by omega), ha]) (br_f (zt_ne (by omega)) ⟨pk_in i 3 hi, zt_size1 (by omega) ho (br_t (by rw [nI_clamp (by omega), hs]) ?_)⟩)⟩)
  exact ⟨pk_in i 122 (by omega), pk_in i 3 hi, nm_r (e' := upd a11 i (-1)) (by rw [nI_clamp (by omega), hf]) ⟨pk_in i 3 hi, nm_r (e' := upd a12 i 0) (by rw [nI_clamp (by omega)]) (nm_r (nI_1 t) h)⟩⟩
theorem zt_ls_down {post : St2 → Prop} {i t f : Nat} (hi : i + 1 < 3) (ht : t < 400) (ha : a11 i = nI i) (hs : a12 i = 0) (ho : a1 i = 205057) (h5 : a5 (4 * i) = 0) (h6 : a6 (4 * i) = nI (i + 1)) (h : wX_list_51 post ft ff fc fu f (nI (i + 1)) (nI (t + 1)) fl a1 a2 a3 a4 a5 a6 a7 (upd a8 i (nI (4 * i))) a9 a10 (upd a11 (i + 1) (nI (i + 1))) (upd (upd a12 i 1) (i + 1) 0)) : wX_list_51 post ft ff fc fu (f + 1) (nI i) (nI t) fl a1 a2 a3 a4 a5 a6 a7 a8 a9 a10 a11 a12 := by
  refine pk_le 400 t (fun z => absurd z (by omega)) (fun _ => br_f (nI_pos (by omega)) ⟨pk_in i 3 (by omega), nm_r (e' := nI i) (by rw [nI_clamp (by omega), ha]) (br_f (zt_ne (by omega)) ⟨pk_in i 3 (by omega), zt_size1 (by omega) ho ?_⟩)⟩)
  rw [nI_clamp (n := i) (by omega), hs]
  refine br_f (by decide) ⟨pk_in i 3 (by omega), zt_entry0 (by omega) ho ⟨pk_in i 3 (by omega), pk_in i 3 (by omega), nm_r (e' := upd a12 i 1) (congrArg (upd a12 i) (by decide)) ⟨pk_in i 3 (by omega), nm_r (e' := upd a8 i (nI (4 * i))) rfl ⟨pk_in (4 * i) 488 (by omega), ?_⟩⟩⟩⟩
  rw [nI_clamp (n := 4 * i) (by omega), h5]
  refine br_t rfl ?_
  unfold wX_list_197
  refine ⟨pk_in (4 * i) 488 (by omega), ?_⟩
  rw [nI_clamp (n := 4 * i) (by omega), h6]
  refine br_f (zt_ne (by omega)) (nm_r (nI_1 i) ⟨pk_in (4 * i) 488 (by omega), pk_in (i + 1) 3 (by omega), nm_r (e' := upd a11 (i + 1) (nI (i + 1))) (by rw [nI_clamp (by omega)]) ⟨pk_in (i + 1) 3 (by omega), nm_r (e' := upd (upd a12 i 1) (i + 1) 0) (by rw [nI_clamp (by omega)]) (nm_r (nI_1 t) h)⟩⟩)
theorem zt_ls_word {post : St2 → Prop} {k n t f : Nat} {val : Int32} (hk1 : 1 ≤ k) (hk : k ≤ 6) (hR : zt_R k n) (P : zt_P ((k + 1) / 2) (zt_sl k n) val a1 a2 a3 a4 a5 a6) (ht : t < 400) (ha : a11 ((k + 1) / 2 - 1) = nI ((k + 1) / 2 - 1)) (hs : a12 ((k + 1) / 2 - 1) = 0) (h8 : ∀ j, j < (k + 1) / 2 - 1 → a8 j = nI (4 * j))
    (h : wX_list_51 post ft ff fc fu f (nI ((k + 1) / 2 - 1)) (nI (t + 1)) 1 a1 a2 a3 a4 a5 a6 a7 (upd a8 ((k + 1) / 2 - 1) (nI (4 * ((k + 1) / 2 - 1)))) (upd a9 0 (nI n)) (upd a10 0 val) a11 (upd a12 ((k + 1) / 2 - 1) 1)) : wX_list_51 post ft ff fc fu (f + 1) (nI ((k + 1) / 2 - 1)) (nI t) 0 a1 a2 a3 a4 a5 a6 a7 a8 a9 a10 a11 a12 := by
  have ho := (P.1 ((k + 1) / 2 - 1) (by omega)).1
  refine pk_le 400 t (fun z => absurd z (by omega)) (fun _ => br_f (nI_pos (by omega)) ⟨pk_in ((k + 1) / 2 - 1) 3 (by omega), nm_r (e' := nI ((k + 1) / 2 - 1)) (by rw [nI_clamp (by omega), ha]) (br_f (zt_ne (by omega)) ⟨pk_in ((k + 1) / 2 - 1) 3 (by omega), zt_size1 (by omega) ho ?_⟩)⟩)
  rw [nI_clamp (n := (k + 1) / 2 - 1) (by omega), hs]
  refine br_f (by decide) ⟨pk_in ((k + 1) / 2 - 1) 3 (by omega), zt_entry0 (by omega) ho ⟨pk_in ((k + 1) / 2 - 1) 3 (by omega), pk_in ((k + 1) / 2 - 1) 3 (by omega), nm_r (e' := upd a12 ((k + 1) / 2 - 1) 1) (congrArg (upd a12 ((k + 1) / 2 - 1)) (by decide)) ⟨pk_in ((k + 1) / 2 - 1) 3 (by omega), nm_r (e' := upd a8 ((k + 1) / 2 - 1) (nI (4 * ((k + 1) / 2 - 1)))) rfl ⟨pk_in (4 * ((k + 1) / 2 - 1)) 488 (by omega), ?_⟩⟩⟩⟩
  rw [nI_clamp (n := 4 * ((k + 1) / 2 - 1)) (by omega), P.2.2.1, P.2.2.2.2]
  refine br_f (by decide) (zt_wordOf hk1 hk hR (fun j hj => ?_) (fun j hj => (P.1 j hj).2.2) ⟨pk_in 0 40 (by decide), nm_e ⟨pk_in (4 * ((k + 1) / 2 - 1)) 488 (by omega), pk_in 0 40 (by decide), nm_e (nm_r (e' := 1) (by decide) ?_)⟩⟩)
  · by_cases e : j = (k + 1) / 2 - 1
    · rw [e, pk_us]
    · rw [pk_un e]
      exact h8 j (by omega)
  · unfold wX_list_197
    refine ⟨pk_in (4 * ((k + 1) / 2 - 1)) 488 (by omega), ?_⟩
    rw [nI_clamp (n := 4 * ((k + 1) / 2 - 1)) (by omega), P.2.2.2.1]
    refine br_t rfl (nm_r (nI_1 t) ?_)
    rw [sb_cl0]
    exact h
end
section
variable {ft ff fc fl fu : Int32} {a1 a2 a3 a4 a5 a6 a7 : Nat → Int32}
theorem zt_ls_up {post : St2 → Prop} {l : Nat} {a8 a9 a10 : Nat → Int32} (hl : l ≤ 3) (h1 : ∀ i, i < l → a1 i = 205057 ∧ a2 i = -1) (H : ∀ a11 a12 : Nat → Int32, post (ft, ff, fc, fl, fu, a1, a2, a3, a4, a5, a6, a7, a8, a9, a10, a11, a12)) :
    ∀ i t f, ∀ a11 a12 : Nat → Int32, i ≤ l → t + 2 * i < 400 → 2 * i < f → (∀ j, j < i → a11 j = nI j ∧ a12 j = 1) → wX_list_51 post ft ff fc fu f (nI i + (-1)) (nI t) fl a1 a2 a3 a4 a5 a6 a7 a8 a9 a10 a11 a12 := by
  intro i
  induction i with
  | zero =>
    intro t f a11 a12 hi ht hf h
    obtain ⟨f', rfl⟩ : ∃ f', f = f' + 1 := ⟨f - 1, by omega⟩
    exact pk_le 400 t (fun z => absurd z (by omega)) (fun _ => br_t (by decide) (H a11 a12))
  | succ i ih =>
    intro t f a11 a12 hi ht hf h
    obtain ⟨f', rfl⟩ : ∃ f', f = f' + 1 + 1 := ⟨f - 2, by omega⟩
    rw [pk_m1]
    obtain ⟨e1, e2⟩ := h i (by omega)
    obtain ⟨o1, o2⟩ := h1 i (by omega)
    refine zt_ls_next (by omega) (by omega) e1 e2 o1 o2 (zt_ls_end (by omega) (by omega) pk_us (ih (t + 1 + 1) f' _ _ (by omega) (by omega) (by omega) (fun j hj => ?_)))
    rw [pk_un (by omega), pk_un (by omega)]
    exact h j (by omega)
theorem zt_ls {post : St2 → Prop} {k n : Nat} {val : Int32} (hk1 : 1 ≤ k) (hk : k ≤ 6) (hR : zt_R k n) (P : zt_P ((k + 1) / 2) (zt_sl k n) val a1 a2 a3 a4 a5 a6) (H : ∀ a8 a9 a10 a11 a12 : Nat → Int32, a9 0 = nI n → post (ft, ff, fc, 1, fu, a1, a2, a3, a4, a5, a6, a7, a8, a9, a10, a11, a12)) :
    ∀ d i t f, ∀ a8 a9 a10 a11 a12 : Nat → Int32, i + d + 1 = (k + 1) / 2 → t + d < 300 → d + 20 < f → (∀ j, j < i → a8 j = nI (4 * j)) → (∀ j, j ≤ i → a11 j = nI j) → (∀ j, j < i → a12 j = 1) → a12 i = 0 → wX_list_51 post ft ff fc fu f (nI i) (nI t) 0 a1 a2 a3 a4 a5 a6 a7 a8 a9 a10 a11 a12 := by
  intro d
  induction d with
  | zero =>
    intro i t f a8 a9 a10 a11 a12 hi ht hf h8 h11 h12 h0
    obtain ⟨f', rfl⟩ : ∃ f', f = f' + 1 := ⟨f - 1, by omega⟩
    have ei : i = (k + 1) / 2 - 1 := by omega
    subst ei
    refine zt_ls_word hk1 hk hR P (by omega) (h11 _ (Nat.le_refl _)) h0 h8 ?_
    have q := zt_ls_up (post := post) (ft := ft) (ff := ff) (fc := fc) (fl := 1) (fu := fu) (a3 := a3) (a4 := a4) (a5 := a5) (a6 := a6) (a7 := a7) (a8 := upd a8 ((k + 1) / 2 - 1) (nI (4 * ((k + 1) / 2 - 1)))) (a9 := upd a9 0 (nI n)) (a10 := upd a10 0 val) (l := (k + 1) / 2) (by omega) (fun i hi => ⟨(P.1 i hi).1, (P.1 i hi).2.1⟩) (fun a11 a12 => H _ _ _ a11 a12 pk_us) ((k + 1) / 2 - 1 + 1) (t + 1) f' a11 (upd a12 ((k + 1) / 2 - 1) 1) (by omega) (by omega) (by omega) (fun j hj => ⟨h11 j (by omega), ?_⟩)
    · rw [pk_m1] at q
      exact q
    · by_cases e : j = (k + 1) / 2 - 1
      · rw [e, pk_us]
      · rw [pk_un e]
        exact h12 j (by omega)
  | succ d ih =>
    intro i t f a8 a9 a10 a11 a12 hi ht hf h8 h11 h12 h0
    obtain ⟨f', rfl⟩ : ∃ f', f = f' + 1 := ⟨f - 1, by omega⟩
    obtain ⟨g5, g6⟩ := P.2.1 i (by omega)
    refine zt_ls_down (by omega) (by omega) (h11 i (Nat.le_refl i)) h0 (P.1 i (by omega)).1 g5 g6 (ih (i + 1) (t + 1) f' _ _ _ _ _ (by omega) (by omega) (by omega) (fun j hj => ?_) (fun j hj => ?_) (fun j hj => ?_) pk_us)
    · by_cases e : j = i
      · rw [e, pk_us]
      · rw [pk_un e]
        exact h8 j (by omega)
    · by_cases e : j = i + 1
      · rw [e, pk_us]
      · rw [pk_un e]
        exact h11 j (by omega)
    · rw [pk_un (by omega)]
      by_cases e : j = i
      · rw [e, pk_us]
      · rw [pk_un e]
        exact h12 j (by omega)
end
section
variable {ft ff fc fl fu : Int32} {a1 a2 a3 a4 a5 a6 a7 a8 a9 a10 a11 a12 : Nat → Int32}
theorem zt_list_t {post : St2 → Prop} {k n : Nat} {val : Int32} (hk1 : 1 ≤ k) (hk : k ≤ 6) (hR : zt_R k n) (P : zt_P ((k + 1) / 2) (zt_sl k n) val a1 a2 a3 a4 a5 a6) (H : ∀ a8 a9 a10 a11 a12 : Nat → Int32, a9 0 = nI n → post (0, ff, fc, 1, 1, a1, a2, a3, a4, a5, a6, a7, a8, a9, a10, a11, a12)) : wpX_list post (0, ff, fc, fl, 0, a1, a2, a3, a4, a5, a6, a7, a8, a9, a10, a11, a12) := by
  unfold wpX_list
  dsimp only
  refine br_t rfl (br_f (by decide) ?_)
  unfold wX_list_31
  refine nm_e (nm_e ⟨30, ?_⟩)
  refine zt_ls hk1 hk hR P H ((k + 1) / 2 - 1) 0 0 30 a8 a9 a10 _ _ (by omega) (by omega) (by omega) (fun j hj => absurd hj (by omega)) (fun j hj => ?_) (fun j hj => absurd hj (by omega)) pk_us
  rw [show j = 0 by omega, pk_us]
  rfl
theorem zt_list_c {post : St2 → Prop} (hp : post (ft, ff, fc, fl, 1, a1, a2, a3, a4, a5, a6, a7, a8, a9, a10, a11, a12)) : wpX_list post (ft, ff, fc, fl, 1, a1, a2, a3, a4, a5, a6, a7, a8, a9, a10, a11, a12) := by
  unfold wpX_list
  dsimp only
  exact br_f (by decide) hp
theorem zt_list_0 {post : St2 → Prop} (H : ∀ a11 a12 : Nat → Int32, post (-1, ff, fc, 0, 1, a1, a2, a3, a4, a5, a6, a7, a8, a9, a10, a11, a12)) : wpX_list post (-1, ff, fc, fl, 0, a1, a2, a3, a4, a5, a6, a7, a8, a9, a10, a11, a12) := by
  unfold wpX_list
  dsimp only
  refine br_t rfl (br_t rfl ?_)
  unfold wX_list_31
  exact nm_e (nm_e ⟨1, br_f (by decide) (br_t (by decide) (H _ _))⟩)
theorem zt_common_t {post : Int32 → St2 → Prop} {j m k n : Nat} {val : Int32} (hj : j ≤ 6) (hm : zt_R j m) (hk1 : 1 ≤ k) (hk : k ≤ 6) (hR : zt_R k n) (P : zt_P ((k + 1) / 2) (zt_sl k n) val a1 a2 a3 a4 a5 a6)
    (H1 : zt_beg j m k n → ∀ a8 a9 a10 a11 a12 : Nat → Int32, a9 0 = nI n → post (nI n) (0, ff, fc, 1, 1, a1, a2, a3, a4, a5, a6, a7, a8, a9, a10, a11, a12)) (H0 : ¬ zt_beg j m k n → ∀ a8 a9 a10 a11 a12 : Nat → Int32, a9 0 = nI n → post (-2) (0, ff, fc, 1, 1, a1, a2, a3, a4, a5, a6, a7, a8, a9, a10, a11, a12)) : wpX_common post (0, ff, fc, fl, 0, a1, a2, a3, a4, a5, a6, a7, a8, a9, a10, a11, a12) (nI m) := by
  unfold wpX_common
  dsimp only
  refine zt_isRow_t hj hm (br_f (by decide) (zt_list_t hk1 hk hR P (fun a8 a9 a10 a11 a12 h9 => ?_)))
  dsimp only
  refine ⟨2, br_f (by decide) ⟨pk_in 0 40 (by decide), ?_⟩⟩
  rw [sb_cl0, h9]
  exact zt_begins hj hk hm hR
    (fun b => br_f (by decide) (br_f (by decide) ⟨pk_in 0 40 (by decide), nm_e (nm_r (e' := 1) (by decide) (br_t (by decide) (H1 b a8 a9 a10 a11 a12 h9)))⟩))
    (fun b => br_t rfl (nm_r (e' := 1) (by decide) (br_t (by decide) (H0 b a8 a9 a10 a11 a12 h9))))
theorem zt_common_f {post : Int32 → St2 → Prop} {x : Int32} (h : ¬ zt_row x) (hp : post (-1) (ft, ff, fc, fl, fu, a1, a2, a3, a4, a5, a6, a7, a8, a9, a10, a11, a12)) : wpX_common post (ft, ff, fc, fl, fu, a1, a2, a3, a4, a5, a6, a7, a8, a9, a10, a11, a12) x := by
  unfold wpX_common
  dsimp only
  exact zt_isRow_f h (br_t rfl hp)
theorem zt_common_0 {post : Int32 → St2 → Prop} {j m : Nat} (hj : j ≤ 6) (hm : zt_R j m) (H : ∀ a11 a12 : Nat → Int32, post (-2) (-1, ff, fc, 0, 1, a1, a2, a3, a4, a5, a6, a7, a8, a9, a10, a11, a12)) : wpX_common post (-1, ff, fc, fl, 0, a1, a2, a3, a4, a5, a6, a7, a8, a9, a10, a11, a12) (nI m) := by
  unfold wpX_common
  dsimp only
  refine zt_isRow_t hj hm (br_f (by decide) (zt_list_0 (fun a11 a12 => ?_)))
  dsimp only
  exact ⟨1, br_t (by decide) (H a11 a12)⟩
end
end
section
/-! ===== takeOut, clear ===== -/
section
variable {ft ff fc fl fu : Int32} {a1 a2 a3 a4 a5 a6 a7 a8 a9 a10 a11 a12 : Nat → Int32}
theorem zt_unlink0 {post : St2 → Prop} {f : Nat} (hf : a2 0 = -1) (hf2 : f < 122) (hp : post (-1, nI (f + 1), fc, fl, fu, a1, a2, a3, a4, a5, a6, upd a7 f (nI 0), a8, a9, a10, a11, a12)) : wpX_unlink post (0, nI f, fc, fl, fu, a1, a2, a3, a4, a5, a6, a7, a8, a9, a10, a11, a12) (-1) (nI 0) := by
  unfold wpX_unlink
  dsimp only
  refine br_t rfl ?_
  unfold wX_unlink_18
  refine br_t rfl ⟨pk_in 0 122 (by decide), ?_⟩
  rw [nI_clamp (n := 0) (by decide), hf]
  refine zt_head0 ?_
  unfold wX_unlink_88
  exact ⟨pk_in f 122 hf2, nm_r (e' := upd a7 f (nI 0)) (by rw [nI_clamp (by omega)]) (nm_r (nI_1 f) hp)⟩
theorem zt_unlink1 {post : St2 → Prop} {f i e : Nat} (hi : i < 122) (he : e < 488) (hf : a2 i = -1) (h6 : a6 e = nI i) (hf2 : f < 122) (hp : post (ft, nI (f + 1), fc, fl, fu, a1, a2, a3, a4, a5, upd a6 e (-1), upd a7 f (nI i), a8, a9, a10, a11, a12)) : wpX_unlink post (ft, nI f, fc, fl, fu, a1, a2, a3, a4, a5, a6, a7, a8, a9, a10, a11, a12) (nI e) (nI i) := by
  unfold wpX_unlink
  dsimp only
  refine br_f (zt_ne (by omega)) ⟨pk_in e 488 he, ?_⟩
  rw [nI_clamp (n := e) (by omega), h6]
  unfold wX_unlink_18
  refine br_t rfl ⟨pk_in i 122 hi, ?_⟩
  rw [nI_clamp (n := i) (by omega), hf]
  refine zt_head1 he ?_
  unfold wX_unlink_88
  exact ⟨pk_in f 122 hf2, nm_r (e' := upd a7 f (nI i)) (by rw [nI_clamp (by omega)]) (nm_r (nI_1 f) hp)⟩
theorem zt_drop {post : St2 → Prop} {i : Nat} {ab : Int32} (hi : i < 122) (ho : a1 i = 205057) (h : ∀ Q : St2 → Prop, (∀ u, post u → Q u) → wpX_unlink Q (ft, ff, fc, fl, fu, upd a1 i 205056, a2, a3, a4, a5, a6, a7, a8, a9, a10, a11, a12) ab (nI i)) : wpX_dropEntry post (ft, ff, fc, fl, fu, a1, a2, a3, a4, a5, a6, a7, a8, a9, a10, a11, a12) ab (nI (4 * i)) := by
  have e4 : nI (4 * i) / 4 = nI i := by
    show nI (4 * i) / nI 4 = nI i
    rw [pk_div (by omega) (by decide) (by decide), Nat.mul_div_cancel_left i (by decide)]
  have r4 : nI (4 * i) - nI (4 * i) / 4 * 4 = 0 := by
    show nI (4 * i) - nI (4 * i) / nI 4 * nI 4 = 0
    rw [pk_rem (by omega) (by decide) (by decide), Nat.mul_mod_right]
    rfl
  unfold wpX_dropEntry
  dsimp only
  refine ⟨by decide, nm_r e4 (zt_size1 hi ho ⟨pk_in (4 * i) 488 (by omega), zt_lesser hi ho (v := a3 (4 * i)) rfl (fun _ => ⟨pk_in i 122 hi, ?_⟩) (fun z => absurd ?_ z)⟩)⟩
  · rw [nI_clamp (n := i) (by omega), ho, r4]
    refine nm_r (e' := 12816) (by decide) (nm_r (e' := 0) (by decide) (nm_r (e' := 0) (by decide) (nm_r (e' := 801) (by decide) ⟨by decide, nm_r (e' := 0) rfl (nm_r (e' := 12816) (by decide) ⟨pk_in i 122 hi, nm_r (e' := upd a1 i 205056) (congrArg (upd a1 i) (by decide)) (br_t rfl (h _ (fun u hu => ?_)))⟩)⟩)))
    obtain ⟨t1, t2, t3, t4, t5, t6, t7, t8, t9, t10, t11, t12, t13, t14, t15, t16, t17⟩ := u
    exact hu
  · rw [nI_clamp (n := 4 * i) (by omega)]
    exact Int32.le_refl _
end
def zt_T (i : Nat) (a1 a2 a5 a6 a8 : Nat → Int32) : Prop :=
  (∀ j, j < i → a8 j = nI (4 * j) ∧ a1 j = 205057 ∧ a2 j = -1 ∧ a5 (4 * j) = 0) ∧ (∀ j, j + 1 < i → a6 (4 * j) = nI (j + 1)) ∧ (0 < i → a6 (4 * (i - 1)) = -1)
theorem zt_to94 {post : St2 → Prop} (H : ∀ u, post u) : ∀ i f, ∀ ft fc fl fu : Int32, ∀ a1 a2 a3 a4 a5 a6 a7 a8 a9 a10 a11 a12 : Nat → Int32, i ≤ 3 → i < f → (0 < i → ft = 0) → zt_T i a1 a2 a5 a6 a8 → wX_takeOut_94 post f (nI i + (-1)) ft (nI (122 - i)) fc fl fu a1 a2 a3 a4 a5 a6 a7 a8 a9 a10 a11 a12 := by
  intro i
  induction i with
  | zero =>
    intro f ft fc fl fu a1 a2 a3 a4 a5 a6 a7 a8 a9 a10 a11 a12 hi hf ht hT
    obtain ⟨f', rfl⟩ : ∃ f', f = f' + 1 := ⟨f - 1, by omega⟩
    exact br_t (by decide) (H _)
  | succ i ih =>
    intro f ft fc fl fu a1 a2 a3 a4 a5 a6 a7 a8 a9 a10 a11 a12 hi hf ht hT
    obtain ⟨f', rfl⟩ : ∃ f', f = f' + 1 := ⟨f - 1, by omega⟩
    obtain ⟨g1, g2, g3⟩ := hT
    obtain ⟨q8, q1, q2, q5⟩ := g1 i (by omega)
    have q6 : a6 (4 * i) = -1 := g3 (by omega)
    have ht0 := ht (by omega)
    subst ht0
    rw [pk_m1]
    refine br_f (nI_pos (by omega)) ⟨pk_in i 3 (by omega), nm_r (e' := nI (4 * i)) (by rw [nI_clamp (by omega), q8]) ⟨pk_in (4 * i) 488 (by omega), ?_⟩⟩
    rw [nI_clamp (n := 4 * i) (by omega), q5, q6]
    refine br_t rfl ⟨pk_in (4 * i) 488 (by omega), br_t rfl ?_⟩
    have ef : 122 - (i + 1) + 1 = 122 - i := by omega
    by_cases e : i = 0
    · subst e
      refine br_t rfl ?_
      unfold wX_takeOut_147
      refine zt_drop (i := 0) (by omega) q1 (fun Q hQ => zt_unlink0 q2 (by omega) (hQ _ (nm_e ?_)))
      exact ih f' _ _ _ _ _ _ _ _ _ _ _ _ _ _ _ _ (by omega) (by omega) (fun z => absurd z (by omega)) ⟨fun j hj => absurd hj (by omega), fun j hj => absurd hj (by omega), fun hj => absurd hj (by omega)⟩
    · have em : nI i - 1 = nI (i - 1) := pk_sub (b := 1) (by omega)
      rw [em]
      refine br_f (nI_ne0 (by omega) (by omega)) ⟨pk_in (i - 1) 3 (by omega), ?_⟩
      rw [nI_clamp (n := i - 1) (by omega), (g1 (i - 1) (by omega)).1]
      have p6 : a6 (4 * (i - 1)) = nI i := by
        rw [g2 (i - 1) (by omega), show i - 1 + 1 = i by omega]
      unfold wX_takeOut_147
      refine zt_drop (i := i) (by omega) q1 (fun Q hQ => zt_unlink1 (by omega) (by omega) q2 p6 (by omega) (hQ _ (nm_e ?_)))
      rw [ef]
      refine ih f' _ _ _ _ _ _ _ _ _ _ _ _ _ _ _ _ (by omega) (by omega) (fun _ => rfl) ⟨fun j hj => ?_, fun j hj => ?_, fun _ => pk_us⟩
      · rw [pk_un (by omega)]
        exact g1 j (by omega)
      · rw [pk_un (by omega)]
        exact g2 j (by omega)
section
variable {fc fl fu : Int32} {a1 a2 a3 a4 a5 a6 a7 a9 a10 a11 a12 : Nat → Int32}
theorem zt_to13 {post : St2 → Prop} {k n : Nat} {val : Int32} (hk1 : 1 ≤ k) (hk : k ≤ 6) (hR : zt_R k n) (P : zt_P ((k + 1) / 2) (zt_sl k n) val a1 a2 a3 a4 a5 a6) (H : ∀ u, post u) :
    ∀ d i, ∀ (x2 : Int32) (a8 : Nat → Int32), i + d = (k + 1) / 2 → (i < (k + 1) / 2 → x2 = nI i) → (∀ j, j < i → a8 j = nI (4 * j)) → wX_takeOut_13 post (nI n) (nI ((k + 1) / 2)) 0 (nI (122 - (k + 1) / 2)) fc fl fu (d + 1) x2 (nI i) a1 a2 a3 a4 a5 a6 a7 a8 a9 a10 a11 a12 := by
  intro d
  induction d with
  | zero =>
    intro i x2 a8 hi hx h8
    refine pk_le ((k + 1) / 2) i (fun _ => ?_) (fun z => absurd z (by omega))
    have ek : nI ((k + 1) / 2) - 1 = nI ((k + 1) / 2 - 1) := pk_sub (b := 1) (by omega)
    rw [ek, nI_clamp (n := (k + 1) / 2 - 1) (by omega), h8 ((k + 1) / 2 - 1) (by omega), nI_clamp (n := 4 * ((k + 1) / 2 - 1)) (by omega)]
    refine ⟨pk_in ((k + 1) / 2 - 1) 3 (by omega), pk_in (4 * ((k + 1) / 2 - 1)) 488 (by omega), nm_e (nm_e (nm_e ⟨(k + 1) / 2 + 1, ?_⟩))⟩
    have q := zt_to94 H ((k + 1) / 2) ((k + 1) / 2 + 1) 0 (fc - 1) fl 0 a1 a2 a3 a4 (upd a5 (4 * ((k + 1) / 2 - 1)) 0) a6 a7 a8 a9 a10 a11 a12 (by omega) (by omega) (fun _ => rfl) ⟨fun j hj => ⟨h8 j (by omega), (P.1 j hj).1, (P.1 j hj).2.1, ?_⟩, fun j hj => (P.2.1 j hj).2, fun _ => P.2.2.2.1⟩
    · rw [sb_m1 (by omega)] at q
      exact q
    · by_cases e : j = (k + 1) / 2 - 1
      · rw [e, pk_us]
      · rw [pk_un (by omega)]
        exact (P.2.1 j (by omega)).1
  | succ d ih =>
    intro i x2 a8 hi hx h8
    have ex := hx (by omega)
    subst ex
    obtain ⟨o, fo, sl⟩ := P.1 i (by omega)
    refine pk_le ((k + 1) / 2) i (fun z => absurd z (by omega)) (fun _ => zt_slice hk hR (by omega) (zt_entryFor (by omega) o fo sl (fun _ => ⟨pk_in i 3 (by omega), nm_r (e' := upd a8 i (nI (4 * i))) (by rw [nI_clamp (by omega)]) ⟨pk_in i 3 (by omega), ?_⟩⟩) (fun z => absurd rfl z)))
    rw [nI_clamp (n := i) (by omega), pk_us, nI_clamp (n := 4 * i) (by omega)]
    refine ⟨pk_in (4 * i) 488 (by omega), nm_e (nm_r (nI_1 i) (ih (i + 1) _ _ (by omega) (fun z => (P.2.1 i z).2) (fun j hj => ?_)))⟩
    by_cases e : j = i
    · rw [e, pk_us]
    · rw [pk_un e]
      exact h8 j (by omega)
theorem zt_takeOut {post : St2 → Prop} {k n : Nat} {val : Int32} {a8 : Nat → Int32} (hk1 : 1 ≤ k) (hk : k ≤ 6) (hR : zt_R k n) (P : zt_P ((k + 1) / 2) (zt_sl k n) val a1 a2 a3 a4 a5 a6) (H : ∀ u, post u) : wpX_takeOut post (0, nI (122 - (k + 1) / 2), fc, fl, fu, a1, a2, a3, a4, a5, a6, a7, a8, a9, a10, a11, a12) (nI n) := by
  unfold wpX_takeOut
  dsimp only
  exact zt_layers hk hR ⟨(k + 1) / 2 + 1, zt_to13 hk1 hk hR P H ((k + 1) / 2) 0 0 a8 (by omega) (fun _ => rfl) (fun j hj => absurd hj (by omega))⟩
end
section
variable {ft ff fc fl fu : Int32} {a1 a2 a3 a4 a5 a6 a7 a8 a9 a10 a11 a12 : Nat → Int32}
theorem zt_clear_t {post : Int32 → St2 → Prop} {j m k n : Nat} {val : Int32} (hj : j ≤ 6) (hm : zt_R j m) (hk1 : 1 ≤ k) (hk : k ≤ 6) (hR : zt_R k n) (P : zt_P ((k + 1) / 2) (zt_sl k n) val a1 a2 a3 a4 a5 a6) (h9 : a9 0 = nI n)
    (H1 : zt_beg j m k n → ∀ u, post 1 u) (H0 : ¬ zt_beg j m k n → ∀ u, post 0 u) : wpX_clear post (0, nI (122 - (k + 1) / 2), fc, 1, 1, a1, a2, a3, a4, a5, a6, a7, a8, a9, a10, a11, a12) (nI m) := by
  unfold wpX_clear
  dsimp only
  refine zt_isRow_t hj hm (br_f (by decide) (zt_list_c ?_))
  dsimp only
  refine ⟨2, br_f (by decide) ⟨pk_in 0 40 (by decide), ?_⟩⟩
  rw [sb_cl0, h9]
  refine zt_begins hj hk hm hR
    (fun b => br_f (by decide) ⟨pk_in 0 40 (by decide), zt_takeOut hk1 hk hR P (fun u => ?_)⟩)
    (fun b => br_t rfl (nm_r (e' := 1) (by decide) (br_t (by decide) (H0 b _))))
  obtain ⟨t1, t2, t3, t4, t5, t6, t7, t8, t9, t10, t11, t12, t13, t14, t15, t16, t17⟩ := u
  exact nm_r (e' := 1) (by decide) (nm_r (e' := 1) (by decide) (br_t (by decide) (H1 b _)))
theorem zt_clear_f {post : Int32 → St2 → Prop} {x : Int32} (h : ¬ zt_row x) (hp : ∀ u, post (-1) u) : wpX_clear post (ft, ff, fc, fl, fu, a1, a2, a3, a4, a5, a6, a7, a8, a9, a10, a11, a12) x := by
  unfold wpX_clear
  dsimp only
  exact zt_isRow_f h (br_t rfl (hp _))
theorem zt_clear_0 {post : Int32 → St2 → Prop} {j m : Nat} (hj : j ≤ 6) (hm : zt_R j m) (hp : ∀ u, post 0 u) : wpX_clear post (ft, ff, fc, 0, 1, a1, a2, a3, a4, a5, a6, a7, a8, a9, a10, a11, a12) (nI m) := by
  unfold wpX_clear
  dsimp only
  refine zt_isRow_t hj hm (br_f (by decide) (zt_list_c ?_))
  dsimp only
  exact ⟨1, br_t (by decide) (hp _)⟩
end
end
section
/-! ===== the law ===== -/
theorem zt_upstep {Q : Int32 → Prop} {x m : Nat} (hx : x < 524288) (hm : m < 524288) (h : Q (nI (zt_up m x))) : (nI x = nI m → Q (nI x)) ∧ (¬ nI x = nI m → ((nI x < 8 * nI m → Q (nI x)) ∧ (¬ nI x < 8 * nI m → ∀ y : Int32, y = nI x >>> ((3 : Int32) &&& 31) → Q y))) := by
  unfold zt_up at h
  refine pk_eq x m (fun e => ?_) (fun e => ?_)
  · rw [if_pos e] at h
    exact h
  · rw [if_neg e] at h
    refine pk_lt x (8 * m) (fun z => ?_) (fun z => nm_r (e' := nI (x / 8)) (pk_shrN (by omega) _ 3 (by decide)) ?_) rfl (pk_mul 8 m)
    · rw [if_pos z] at h
      exact h
    · rw [if_neg (by omega)] at h
      exact h
theorem zt_word_row {x : Int32} (h : zt_word x) : zt_row x := by
  obtain ⟨k, n, _, h6, hR, e⟩ := h
  exact ⟨k, n, h6, hR, e⟩
theorem zt_row_cases {x : Int32} (h : zt_row x) : x = 1 ∨ zt_word x := by
  obtain ⟨k, n, h6, hR, e⟩ := h
  rcases Nat.eq_zero_or_pos k with e0 | e0
  · subst e0
    have h1 : 1 ≤ n := hR.1
    have h2 : n < 2 * 1 := hR.2
    rw [show n = 1 by omega] at e
    exact Or.inl e
  · exact Or.inr ⟨k, n, e0, h6, hR, e⟩
section
variable {post : Int32 → St0 → Prop} {mc ms kc ks : Nat} {ft ff fc fl fu : Int32} {a1 a2 a3 a4 a5 a6 a7 a8 a9 a10 a11 a12 : Nat → Int32}
theorem zt_skip {x0 x3 x7 : Int32} (h : wL_lawOf_326 post mc ms x0 x3 x7 0 kc ks ft ff fc fl fu a1 a2 a3 a4 a5 a6 a7 a8 a9 a10 a11 a12) : wL_lawOf_151 post mc ms x0 x3 x7 0 kc ks ft ff fc fl fu a1 a2 a3 a4 a5 a6 a7 a8 a9 a10 a11 a12 :=
  br_t rfl (br_t rfl (br_t rfl (br_t rfl (br_t rfl (br_t rfl (br_t rfl h))))))
theorem zt_run {n m : Nat} {x7 : Int32} (hn : n < 524288) (hm : m < 524288) (h1 : zt_ups m 6 n = m → wL_lawOf_326 post mc ms (nI n) (nI m) x7 1 kc ks ft ff fc fl fu a1 a2 a3 a4 a5 a6 a7 a8 a9 a10 a11 a12) (h0 : ¬ zt_ups m 6 n = m → wL_lawOf_326 post mc ms (nI n) (nI m) x7 0 kc ks ft ff fc fl fu a1 a2 a3 a4 a5 a6 a7 a8 a9 a10 a11 a12) : wL_lawOf_151 post mc ms (nI n) (nI m) x7 1 kc ks ft ff fc fl fu a1 a2 a3 a4 a5 a6 a7 a8 a9 a10 a11 a12 := by
  have b1 := zt_up_le m n
  have b2 := zt_up_le m (zt_up m n)
  have b3 := zt_up_le m (zt_up m (zt_up m n))
  have b4 := zt_up_le m (zt_up m (zt_up m (zt_up m n)))
  have b5 := zt_up_le m (zt_up m (zt_up m (zt_up m (zt_up m n))))
  have b6 := zt_up_le m (zt_up m (zt_up m (zt_up m (zt_up m (zt_up m n)))))
  refine br_f (by decide) (zt_upstep (Q := fun y => wL_lawOf_180 post mc ms (nI n) (nI m) x7 1 y kc ks ft ff fc fl fu a1 a2 a3 a4 a5 a6 a7 a8 a9 a10 a11 a12) hn hm ?_)
  refine br_f (by decide) (zt_upstep (Q := fun y => wL_lawOf_206 post mc ms (nI n) (nI m) x7 1 y kc ks ft ff fc fl fu a1 a2 a3 a4 a5 a6 a7 a8 a9 a10 a11 a12) (by omega) hm ?_)
  refine br_f (by decide) (zt_upstep (Q := fun y => wL_lawOf_232 post mc ms (nI n) (nI m) x7 1 y kc ks ft ff fc fl fu a1 a2 a3 a4 a5 a6 a7 a8 a9 a10 a11 a12) (by omega) hm ?_)
  refine br_f (by decide) (zt_upstep (Q := fun y => wL_lawOf_258 post mc ms (nI n) (nI m) x7 1 y kc ks ft ff fc fl fu a1 a2 a3 a4 a5 a6 a7 a8 a9 a10 a11 a12) (by omega) hm ?_)
  refine br_f (by decide) (zt_upstep (Q := fun y => wL_lawOf_284 post mc ms (nI n) (nI m) x7 1 y kc ks ft ff fc fl fu a1 a2 a3 a4 a5 a6 a7 a8 a9 a10 a11 a12) (by omega) hm ?_)
  refine br_f (by decide) (zt_upstep (Q := fun y => wL_lawOf_310 post mc ms (nI n) (nI m) x7 1 y kc ks ft ff fc fl fu a1 a2 a3 a4 a5 a6 a7 a8 a9 a10 a11 a12) (by omega) hm ?_)
  exact br_f (by decide) (pk_eq (zt_ups m 6 n) m h1 h0 rfl rfl (by show zt_up m (zt_up m (zt_up m (zt_up m (zt_up m (zt_up m n))))) < 2 ^ 31; omega) (by omega))
theorem zt_326F {x0 x3 : Int32} (hp : post 1 ()) (h : ¬ zt_row x3) : wL_lawOf_326 post mc ms x0 x3 0 0 kc ks ft ff fc fl fu a1 a2 a3 a4 a5 a6 a7 a8 a9 a10 a11 a12 := by
  unfold wL_lawOf_326
  refine zt_common_f h (br_t rfl ?_)
  unfold wL_lawOf_354
  refine br_t rfl (zt_clear_f h (fun u => ?_))
  obtain ⟨t1, t2, t3, t4, t5, t6, t7, t8, t9, t10, t11, t12, t13, t14, t15, t16, t17⟩ := u
  exact br_t rfl (br_t rfl hp)
theorem zt_326A {j m : Nat} {x0 : Int32} (hp : post 1 ()) (hj : j ≤ 6) (hm : zt_R j m) : wL_lawOf_326 post mc ms x0 (nI m) 1 0 kc ks (-1) ff fc fl 0 a1 a2 a3 a4 a5 a6 a7 a8 a9 a10 a11 a12 := by
  unfold wL_lawOf_326
  refine zt_common_0 hj hm (fun a11 a12 => br_f (by decide) (br_t rfl ?_))
  unfold wL_lawOf_354
  refine br_t rfl (zt_clear_0 hj hm (fun u => ?_))
  obtain ⟨t1, t2, t3, t4, t5, t6, t7, t8, t9, t10, t11, t12, t13, t14, t15, t16, t17⟩ := u
  exact br_f (by decide) (br_t rfl (br_t rfl hp))
theorem zt_326B1 {j m k n : Nat} {val : Int32} (hp : post 1 ()) (hj : j ≤ 6) (hm : zt_R j m) (hk1 : 1 ≤ k) (hk : k ≤ 6) (hR : zt_R k n) (P : zt_P ((k + 1) / 2) (zt_sl k n) val a1 a2 a3 a4 a5 a6) (b : zt_beg j m k n) : wL_lawOf_326 post mc ms (nI n) (nI m) 1 1 kc ks 0 (nI (122 - (k + 1) / 2)) fc fl 0 a1 a2 a3 a4 a5 a6 a7 a8 a9 a10 a11 a12 := by
  unfold wL_lawOf_326
  refine zt_common_t hj hm hk1 hk hR P (fun _ a8 a9 a10 a11 a12 h9 => br_f (by decide) (br_f (by decide) ?_)) (fun z => absurd b z)
  unfold wL_lawOf_354
  refine br_t rfl (zt_clear_t hj hm hk1 hk hR P h9 (fun _ u => ?_) (fun z => absurd b z))
  obtain ⟨t1, t2, t3, t4, t5, t6, t7, t8, t9, t10, t11, t12, t13, t14, t15, t16, t17⟩ := u
  exact br_f (by decide) (br_f (by decide) (br_t rfl hp))
theorem zt_326B0 {j m k n : Nat} {val : Int32} (hp : post 1 ()) (hj : j ≤ 6) (hm : zt_R j m) (hk1 : 1 ≤ k) (hk : k ≤ 6) (hR : zt_R k n) (P : zt_P ((k + 1) / 2) (zt_sl k n) val a1 a2 a3 a4 a5 a6) (b : ¬ zt_beg j m k n) : wL_lawOf_326 post mc ms (nI n) (nI m) 1 0 kc ks 0 (nI (122 - (k + 1) / 2)) fc fl 0 a1 a2 a3 a4 a5 a6 a7 a8 a9 a10 a11 a12 := by
  unfold wL_lawOf_326
  refine zt_common_t hj hm hk1 hk hR P (fun z => absurd z b) (fun _ a8 a9 a10 a11 a12 h9 => br_f (by decide) (br_t rfl ?_))
  unfold wL_lawOf_354
  refine br_t rfl (zt_clear_t hj hm hk1 hk hR P h9 (fun z => absurd z b) (fun _ u => ?_))
  obtain ⟨t1, t2, t3, t4, t5, t6, t7, t8, t9, t10, t11, t12, t13, t14, t15, t16, t17⟩ := u
  exact br_f (by decide) (br_t rfl (br_t rfl hp))
theorem zt_97 {x0 x3 x5 z : Int32} (h1 : zt_row x3 → wL_lawOf_119 post mc ms x0 x3 x5 1 kc ks ft ff fc fl fu a1 a2 a3 a4 a5 a6 a7 a8 a9 a10 a11 a12) (h0 : ¬ zt_row x3 → wL_lawOf_119 post mc ms x0 x3 x5 0 kc ks ft ff fc fl fu a1 a2 a3 a4 a5 a6 a7 a8 a9 a10 a11 a12) : wL_lawOf_97 post mc ms x0 x3 x5 z z kc ks ft ff fc fl fu a1 a2 a3 a4 a5 a6 a7 a8 a9 a10 a11 a12 := by
  unfold wL_lawOf_97
  refine br_t rfl (br_c (fun e => ?_) (fun e => zt_lword (fun hw => br_f (by decide) ?_) (fun hw => br_t rfl (h0 (fun hr => ?_)))))
  · unfold wL_lawOf_114
    exact h1 ⟨0, 1, by decide, ⟨by decide, by decide⟩, e⟩
  · unfold wL_lawOf_114
    exact h1 (zt_word_row hw)
  · rcases zt_row_cases hr with a | a
    · exact e a
    · exact hw a
/-- no word was put -/
theorem zt_tailA {x0 x3 z : Int32} (hp : post 1 ()) : wL_lawOf_97 post mc ms x0 x3 0 z z kc ks (-1) ff fc fl 0 a1 a2 a3 a4 a5 a6 a7 a8 a9 a10 a11 a12 := by
  refine zt_97 (fun hr => ?_) (fun hr => br_t rfl (br_t rfl (zt_skip (zt_326F hp hr))))
  obtain ⟨j, m, hj, hm, rfl⟩ := hr
  exact br_t rfl (br_t rfl (zt_skip (zt_326A hp hj hm)))
/-- a word was put -/
theorem zt_tailB {k n : Nat} {val x3 z : Int32} (hp : post 1 ()) (hk1 : 1 ≤ k) (hk : k ≤ 6) (hR : zt_R k n) (P : zt_P ((k + 1) / 2) (zt_sl k n) val a1 a2 a3 a4 a5 a6) : wL_lawOf_97 post mc ms (nI n) x3 1 z z kc ks 0 (nI (122 - (k + 1) / 2)) fc fl 0 a1 a2 a3 a4 a5 a6 a7 a8 a9 a10 a11 a12 := by
  refine zt_97 (fun hr => ?_) (fun hr => br_f (by decide) (br_t rfl (br_t rfl (zt_skip (zt_326F hp hr)))))
  obtain ⟨j, m, hj, hm, rfl⟩ := hr
  have bn := zt_top hk hR
  have bm := zt_top hj hm
  exact br_f (by decide) (br_f (by decide) (br_f (by decide) (pk_le m n
    (fun hle => zt_run bn bm (fun e => zt_326B1 hp hj hm hk1 hk hR P ((zt_up6 hj hk hm hR hle).mp e)) (fun e => zt_326B0 hp hj hm hk1 hk hR P (fun b => e ((zt_up6 hj hk hm hR hle).mpr b))))
    (fun hlt => zt_skip (zt_326B0 hp hj hm hk1 hk hR P (zt_gt hlt))))))
theorem zt_B {k n : Nat} {val v row g : Int32} (hp : post 1 ()) (hk1 : 1 ≤ k) (hk : k ≤ 6) (hR : zt_R k n) (P : zt_P ((k + 1) / 2) (zt_sl k n) val a1 a2 a3 a4 a5 a6) (hg1 : zt_word v → g = 1) (hg0 : ¬ zt_word v → g = 0) : wL_lawOf_38 post mc ms (nI n) val v row 1 g 1 1 kc ks 0 (nI (122 - (k + 1) / 2)) fc fl 0 a1 a2 a3 a4 a5 a6 a7 a8 a9 a10 a11 a12 := by
  have bn := zt_top hk hR
  by_cases hv : zt_word v
  · rw [hg1 hv]
    obtain ⟨t, m, ht1, ht, hM, rfl⟩ := hv
    have bm := zt_top ht hM
    have ne : ¬ m = n → ¬ nI m = nI n := fun h e => h ((nI_eq (by omega) (by omega)).mp e)
    refine br_t rfl (zt_get_t hk1 hk hR ht1 ht hM P (fun e => br_f (by decide) (br_t (by rw [e]) (br_t rfl ?_))) (fun e => br_f (by decide) (br_f (ne e) (br_t rfl ?_))))
    · exact zt_has_t hk1 hk hR ht1 ht hM P (fun e => br_f (by decide) (br_f (by decide) (br_t (by rw [e]) (zt_tailB hp hk1 hk hR P)))) (fun h => absurd e h)
    · exact zt_has_t hk1 hk hR ht1 ht hM P (fun h => absurd h e) (fun _ => br_f (by decide) (br_f (by decide) (br_f (ne e) (zt_tailB hp hk1 hk hR P))))
  · rw [hg0 hv]
    have ne : ¬ v = nI n := fun e => hv ⟨k, n, hk1, hk, hR, e⟩
    exact br_t rfl (zt_get_f hv (br_f (by decide) (br_f ne (br_t rfl (zt_has_f hv (br_t rfl (zt_tailB hp hk1 hk hR P)))))))
end
theorem zt_lawOf {post : Int32 → St0 → Prop} (hp : post 1 ()) (w val v row : Int32) : wpL_lawOf post 13 2424 () w val v row := by
  unfold wpL_lawOf
  refine ⟨by decide, by decide, 12, 2407, by decide, by decide, zt_init (fun a7 h7 => ?_)⟩
  dsimp only
  refine zt_lword (fun hw => ?_) (fun hw => ?_)
  · obtain ⟨k, n, hk1, hk, hR, rfl⟩ := hw
    refine zt_lword (fun hv => ?_) (fun hv => ?_)
    · exact zt_put_t hk1 hk hR h7 (fun a1 a2 a3 a4 a5 a6 P => br_f (by decide) (zt_B hp hk1 hk hR P (fun _ => rfl) (fun z => absurd hv z)))
    · exact zt_put_t hk1 hk hR h7 (fun a1 a2 a3 a4 a5 a6 P => br_f (by decide) (zt_B hp hk1 hk hR P (fun z => absurd z hv) (fun _ => rfl)))
  · refine zt_lword (fun hv => ?_) (fun hv => ?_)
    · refine zt_put_f hw (br_t rfl ?_)
      obtain ⟨t, m, ht1, ht, hM, rfl⟩ := hv
      exact br_t rfl (zt_get_0 ht1 ht hM (br_t rfl (br_t rfl (zt_has_0 ht1 ht hM (br_f (by decide) (br_t rfl (zt_tailA hp)))))))
    · refine zt_put_f hw (br_t rfl ?_)
      exact br_t rfl (zt_get_f hv (br_t rfl (br_t rfl (zt_has_f hv (br_t rfl (zt_tailA hp))))))
theorem zt_cell {post : Int32 → Prop} {L : Nat} {xs : Nat → Int32} (i : Nat) (hL : L ≤ 4) (hi : i < 4) (H : ∀ r, post r) : wpL_cellAt post L xs () (nI i) :=
  pk_le L i (fun _ => H 0) (fun z => ⟨pk_in i L z, H _⟩)
theorem i_vc (xs : Nat → Int32) (L : Nat) (hL : L ≤ 4) : wpL_law (fun r => r = 1) L xs := by
  unfold wpL_law
  exact zt_cell 0 hL (by decide) (fun r1 => zt_cell 1 hL (by decide) (fun r2 => zt_cell 2 hL (by decide) (fun r3 => zt_cell 3 hL (by decide) (fun r4 => ⟨13, 2424, by decide, by decide, zt_lawOf rfl r1 r2 r3 r4⟩))))
end
