section
/-! words: a byte's word, its letters, slices, key, place -/
def ly_wd (x : Nat) : Nat :=
  if x % 4 = 0 then 8 + x / 4 % 4
  else if x % 4 = 1 then 8 * (8 + x / 4 % 4) + x / 16 % 4
  else if x % 4 = 2 then 8 * (8 * (8 + x / 4 % 4) + x / 16 % 4) + x / 64 % 2
  else 8 * (8 * (8 * (8 + x / 4 % 4) + x / 16 % 4) + x / 64 % 2) + x / 128 % 2
def ly_W (m : Nat) : Prop := ∃ x, x < 256 ∧ m = ly_wd x
def ly_R (m : Nat) : Prop := m = 1 ∨ ly_W m
def ly_sz (m : Nat) : Nat := if m < 8 then 0 else if m < 64 then 1 else if m < 512 then 2 else if m < 4096 then 3 else 4
def ly_ls (m : Nat) : Nat := (ly_sz m + 1) / 2
def ly_sc (m l : Nat) : Nat :=
  if 2 * l + 1 < ly_sz m then 9 * (m / 8 ^ (ly_sz m - 1 - 2 * l) % 8 + 1) + m / 8 ^ (ly_sz m - 2 - 2 * l) % 8 + 1
  else 9 * (m / 8 ^ (ly_sz m - 1 - 2 * l) % 8 + 1)
def ly_s1 (m : Nat) : Nat := if ly_ls m = 1 then 0 else ly_sc m 1
def ly_ky (m : Nat) : Nat := 81 * ly_sc m 0 + ly_s1 m
def ly_ka (m : Nat) : Nat := if ly_ls m = 1 then 0 else ly_sc m 0
def ly_ta (m : Nat) : Nat := if ly_ls m = 1 then ly_sc m 0 else ly_sc m 1
def ly_ex (w s : Nat) : Nat := if s % 9 = 0 then 8 * w + s / 9 - 1 else 8 * (8 * w + s / 9 - 1) + s % 9 - 1
def ly_wa (k t : Nat) : Nat := if k = 0 then ly_ex 1 t else ly_ex (ly_ex 1 k) t
/-- slices of a first layer, slices of a second one -/
def ly_S0 (s : Nat) : Prop := 9 ≤ s ∧ s < 45 ∧ s % 9 ≤ 4
def ly_S1 (s : Nat) : Prop := 9 ≤ s ∧ s < 27 ∧ s % 9 ≤ 2
def ly_bg (r m : Nat) : Prop := ly_sz r ≤ ly_sz m ∧ m / 8 ^ (ly_sz m - ly_sz r) = r
/-! facts of one word -/
theorem ly_f1 : ∀ x, x < 256 → (8 ≤ ly_wd x ∧ ly_wd x < 8192 ∧ 1 ≤ ly_sz (ly_wd x) ∧ ly_sz (ly_wd x) ≤ 4 ∧ 8 ^ ly_sz (ly_wd x) ≤ ly_wd x ∧ ly_wd x < 2 * 8 ^ ly_sz (ly_wd x)) := by decide +kernel
theorem ly_f2a : ∀ x, x < 256 → (9 ≤ ly_sc (ly_wd x) 0 ∧ ly_sc (ly_wd x) 0 < 45 ∧ ly_sc (ly_wd x) 0 % 9 ≤ 4) := by decide +kernel
theorem ly_f2b : ∀ x, x < 256 → (ly_ls (ly_wd x) = 1 ∨ (ly_ls (ly_wd x) = 2 ∧ 9 ≤ ly_sc (ly_wd x) 1 ∧ ly_sc (ly_wd x) 1 < 27 ∧ ly_sc (ly_wd x) 1 % 9 ≤ 2)) := by decide +kernel
theorem ly_f2c : ∀ x, x < 256 → ly_wa (ly_ka (ly_wd x)) (ly_ta (ly_wd x)) = ly_wd x := by decide +kernel
theorem ly_f3 : ∀ x, x < 256 → ∀ k, k < 4 → k + 1 ≤ ly_sz (ly_wd x) → ly_wd x / 8 ^ (ly_sz (ly_wd x) - (k + 1)) = ly_wd (x / 4 * 4 + k) := by decide +kernel
theorem ly_f4 : ∀ x, x < 256 → ly_wd x / 8 ^ ly_sz (ly_wd x) = 1 := by decide +kernel
theorem ly_f5 : ∀ x, x < 256 → (if ly_wd x < 16 then 1 else if ly_wd x < 128 then 2 else if ly_wd x < 1024 then 3 else 4) = ly_sz (ly_wd x) := by decide +kernel
def ly_kk (m : Nat) : Nat → Nat
  | 0 => 0
  | i + 1 => if i < ly_sz m then 9 * ly_kk m i + (1 + m / 8 ^ (ly_sz m - 1 - i) % 8) else 9 * ly_kk m i + 0
theorem ly_f6 : ∀ x, x < 256 → ly_kk (ly_wd x) 4 = ly_ky (ly_wd x) := by decide +kernel
theorem ly_W1 {m : Nat} (h : ly_W m) : 8 ≤ m ∧ m < 8192 ∧ 1 ≤ ly_sz m ∧ ly_sz m ≤ 4 ∧ 8 ^ ly_sz m ≤ m ∧ m < 2 * 8 ^ ly_sz m := by
  obtain ⟨x, hx, rfl⟩ := h
  exact ly_f1 x hx
theorem ly_WS0 {m : Nat} (h : ly_W m) : ly_S0 (ly_sc m 0) := by
  obtain ⟨x, hx, rfl⟩ := h
  exact ly_f2a x hx
theorem ly_WS1 {m : Nat} (h : ly_W m) : ly_ls m = 1 ∨ (ly_ls m = 2 ∧ ly_S1 (ly_sc m 1)) := by
  obtain ⟨x, hx, rfl⟩ := h
  exact ly_f2b x hx
theorem ly_Wwa {m : Nat} (h : ly_W m) : ly_wa (ly_ka m) (ly_ta m) = m := by
  obtain ⟨x, hx, rfl⟩ := h
  exact ly_f2c x hx
theorem ly_W8 {m : Nat} (h : ly_W m) : m / 8 ^ ly_sz m = 1 := by
  obtain ⟨x, hx, rfl⟩ := h
  exact ly_f4 x hx
theorem ly_sz1 : ly_sz 1 = 0 := by decide
theorem ly_R1 {m : Nat} (h : ly_R m) : 1 ≤ m ∧ m < 8192 ∧ ly_sz m ≤ 4 ∧ 8 ^ ly_sz m ≤ m ∧ m < 2 * 8 ^ ly_sz m := by
  rcases h with rfl | h
  · decide
  · have := ly_W1 h
    omega
theorem ly_R8 {m : Nat} (h : ly_R m) : m / 8 ^ ly_sz m = 1 := by
  rcases h with rfl | h
  · decide
  · exact ly_W8 h
/-- the beginnings of a word are words, those of a row rows -/
theorem ly_Wp {m k : Nat} (h : ly_W m) (h1 : 1 ≤ k) (hk : k ≤ ly_sz m) : ly_W (m / 8 ^ (ly_sz m - k)) ∧ ly_sz (m / 8 ^ (ly_sz m - k)) = k := by
  obtain ⟨x, hx, rfl⟩ := h
  have h4 := (ly_f1 x hx).2.2.2.1
  obtain ⟨j, rfl⟩ : ∃ j, k = j + 1 := ⟨k - 1, by omega⟩
  have hj : j < 4 := by omega
  have e := ly_f3 x hx j hj hk
  have hy : x / 4 * 4 + j < 256 := by omega
  refine ⟨⟨_, hy, e⟩, ?_⟩
  rw [e]
  have key : ∀ z, z < 256 → ly_sz (ly_wd z) = z % 4 + 1 := by decide +kernel
  rw [key _ hy]
  omega
theorem ly_Rp {m k : Nat} (h : ly_R m) (hk : k ≤ ly_sz m) : ly_R (m / 8 ^ (ly_sz m - k)) ∧ ly_sz (m / 8 ^ (ly_sz m - k)) = k := by
  by_cases h0 : k = 0
  · subst h0
    rw [Nat.sub_zero, ly_R8 h]
    exact ⟨Or.inl rfl, ly_sz1⟩
  · rcases h with rfl | h
    · rw [ly_sz1] at hk
      omega
    · have := ly_Wp h (by omega) hk
      exact ⟨Or.inr this.1, this.2⟩
/-! small ints -/
theorem ly_8 {w y : Nat} {z : Int32} (h : z = nI y) : 8 * nI w + z = nI (8 * w + y) := by
  rw [h]
  exact (congrArg (· + nI y) (pk_mul 8 w)).trans (nI_add _ _)
theorem ly_g1 : ∀ x, x < 256 → 1 + (nI x &&& 3) = nI (1 + x % 4) := by decide +kernel
theorem ly_g2 : ∀ x, x < 256 → 8 + ((nI x >>> ((2 : Int32) &&& 31)) &&& 3) = nI (8 + x / 4 % 4) := by decide +kernel
theorem ly_g3 : ∀ x, x < 256 → ((nI x >>> ((4 : Int32) &&& 31)) &&& 3) = nI (x / 16 % 4) := by decide +kernel
theorem ly_g4 : ∀ x, x < 256 → ((nI x >>> ((6 : Int32) &&& 31)) &&& 1) = nI (x / 64 % 2) := by decide +kernel
theorem ly_g5 : ∀ x, x < 256 → ((nI x >>> ((7 : Int32) &&& 31)) &&& 1) = nI (x / 128 % 2) := by decide +kernel
theorem ly_cnt : ∀ d, d < 9 → (((3 * nI d) &&& 31).toBitVec.smod 32).toNat = 3 * d := by decide +kernel
theorem ly_sh {m d : Nat} (hm : m < 2 ^ 31) (hd : d < 9) : nI m >>> ((3 * nI d) &&& 31) = nI (m / 8 ^ d) := by
  rw [pk_shrN hm _ (3 * d) (ly_cnt d hd), Nat.pow_mul]
theorem ly_sub1 {r l : Nat} (h : 2 * l + 1 ≤ r) : (nI r - 1) - 2 * nI l = nI (r - 1 - 2 * l) := by
  have e1 : nI r - 1 = nI (r - 1) := pk_sub (a := r) (b := 1) (by omega)
  have e2 : 2 * nI l = nI (2 * l) := pk_mul 2 l
  rw [e1, e2]
  exact pk_sub (by omega)
theorem ly_sub2 {r l : Nat} (h : 2 * l + 2 ≤ r) : (nI r - 2) - 2 * nI l = nI (r - 2 - 2 * l) := by
  have e1 : nI r - 2 = nI (r - 2) := pk_sub (a := r) (b := 2) (by omega)
  have e2 : 2 * nI l = nI (2 * l) := pk_mul 2 l
  rw [e1, e2]
  exact pk_sub (by omega)
theorem ly_and7 {n : Nat} (h : n < 2 ^ 31) : nI n &&& 7 = nI (n % 8) := pk_andN (by omega) 3 (by decide)
/-! the law's word -/
theorem ly_word64 {post : Int32 → Prop} {x w : Nat} (hx : x < 256) (A : x % 4 ≤ 1 → post (nI w)) (B : x % 4 = 2 → post (nI (8 * w + x / 64 % 2))) (C : x % 4 = 3 → post (nI (8 * (8 * w + x / 64 % 2) + x / 128 % 2))) : wL_word_64 post (nI x) (nI (1 + x % 4)) (nI w) :=
  pk_le (1 + x % 4) 2 (fun h => pk_le (1 + x % 4) 3 (fun _ => A (by omega)) (fun z => absurd z (by omega)))
    (fun h => nm_r (ly_8 (ly_g4 x hx)) (pk_le (1 + x % 4) 3 (fun z => B (by omega)) (fun z => ek_v (ly_8 (ly_g5 x hx)) (C (by omega)))))
theorem ly_word23 {post : Int32 → Prop} {z : Int32} {x : Nat} (hx : x < 256) (hz : z &&& 255 = nI x) (h : post (nI (ly_wd x))) : wL_word_23 post z := by
  unfold ly_wd at h
  refine nm_r hz (nm_r (ly_g1 x hx) (nm_r (ly_g2 x hx) (pk_le (1 + x % 4) 1 (fun z => ?_) (fun z => nm_r (ly_8 (ly_g3 x hx)) ?_))))
  · rw [if_pos (by omega)] at h
    exact ly_word64 hx (fun _ => h) (fun z => absurd z (by omega)) (fun z => absurd z (by omega))
  · rw [if_neg (by omega)] at h
    refine ly_word64 hx (fun g => ?_) (fun g => ?_) (fun g => ?_)
    · rw [if_pos (by omega)] at h
      exact h
    · rw [if_neg (by omega), if_pos g] at h
      exact h
    · rw [if_neg (by omega), if_neg (by omega)] at h
      exact h
def ly_by (p q : Int32) (i : Nat) : Nat := ((if 4 ≤ i then q >>> (((8 * nI i) - 32) &&& 31) else p >>> ((8 * nI i) &&& 31)) &&& 255).toNatClampNeg
theorem ly_and255 (z : Int32) : (z &&& 255).toNatClampNeg < 256 ∧ z &&& 255 = nI (z &&& 255).toNatClampNeg := by
  obtain ⟨j, hj, e⟩ := pk_andE z (m := 255) 8 (by decide)
  rw [e, nI_clamp (by omega)]
  exact ⟨hj, rfl⟩
theorem ly_byB (p q : Int32) (i : Nat) : ly_by p q i < 256 := (ly_and255 _).1
theorem ly_word {post : Int32 → Prop} {p q : Int32} {i : Nat} (hi : i < 8) (h : post (nI (ly_wd (ly_by p q i)))) : wpL_word post () p q (nI i) := by
  refine pk_le 4 i (fun z => ?_) (fun z => ?_)
  · refine ly_word23 (ly_byB p q i) ?_ h
    unfold ly_by
    rw [if_pos z]
    exact (ly_and255 _).2
  · refine ly_word23 (ly_byB p q i) ?_ h
    unfold ly_by
    rw [if_neg (by omega)]
    exact (ly_and255 _).2
/-! how many letters -/
theorem ly_so1 : ∀ k, k < 5 → (1 : Int32) <<< ((3 * nI k + 3) &&& 31) = nI (8 ^ (k + 1)) := by decide +kernel
theorem ly_so2 : ∀ k, k < 5 → 8 ^ (k + 1) < 2 ^ 31 := by decide
theorem ly_soS {post : Int32 → Prop} {m n k : Nat} (hk : k < 5) (hm : m < 32768) (A : m < 8 ^ (k + 1) → post (nI k)) (B : 8 ^ (k + 1) ≤ m → wX_sizeOf_2 post (nI m) n (nI (k + 1))) : wX_sizeOf_2 post (nI m) (n + 1) (nI k) :=
  pk_le 7 k (fun z => absurd z (by omega)) (fun _ => pk_lt m (8 ^ (k + 1)) A (fun z => nm_r (nI_1 k) (B z)) rfl (ly_so1 k hk) (by omega) (ly_so2 k hk))
theorem ly_szE {m k : Nat} (h : (k = 0 ∧ m < 8) ∨ (k = 1 ∧ 8 ≤ m ∧ m < 64) ∨ (k = 2 ∧ 64 ≤ m ∧ m < 512) ∨ (k = 3 ∧ 512 ≤ m ∧ m < 4096) ∨ (k = 4 ∧ 4096 ≤ m)) : ly_sz m = k := by
  unfold ly_sz
  repeat' split
  all_goals omega
theorem ly_sizeOf {post : Int32 → Prop} {m : Nat} (hm : m < 32768) (h : post (nI (ly_sz m))) : wpX_sizeOf post () (nI m) := by
  refine ⟨5, ly_soS (k := 0) (by omega) hm (fun z => ?_) (fun z0 => ly_soS (k := 1) (by omega) hm (fun z => ?_) (fun z1 => ly_soS (k := 2) (by omega) hm (fun z => ?_) (fun z2 => ly_soS (k := 3) (by omega) hm (fun z => ?_) (fun z3 => ly_soS (k := 4) (by omega) hm (fun z => ?_) (fun z4 => ?_)))))⟩
  · rw [ly_szE (k := 0) (by omega)] at h
    exact h
  · rw [ly_szE (k := 1) (by omega)] at h
    exact h
  · rw [ly_szE (k := 2) (by omega)] at h
    exact h
  · rw [ly_szE (k := 3) (by omega)] at h
    exact h
  · rw [ly_szE (k := 4) (by omega)] at h
    exact h
  · omega
theorem ly_ir1 : ∀ k, k ≤ 4 → (1 : Int32) <<< ((3 * nI k) &&& 31) = nI (8 ^ k) := by decide +kernel
theorem ly_ir2 : ∀ k, k ≤ 4 → (2 : Int32) <<< ((3 * nI k) &&& 31) = nI (2 * 8 ^ k) := by decide +kernel
theorem ly_ir3 : ∀ k, k ≤ 4 → 2 * 8 ^ k < 2 ^ 31 := by decide
theorem ly_isRow {post : Int32 → Prop} {m : Nat} (hm : ly_R m) (h : post 1) : wpX_isRow post () (nI m) := by
  have ⟨h1, h2, h3, h4, h5⟩ := ly_R1 hm
  have h6 := ly_ir3 _ h3
  exact ly_sizeOf (by omega) (pk_lt 6 (ly_sz m) (fun z => absurd z (by omega)) (fun _ => pk_lt m (8 ^ ly_sz m) (fun z => absurd z (by omega)) (fun _ => pk_le (2 * 8 ^ ly_sz m) m (fun z => absurd z (by omega)) (fun _ => h) (ly_ir2 _ h3) rfl h6 (by omega)) rfl (ly_ir1 _ h3) (by omega) (by omega)))
theorem ly_isWord {post : Int32 → Prop} {m : Nat} (hm : ly_W m) (h : post 1) : wpX_isWord post () (nI m) := by
  have ⟨h1, h2, _⟩ := ly_W1 hm
  exact pk_le m 1 (fun z => absurd z (by omega)) (fun _ => ly_isRow (Or.inr hm) (br_f (by decide) h))
theorem ly_lay : ∀ r, r < 8 → (nI r + 1) >>> ((1 : Int32) &&& 31) = nI ((r + 1) / 2) := by decide +kernel
theorem ly_szB (m : Nat) : ly_sz m ≤ 4 := by
  unfold ly_sz
  repeat' split
  all_goals omega
theorem ly_layersOf {post : Int32 → Prop} {m : Nat} (hm : m < 32768) (h : post (nI (ly_ls m))) : wpX_layersOf post () (nI m) := by
  have := ly_szB m
  exact ly_sizeOf hm (ek_v (P := post) (ly_lay (ly_sz m) (by omega)) h)
theorem ly_9 {a b : Nat} : (9 * (nI a + 1) + nI b) + 1 = nI (9 * (a + 1) + b + 1) := by
  rw [nI_1, show (9 : Int32) * nI (a + 1) = nI (9 * (a + 1)) from pk_mul 9 (a + 1), nI_add, nI_1]
theorem ly_sliceOf {post : Int32 → Prop} {m l : Nat} (hm : m < 32768) (hl : 2 * l + 1 ≤ ly_sz m) (h : post (nI (ly_sc m l))) : wpX_sliceOf post () (nI m) (nI l) := by
  have hB := ly_szB m
  have q1 : m / 8 ^ (ly_sz m - 1 - 2 * l) ≤ m := Nat.div_le_self _ _
  have q2 : m / 8 ^ (ly_sz m - 2 - 2 * l) ≤ m := Nat.div_le_self _ _
  unfold ly_sc at h
  refine ly_sizeOf hm (nm_r (e' := nI (m / 8 ^ (ly_sz m - 1 - 2 * l) % 8)) ?_ (pk_lt (2 * l + 1) (ly_sz m) (fun z => nm_r (e' := nI (m / 8 ^ (ly_sz m - 2 - 2 * l) % 8)) ?_ ?_) (fun z => ?_) ?_ rfl))
  · rw [ly_sub1 hl, ly_sh (by omega) (by omega), ly_and7 (by omega)]
  · rw [ly_sub2 (by omega), ly_sh (by omega) (by omega), ly_and7 (by omega)]
  · rw [if_pos z] at h
    rw [ly_9]
    exact h
  · rw [if_neg (by omega)] at h
    rw [nI_1, show (9 : Int32) * nI (m / 8 ^ (ly_sz m - 1 - 2 * l) % 8 + 1) = nI (9 * (m / 8 ^ (ly_sz m - 1 - 2 * l) % 8 + 1)) from pk_mul 9 _]
    exact h
  · rw [show (2 : Int32) * nI l = nI (2 * l) from pk_mul 2 l, nI_1]
theorem ly_begins {post : Int32 → Prop} {r m : Nat} (hr : r < 32768) (hm : m < 32768) (A : ly_bg r m → post 1) (B : ¬ ly_bg r m → post 0) : wpX_begins post () (nI r) (nI m) := by
  have hB := ly_szB m
  have hB' := ly_szB r
  refine ly_sizeOf hm (ly_sizeOf hr ?_)
  by_cases hc : ly_sz r ≤ ly_sz m
  · have q1 : m / 8 ^ (ly_sz m - ly_sz r) ≤ m := Nat.div_le_self _ _
    exact nm_r (pk_sub hc) (br_f (nI_pos (by omega)) (pk_eq (m / 8 ^ (ly_sz m - ly_sz r)) r (fun z => A ⟨hc, z⟩) (fun z => B (fun g => z g.2)) (ly_sh (by omega) (by omega)) rfl))
  · exact nm_e (br_t (pk_sneg (by omega) (by omega)) (B (fun g => hc g.1)))
theorem ly_pfB {a k : Nat} (h : a < 32768) : a / 8 ^ k < 32768 := Nat.lt_of_le_of_lt (Nat.div_le_self _ _) h
/-! which of two words comes first -/
theorem ly_cbS {post : Int32 → Prop} {a b c l n : Nat} (ha : a < 32768) (hb : b < 32768) (hl : l < c) (hc : c ≤ 2) (hla : 2 * l + 1 ≤ ly_sz a) (hlb : 2 * l + 1 ≤ ly_sz b) (sa : ly_sc a l < 100) (sb : ly_sc b l < 100) (E : ly_sc a l = ly_sc b l → wX_comesBefore_25 post (nI a) (nI b) (nI c) n (nI (l + 1))) (A : ly_sc a l < ly_sc b l → post 1) (B : ly_sc b l < ly_sc a l → post 0) : wX_comesBefore_25 post (nI a) (nI b) (nI c) (n + 1) (nI l) := by
  refine pk_le c l (fun z => absurd z (by omega)) (fun _ => ly_sliceOf ha hla (ly_sliceOf hb hlb ?_))
  rcases Nat.lt_trichotomy (ly_sc a l) (ly_sc b l) with h | h | h
  · have q := pk_sneg (b := ly_sc b l) (by omega) h
    exact nm_e (br_f (fun e => by rw [e] at q; exact absurd q (by decide)) (br_f (Int32.not_le.mpr q) (A h)))
  · refine nm_e (br_t ?_ (nm_r (nI_1 l) (E h)))
    rw [h, pk_sub (Nat.le_refl _), Nat.sub_self]
    rfl
  · refine nm_r (pk_sub (by omega)) (br_f (nI_ne0 (by omega) (by omega)) (br_t (nI_pos' (by omega)) (B h)))
theorem ly_cbE {post : Int32 → Prop} {a b c l n : Nat} (ha : a < 32768) (hb : b < 32768) (hl : c ≤ l) (hl2 : l < 9) (A : ly_ls a < ly_ls b → post 1) (B : ly_ls b ≤ ly_ls a → post 0) : wX_comesBefore_25 post (nI a) (nI b) (nI c) (n + 1) (nI l) := by
  have h1 := ly_szB a
  have h2 := ly_szB b
  have h3 : ly_ls a < 9 := by unfold ly_ls; omega
  have h4 : ly_ls b < 9 := by unfold ly_ls; omega
  exact pk_le c l (fun _ => ly_layersOf ha (ly_layersOf hb (pk_le (ly_ls b) (ly_ls a) B A))) (fun z => absurd z (by omega))
theorem ly_cbL {post : Int32 → Prop} {a b c : Nat} (ha : ly_W a) (hb : ly_W b) (hc : c = min (ly_ls a) (ly_ls b)) (A : ly_ky a < ly_ky b → post 1) (B : ly_ky b ≤ ly_ky a → post 0) : ∃ n, wX_comesBefore_25 post (nI a) (nI b) (nI c) n 0 := by
  have ⟨a1, a2, a3, a4, _⟩ := ly_W1 ha
  have ⟨b1, b2, b3, b4, _⟩ := ly_W1 hb
  have a5 := ly_WS0 ha
  have b5 := ly_WS0 hb
  have a6 := ly_WS1 ha
  have b6 := ly_WS1 hb
  unfold ly_S0 at a5 b5
  unfold ly_S1 at a6 b6
  have la : ly_ls a = (ly_sz a + 1) / 2 := rfl
  have lb : ly_ls b = (ly_sz b + 1) / 2 := rfl
  have ka : ly_ky a = 81 * ly_sc a 0 + ly_s1 a := rfl
  have kb : ly_ky b = 81 * ly_sc b 0 + ly_s1 b := rfl
  have sa : (ly_ls a = 1 ∧ ly_s1 a = 0) ∨ (¬ ly_ls a = 1 ∧ ly_s1 a = ly_sc a 1) := by
    unfold ly_s1
    split
    · exact Or.inl ⟨by assumption, rfl⟩
    · exact Or.inr ⟨by assumption, rfl⟩
  have sb : (ly_ls b = 1 ∧ ly_s1 b = 0) ∨ (¬ ly_ls b = 1 ∧ ly_s1 b = ly_sc b 1) := by
    unfold ly_s1
    split
    · exact Or.inl ⟨by assumption, rfl⟩
    · exact Or.inr ⟨by assumption, rfl⟩
  refine ⟨3, ly_cbS (l := 0) (by omega) (by omega) (by omega) (by omega) (by omega) (by omega) (by omega) (by omega) (fun e => ?_) (fun e => A (by omega)) (fun e => B (by omega))⟩
  by_cases h2 : c = 2
  · refine ly_cbS (l := 1) (by omega) (by omega) (by omega) (by omega) (by omega) (by omega) (by omega) (by omega) (fun e2 => ?_) (fun e2 => A (by omega)) (fun e2 => B (by omega))
    exact ly_cbE (by omega) (by omega) (by omega) (by omega) (fun e3 => A (by omega)) (fun e3 => B (by omega))
  · exact ly_cbE (by omega) (by omega) (by omega) (by omega) (fun e3 => A (by omega)) (fun e3 => B (by omega))
theorem ly_comesBefore {post : Int32 → Prop} {a b : Nat} (ha : ly_W a) (hb : ly_W b) (A : ly_ky a < ly_ky b → post 1) (B : ly_ky b ≤ ly_ky a → post 0) : wpX_comesBefore post () (nI a) (nI b) := by
  have ⟨a1, a2, _⟩ := ly_W1 ha
  have ⟨b1, b2, _⟩ := ly_W1 hb
  have h1 := ly_szB a
  have h2 := ly_szB b
  have h3 : ly_ls a < 9 := by unfold ly_ls; omega
  have h4 : ly_ls b < 9 := by unfold ly_ls; omega
  exact ly_layersOf (by omega) (ly_layersOf (by omega) (pk_le (ly_ls b) (ly_ls a) (fun z => ly_layersOf (by omega) (ly_cbL ha hb (by omega) A B)) (fun z => ly_layersOf (by omega) (ly_cbL ha hb (by omega) A B))))
/-! the shared beginning -/
theorem ly_sh32 {post : Int32 → Prop} {a k : Nat} (ha : a < 32768) (hk : k ≤ ly_sz a) (h : post (nI (a / 8 ^ (ly_sz a - k)))) : wX_shared_32 post (nI a) (nI k) := by
  have := ly_szB a
  refine ly_sizeOf ha ?_
  rw [pk_sub hk, ly_sh (by omega) (by omega)]
  exact h
theorem ly_shL {post : Int32 → Prop} {a b : Nat} (ha : ly_R a) (hb : ly_W b) (H : ∀ k, k ≤ ly_sz a → ly_bg (a / 8 ^ (ly_sz a - k)) b → (∀ j, k < j → j ≤ ly_sz a → ¬ ly_bg (a / 8 ^ (ly_sz a - j)) b) → post (nI (a / 8 ^ (ly_sz a - k)))) : ∀ k, k ≤ ly_sz a → (∀ j, k < j → j ≤ ly_sz a → ¬ ly_bg (a / 8 ^ (ly_sz a - j)) b) → wX_shared_5 post (nI a) (nI b) (k + 1) (nI k) := by
  have ⟨a1, a2, _⟩ := ly_R1 ha
  have ⟨b1, b2, _⟩ := ly_W1 hb
  have hB := ly_szB a
  intro k
  induction k with
  | zero =>
    intro hk hj
    refine pk_le 0 0 (fun _ => ly_sh32 (k := 0) (by omega) hk (H 0 hk ?_ hj)) (fun z => absurd z (by omega))
    rw [Nat.sub_zero, ly_R8 ha]
    refine ⟨by rw [ly_sz1]; omega, ?_⟩
    rw [ly_sz1, Nat.sub_zero]
    exact ly_W8 hb
  | succ k ih =>
    intro hk hj
    refine pk_le (k + 1) 0 (fun z => absurd z (by omega)) (fun _ => ly_sizeOf (by omega) ?_)
    rw [pk_sub hk, ly_sh (by omega) (by omega)]
    refine ly_begins (ly_pfB (by omega)) (by omega) (fun g => br_f (by decide) (ly_sh32 (by omega) hk (H _ hk g hj))) (fun g => br_t rfl (nm_r (pk_m1 k) (ih (by omega) (fun j h1 h2 => ?_))))
    by_cases e : j = k + 1
    · rw [e]
      exact g
    · exact hj j (by omega) h2
theorem ly_shared {post : Int32 → Prop} {a b : Nat} (ha : ly_R a) (hb : ly_W b) (H : ∀ k, k ≤ ly_sz a → ly_bg (a / 8 ^ (ly_sz a - k)) b → (∀ j, k < j → j ≤ ly_sz a → ¬ ly_bg (a / 8 ^ (ly_sz a - j)) b) → post (nI (a / 8 ^ (ly_sz a - k)))) : wpX_shared post () (nI a) (nI b) := by
  have ⟨a1, a2, _⟩ := ly_R1 ha
  exact ly_sizeOf (by omega) ⟨_, ly_shL ha hb H _ (Nat.le_refl _) (fun j h1 h2 => absurd h2 (by omega))⟩
/-! the law's own words -/
theorem ly_len {post : Int32 → Prop} {m : Nat} (hm : ly_W m) (h : post (nI (ly_sz m))) : wpL_length post () (nI m) := by
  have ⟨a1, a2, _⟩ := ly_W1 hm
  have e : (if m < 16 then 1 else if m < 128 then 2 else if m < 1024 then 3 else 4) = ly_sz m := by
    obtain ⟨x, hx, rfl⟩ := hm
    exact ly_f5 x hx
  rw [← e] at h
  refine pk_le 16 m (fun z => pk_le 128 m (fun z => pk_le 1024 m (fun z => ?_) (fun z => ?_)) (fun z => ?_)) (fun z => ?_)
  · rw [if_neg (by omega), if_neg (by omega), if_neg (by omega)] at h
    exact h
  · rw [if_neg (by omega), if_neg (by omega), if_pos (by omega)] at h
    exact h
  · rw [if_neg (by omega), if_pos (by omega)] at h
    exact h
  · rw [if_pos (by omega)] at h
    exact h
theorem ly_Lb13 {post : Int32 → Prop} {r m : Nat} (hr : ly_R r) (hm : ly_W m) (A : ly_bg r m → post 1) (B : ¬ ly_bg r m → post 0) : wL_begins_13 post (nI r) (nI m) (nI (ly_sz r)) := by
  have ⟨a1, a2, _⟩ := ly_W1 hm
  have ⟨b1, b2, _⟩ := ly_R1 hr
  have hB := ly_szB m
  have hB' := ly_szB r
  refine ly_len hm (pk_lt (ly_sz m) (ly_sz r) (fun z => B (fun g => absurd g.1 (by omega))) (fun z => ?_))
  have q1 : m / 8 ^ (ly_sz m - ly_sz r) ≤ m := Nat.div_le_self _ _
  rw [pk_sub z]
  exact pk_eq (m / 8 ^ (ly_sz m - ly_sz r)) r (fun g => A ⟨z, g⟩) (fun g => B (fun g2 => g g2.2)) (ly_sh (by omega) (by omega)) rfl
theorem ly_Lbegins {post : Int32 → Prop} {r m : Nat} (hr : ly_R r) (hm : ly_W m) (A : ly_bg r m → post 1) (B : ¬ ly_bg r m → post 0) : wpL_begins post () (nI r) (nI m) := by
  have ⟨b1, b2, _⟩ := ly_R1 hr
  refine pk_eq r 1 (fun z => ?_) (fun z => ?_)
  · have t := ly_Lb13 hr hm A B
    subst z
    rw [ly_sz1] at t
    exact t
  · rcases hr with hr | hr
    · exact absurd hr z
    · exact ly_len hr (ly_Lb13 (Or.inr hr) hm A B)
theorem ly_key {post : Int32 → Prop} {m : Nat} (hm : ly_W m) (h : post (nI (ly_ky m))) : wpL_key post () (nI m) := by
  have ⟨a1, a2, _⟩ := ly_W1 hm
  have hB := ly_szB m
  have e : ly_kk m 4 = ly_ky m := by
    obtain ⟨x, hx, rfl⟩ := hm
    exact ly_f6 x hx
  rw [← e] at h
  refine ly_len hm (pk_loop (fun n i s => wL_key_9 post (nI m) (nI (ly_sz m)) n s (nI i)) (fun i s => s = nI (ly_kk m i)) 4 0 0 (by omega) rfl ?_ ?_)
  · intro n s hs
    subst hs
    exact pk_le 4 4 (fun _ => h) (fun z => absurd z (by omega))
  · intro n i s hi hs hw
    subst hs
    refine pk_le 4 i (fun z => absurd z (by omega)) (fun _ => pk_le (ly_sz m) i (fun z => nm_r (e' := nI (ly_kk m (i + 1))) ?_ (nm_r (nI_1 i) (hw _ rfl))) (fun z => nm_r (e' := nI (ly_kk m (i + 1))) ?_ (nm_r (nI_1 i) (hw _ rfl))))
    · rw [show (9 : Int32) * nI (ly_kk m i) = nI (9 * ly_kk m i) from pk_mul 9 _]
      show _ = nI (if i < ly_sz m then 9 * ly_kk m i + (1 + m / 8 ^ (ly_sz m - 1 - i) % 8) else 9 * ly_kk m i + 0)
      rw [if_neg (by omega)]
      exact nI_add _ 0
    · have q1 : m / 8 ^ (ly_sz m - 1 - i) ≤ m := Nat.div_le_self _ _
      have e1 : nI (ly_sz m) - 1 = nI (ly_sz m - 1) := pk_sub (a := ly_sz m) (b := 1) (by omega)
      rw [e1, pk_sub (by omega), ly_sh (by omega) (by omega), ly_and7 (by omega), show (9 : Int32) * nI (ly_kk m i) = nI (9 * ly_kk m i) from pk_mul 9 _]
      show _ = nI (if i < ly_sz m then 9 * ly_kk m i + (1 + m / 8 ^ (ly_sz m - 1 - i) % 8) else 9 * ly_kk m i + 0)
      rw [if_pos (by omega), show (1 : Int32) + nI (m / 8 ^ (ly_sz m - 1 - i) % 8) = nI (1 + m / 8 ^ (ly_sz m - 1 - i) % 8) from nI_add 1 _]
      exact nI_add _ _
end
section
/-! order words: a table of them, and what the code does to one -/
def ly_pm : List (Nat × Nat × Nat × Nat) := [(0,1,2,3),(0,1,3,2),(0,2,1,3),(0,2,3,1),(0,3,1,2),(0,3,2,1),(1,0,2,3),(1,0,3,2),(1,2,0,3),(1,2,3,0),(1,3,0,2),(1,3,2,0),(2,0,1,3),(2,0,3,1),(2,1,0,3),(2,1,3,0),(2,3,0,1),(2,3,1,0),(3,0,1,2),(3,0,2,1),(3,1,0,2),(3,1,2,0),(3,2,0,1),(3,2,1,0)]
def ly_tn : List Nat := ly_pm.flatMap (fun p => (List.range 5).map (fun s => s + 16 * p.1 + 256 * p.2.1 + 4096 * p.2.2.1 + 65536 * p.2.2.2))
def ly_ok (o : Int32) : Prop := o.toNatClampNeg ∈ ly_tn ∧ o = nI o.toNatClampNeg
def ly_ce (o : Int32) (k : Nat) : Nat := ((o >>> ((4 * nI k + 4) &&& 31)) &&& 15).toNatClampNeg
def ly_n (o : Int32) : Nat := (o &&& 15).toNatClampNeg
def ly_cs (o : Int32) : List Nat := (List.range (ly_n o)).map (ly_ce o)
def ly_oi (o : Int32) (k s : Nat) : Int32 :=
  (((((o >>> ((4 : Int32) &&& 31)) &&& (((1 : Int32) <<< ((4 * nI k) &&& 31)) - 1)) ||| (((o >>> (((4 * nI s) + 4) &&& 31)) &&& 15) <<< ((4 * nI k) &&& 31))) ||| ((((o >>> ((4 : Int32) &&& 31)) >>> ((4 * nI k) &&& 31)) &&& (((1 : Int32) <<< ((4 * (nI s - nI k)) &&& 31)) - 1)) <<< (((4 * nI k) + 4) &&& 31))) ||| (((o >>> ((4 : Int32) &&& 31)) >>> (((4 * nI s) + 4) &&& 31)) <<< (((4 * nI s) + 4) &&& 31))) <<< ((4 : Int32) &&& 31) ||| (nI s + 1)
def ly_od (o : Int32) (k s c : Nat) : Int32 :=
  (((((o >>> ((4 : Int32) &&& 31)) &&& (((1 : Int32) <<< ((4 * nI k) &&& 31)) - 1)) ||| ((((o >>> ((4 : Int32) &&& 31)) >>> (((4 * nI k) + 4) &&& 31)) &&& (((1 : Int32) <<< ((4 * ((nI s - 1) - nI k)) &&& 31)) - 1)) <<< ((4 * nI k) &&& 31))) ||| (nI c <<< ((4 * (nI s - 1)) &&& 31))) ||| (((o >>> ((4 : Int32) &&& 31)) >>> ((4 * nI s) &&& 31)) <<< ((4 * nI s) &&& 31))) <<< ((4 : Int32) &&& 31) ||| (nI s - 1)
theorem ly_o1 : ∀ n ∈ ly_tn, (ly_n (nI n) ≤ 4 ∧ (∀ k, k < 4 → ly_ce (nI n) k < 4) ∧ (∀ i, i < 4 → ∀ j, j < 4 → ly_ce (nI n) i = ly_ce (nI n) j → i = j)) := by decide +kernel
theorem ly_o2 : ∀ n ∈ ly_tn, ly_n (nI n) < 4 → ∀ k, k < 5 → k ≤ ly_n (nI n) → ((ly_oi (nI n) k (ly_n (nI n))).toNatClampNeg ∈ ly_tn ∧ ly_oi (nI n) k (ly_n (nI n)) = nI (ly_oi (nI n) k (ly_n (nI n))).toNatClampNeg ∧ ly_cs (ly_oi (nI n) k (ly_n (nI n))) = (ly_cs (nI n)).take k ++ ly_ce (nI n) (ly_n (nI n)) :: (ly_cs (nI n)).drop k) := by decide +kernel
theorem ly_o3 : ∀ n ∈ ly_tn, ∀ k, k < 4 → k < ly_n (nI n) → ((ly_od (nI n) k (ly_n (nI n)) (ly_ce (nI n) k)).toNatClampNeg ∈ ly_tn ∧ ly_od (nI n) k (ly_n (nI n)) (ly_ce (nI n) k) = nI (ly_od (nI n) k (ly_n (nI n)) (ly_ce (nI n) k)).toNatClampNeg ∧ ly_cs (ly_od (nI n) k (ly_n (nI n)) (ly_ce (nI n) k)) = (ly_cs (nI n)).take k ++ (ly_cs (nI n)).drop (k + 1)) := by decide +kernel
theorem ly_o4 : ∀ n ∈ ly_tn, ly_n (nI n) = 4 → (((nI n &&& (-16)) ||| 2).toNatClampNeg ∈ ly_tn ∧ ((nI n &&& (-16)) ||| 2) = nI ((nI n &&& (-16)) ||| 2).toNatClampNeg ∧ ly_cs ((nI n &&& (-16)) ||| 2) = [ly_ce (nI n) 0, ly_ce (nI n) 1] ∧ ly_cs (nI n) = [ly_ce (nI n) 0, ly_ce (nI n) 1, ly_ce (nI n) 2, ly_ce (nI n) 3]) := by decide +kernel
theorem ly_ok0 : ly_ok 205056 := by unfold ly_ok; decide +kernel
theorem ly_ok2 : ly_ok 205058 := by unfold ly_ok; decide +kernel
theorem ly_cs0 : ly_cs 205056 = [] := by decide +kernel
theorem ly_cs2 : ly_cs 205058 = [0, 1] := by decide +kernel
theorem ly_okN {o : Int32} (h : ly_ok o) : ly_n o ≤ 4 ∧ (∀ k, k < 4 → ly_ce o k < 4) ∧ (∀ i, i < 4 → ∀ j, j < 4 → ly_ce o i = ly_ce o j → i = j) := by
  have := ly_o1 _ h.1
  rw [← h.2] at this
  exact this
theorem ly_okI {o : Int32} {k : Nat} (h : ly_ok o) (hn : ly_n o < 4) (hk : k ≤ ly_n o) : ly_ok (ly_oi o k (ly_n o)) ∧ ly_cs (ly_oi o k (ly_n o)) = (ly_cs o).take k ++ ly_ce o (ly_n o) :: (ly_cs o).drop k := by
  have := ly_o2 _ h.1
  rw [← h.2] at this
  have := this hn k (by omega) hk
  exact ⟨⟨this.1, this.2.1⟩, this.2.2⟩
theorem ly_okD {o : Int32} {k : Nat} (h : ly_ok o) (hk : k < ly_n o) : ly_ok (ly_od o k (ly_n o) (ly_ce o k)) ∧ ly_cs (ly_od o k (ly_n o) (ly_ce o k)) = (ly_cs o).take k ++ (ly_cs o).drop (k + 1) := by
  have h4 := (ly_okN h).1
  have := ly_o3 _ h.1
  rw [← h.2] at this
  have := this k (by omega) hk
  exact ⟨⟨this.1, this.2.1⟩, this.2.2⟩
theorem ly_okS {o : Int32} (h : ly_ok o) (hn : ly_n o = 4) : ly_ok ((o &&& (-16)) ||| 2) ∧ ly_cs ((o &&& (-16)) ||| 2) = [ly_ce o 0, ly_ce o 1] ∧ ly_cs o = [ly_ce o 0, ly_ce o 1, ly_ce o 2, ly_ce o 3] := by
  have := ly_o4 _ h.1
  rw [← h.2] at this
  have := this hn
  exact ⟨⟨this.1, this.2.1⟩, this.2.2⟩
theorem ly_and15 (z : Int32) : z &&& 15 = nI (z &&& 15).toNatClampNeg := by
  obtain ⟨j, hj, e⟩ := pk_andE z (m := 15) 4 (by decide)
  rw [e, nI_clamp (by omega)]
theorem ly_csL (o : Int32) : (ly_cs o).length = ly_n o := by
  unfold ly_cs
  rw [List.length_map, List.length_range]
theorem ly_csM {o : Int32} {c : Nat} : c ∈ ly_cs o ↔ ∃ j, j < ly_n o ∧ c = ly_ce o j := by
  unfold ly_cs
  rw [List.mem_map]
  constructor
  · rintro ⟨j, hj, rfl⟩
    exact ⟨j, List.mem_range.mp hj, rfl⟩
  · rintro ⟨j, hj, rfl⟩
    exact ⟨j, List.mem_range.mpr hj, rfl⟩
theorem ly_csI {o : Int32} {j : Nat} (h : j < (ly_cs o).length) : (ly_cs o)[j] = ly_ce o j := by
  have key : ∀ (m : List Nat) (hm : j < m.length), m = (List.range (ly_n o)).map (ly_ce o) → m[j] = ly_ce o j := by
    intro m hm hE
    subst hE
    rw [List.getElem_map, List.getElem_range]
  exact key _ h rfl
end
section
/-! chains of nodes -/
def ly_lk : List Nat → Int32
  | [] => -1
  | b :: _ => nI b
def ly_ch (a2 : Nat → Int32) : List Nat → Prop
  | [] => True
  | b :: r => b < 122 ∧ a2 b = ly_lk r ∧ ly_ch a2 r
def ly_ne (a1 : Nat → Int32) (b : Nat) : List Nat := (ly_cs (a1 b)).map (fun c => 4 * b + c)
def ly_en (a1 : Nat → Int32) : List Nat → List Nat
  | [] => []
  | b :: r => ly_ne a1 b ++ ly_en a1 r
def ly_sl (a3 : Nat → Int32) (e : Nat) : Nat := (a3 e).toNatClampNeg
def ly_G (a3 a5 : Nat → Int32) : Prop := ∀ e, a3 e = nI (ly_sl a3 e) ∧ ly_sl a3 e < 81 ∧ (a5 e = 0 ∨ a5 e = 1)
def ly_so (a3 : Nat → Int32) (es : List Nat) : Prop := (es.map (ly_sl a3)).Pairwise (· < ·)
def ly_rc (a3 a4 a5 a6 : Nat → Int32) (e : Nat) : Nat × Int32 × Int32 × Int32 := (ly_sl a3 e, a4 e, a5 e, a6 e)
/-- a chain, its first node perhaps empty -/
def ly_cw (a1 a2 a3 : Nat → Int32) (ns : List Nat) : Prop := ly_ch a2 ns ∧ (∀ b ∈ ns, ly_ok (a1 b)) ∧ (∀ b ∈ ns.tail, ly_cs (a1 b) ≠ []) ∧ ns.Nodup ∧ ly_so a3 (ly_en a1 ns)
def ly_cn (a1 a2 a3 : Nat → Int32) (ns : List Nat) : Prop := ly_cw a1 a2 a3 ns ∧ (∀ b ∈ ns, ly_cs (a1 b) ≠ [])
def ly_rl (a1 a3 a4 a5 a6 : Nat → Int32) (ns : List Nat) : List (Nat × Int32 × Int32 × Int32) := (ly_en a1 ns).map (ly_rc a3 a4 a5 a6)
theorem ly_enA {a1 : Nat → Int32} {x y : List Nat} : ly_en a1 (x ++ y) = ly_en a1 x ++ ly_en a1 y := by
  induction x with
  | nil => rfl
  | cons b r ih =>
    show ly_ne a1 b ++ ly_en a1 (r ++ y) = (ly_ne a1 b ++ ly_en a1 r) ++ ly_en a1 y
    rw [ih, List.append_assoc]
theorem ly_enC {a1 : Nat → Int32} {b : Nat} {r : List Nat} : ly_en a1 (b :: r) = ly_ne a1 b ++ ly_en a1 r := rfl
theorem ly_en0 {a1 : Nat → Int32} : ly_en a1 [] = [] := rfl
theorem ly_neM {a1 : Nat → Int32} {b e : Nat} : e ∈ ly_ne a1 b ↔ ∃ j, j < ly_n (a1 b) ∧ e = 4 * b + ly_ce (a1 b) j := by
  unfold ly_ne
  rw [List.mem_map]
  constructor
  · rintro ⟨c, hc, rfl⟩
    obtain ⟨j, hj, rfl⟩ := ly_csM.mp hc
    exact ⟨j, hj, rfl⟩
  · rintro ⟨j, hj, rfl⟩
    exact ⟨_, ly_csM.mpr ⟨j, hj, rfl⟩, rfl⟩
theorem ly_neD {a1 : Nat → Int32} {b e : Nat} (hok : ly_ok (a1 b)) (h : e ∈ ly_ne a1 b) : e / 4 = b := by
  obtain ⟨j, hj, rfl⟩ := ly_neM.mp h
  have ⟨h4, h5, _⟩ := ly_okN hok
  have := h5 j (by omega)
  omega
theorem ly_enM {a1 : Nat → Int32} {ns : List Nat} {e : Nat} : e ∈ ly_en a1 ns ↔ ∃ b, b ∈ ns ∧ e ∈ ly_ne a1 b := by
  induction ns with
  | nil => exact ⟨fun h => absurd h List.not_mem_nil, fun ⟨b, h, _⟩ => absurd h List.not_mem_nil⟩
  | cons b r ih =>
    rw [ly_enC, List.mem_append, ih]
    constructor
    · rintro (h | ⟨x, hx, h⟩)
      · exact ⟨b, List.mem_cons_self, h⟩
      · exact ⟨x, List.mem_cons_of_mem _ hx, h⟩
    · rintro ⟨x, hx, h⟩
      rcases List.mem_cons.mp hx with e1 | hx
      · rw [e1] at h
        exact Or.inl h
      · exact Or.inr ⟨x, hx, h⟩
theorem ly_enD {a1 : Nat → Int32} {ns : List Nat} {e : Nat} (hok : ∀ b ∈ ns, ly_ok (a1 b)) (h : e ∈ ly_en a1 ns) : e / 4 ∈ ns := by
  obtain ⟨b, hb, he⟩ := ly_enM.mp h
  rw [ly_neD (hok b hb) he]
  exact hb
theorem ly_enF {a1 a1' : Nat → Int32} {ns : List Nat} (h : ∀ b ∈ ns, a1' b = a1 b) : ly_en a1' ns = ly_en a1 ns := by
  induction ns with
  | nil => rfl
  | cons b r ih =>
    rw [ly_enC, ly_enC, ih (fun x hx => h x (List.mem_cons_of_mem _ hx))]
    unfold ly_ne
    rw [h b List.mem_cons_self]
theorem ly_chF {a2 a2' : Nat → Int32} {ns : List Nat} (h : ∀ b ∈ ns, a2' b = a2 b) (hc : ly_ch a2 ns) : ly_ch a2' ns := by
  induction ns with
  | nil => trivial
  | cons b r ih => exact ⟨hc.1, (h b List.mem_cons_self).trans hc.2.1, ih (fun x hx => h x (List.mem_cons_of_mem _ hx)) hc.2.2⟩
theorem ly_chB {a2 : Nat → Int32} {ns : List Nat} (hc : ly_ch a2 ns) : ∀ b ∈ ns, b < 122 := by
  induction ns with
  | nil => intro b h; exact absurd h List.not_mem_nil
  | cons b r ih =>
    intro x hx
    rcases List.mem_cons.mp hx with rfl | hx
    · exact hc.1
    · exact ih hc.2.2 x hx
theorem ly_chA {a2 : Nat → Int32} {x y : List Nat} (hc : ly_ch a2 (x ++ y)) : ly_ch a2 y := by
  induction x with
  | nil => exact hc
  | cons b r ih => exact ih hc.2.2
/-- what is untouched outside some nodes -/
def ly_fr (ns : List Nat) (a1 a2 a3 a4 a5 a6 b1 b2 b3 b4 b5 b6 : Nat → Int32) : Prop := (∀ b, b ∉ ns → b1 b = a1 b ∧ b2 b = a2 b) ∧ (∀ e, e / 4 ∉ ns → b3 e = a3 e ∧ b4 e = a4 e ∧ b5 e = a5 e ∧ b6 e = a6 e)
theorem ly_soF {a3 a3' : Nat → Int32} {es : List Nat} (h : ∀ e ∈ es, a3' e = a3 e) (hs : ly_so a3 es) : ly_so a3' es := by
  unfold ly_so at hs ⊢
  rw [List.map_congr_left (g := ly_sl a3) (fun e he => by unfold ly_sl; rw [h e he])]
  exact hs
theorem ly_cwF {a1 a2 a3 a1' a2' a3' : Nat → Int32} {ns : List Nat} (h : ∀ b ∈ ns, a1' b = a1 b ∧ a2' b = a2 b) (h3 : ∀ e, e / 4 ∈ ns → a3' e = a3 e) (hc : ly_cw a1 a2 a3 ns) : ly_cw a1' a2' a3' ns := by
  obtain ⟨c1, c2, c3, c4, c5⟩ := hc
  refine ⟨ly_chF (fun b hb => (h b hb).2) c1, fun b hb => by rw [(h b hb).1]; exact c2 b hb, fun b hb => by rw [(h b (List.mem_of_mem_tail hb)).1]; exact c3 b hb, c4, ?_⟩
  rw [ly_enF (fun b hb => (h b hb).1)]
  exact ly_soF (fun e he => h3 e (ly_enD c2 he)) c5
theorem ly_cnF {a1 a2 a3 a1' a2' a3' : Nat → Int32} {ns : List Nat} (h : ∀ b ∈ ns, a1' b = a1 b ∧ a2' b = a2 b) (h3 : ∀ e, e / 4 ∈ ns → a3' e = a3 e) (hc : ly_cn a1 a2 a3 ns) : ly_cn a1' a2' a3' ns :=
  ⟨ly_cwF h h3 hc.1, fun b hb => by rw [(h b hb).1]; exact hc.2 b hb⟩
theorem ly_rlF {a1 a3 a4 a5 a6 a1' a3' a4' a5' a6' : Nat → Int32} {ns : List Nat} (hok : ∀ b ∈ ns, ly_ok (a1 b)) (h : ∀ b ∈ ns, a1' b = a1 b) (h3 : ∀ e, e / 4 ∈ ns → a3' e = a3 e ∧ a4' e = a4 e ∧ a5' e = a5 e ∧ a6' e = a6 e) : ly_rl a1' a3' a4' a5' a6' ns = ly_rl a1 a3 a4 a5 a6 ns := by
  unfold ly_rl
  rw [ly_enF h]
  refine List.map_congr_left (fun e he => ?_)
  have ⟨x3, x4, x5, x6⟩ := h3 e (ly_enD hok he)
  unfold ly_rc ly_sl
  rw [x3, x4, x5, x6]
theorem ly_rlM {a1 a3 a4 a5 a6 : Nat → Int32} {ns : List Nat} {r : Nat × Int32 × Int32 × Int32} : r ∈ ly_rl a1 a3 a4 a5 a6 ns ↔ ∃ e, e ∈ ly_en a1 ns ∧ ly_rc a3 a4 a5 a6 e = r := by
  unfold ly_rl
  rw [List.mem_map]
theorem ly_rlA {a1 a3 a4 a5 a6 : Nat → Int32} {x y : List Nat} : ly_rl a1 a3 a4 a5 a6 (x ++ y) = ly_rl a1 a3 a4 a5 a6 x ++ ly_rl a1 a3 a4 a5 a6 y := by
  unfold ly_rl
  rw [ly_enA, List.map_append]
theorem ly_rlS {a1 a3 a4 a5 a6 : Nat → Int32} {ns : List Nat} : (ly_rl a1 a3 a4 a5 a6 ns).map Prod.fst = (ly_en a1 ns).map (ly_sl a3) := by
  unfold ly_rl
  rw [List.map_map]
  rfl
/-- entries of one slice in a chain are one -/
theorem ly_soU {a3 : Nat → Int32} {es : List Nat} (hs : ly_so a3 es) {x y : Nat} (hx : x ∈ es) (hy : y ∈ es) (h : ly_sl a3 x = ly_sl a3 y) : x = y := by
  induction es with
  | nil => exact absurd hx List.not_mem_nil
  | cons e r ih =>
    have hs' : (ly_sl a3 e :: r.map (ly_sl a3)).Pairwise (· < ·) := hs
    have ⟨p1, p2⟩ := List.pairwise_cons.mp hs'
    rcases List.mem_cons.mp hx with rfl | hx'
    · rcases List.mem_cons.mp hy with rfl | hy'
      · rfl
      · have := p1 _ (List.mem_map_of_mem hy')
        omega
    · rcases List.mem_cons.mp hy with rfl | hy'
      · have := p1 _ (List.mem_map_of_mem hx')
        omega
      · exact ih p2 hx' hy'
theorem ly_soA {a3 : Nat → Int32} {x y : List Nat} : ly_so a3 (x ++ y) ↔ ly_so a3 x ∧ ly_so a3 y ∧ ∀ e ∈ x, ∀ f ∈ y, ly_sl a3 e < ly_sl a3 f := by
  unfold ly_so
  rw [List.map_append, List.pairwise_append]
  constructor
  · rintro ⟨h1, h2, h3⟩
    exact ⟨h1, h2, fun e he f hf => h3 _ (List.mem_map_of_mem he) _ (List.mem_map_of_mem hf)⟩
  · rintro ⟨h1, h2, h3⟩
    refine ⟨h1, h2, fun u hu v hv => ?_⟩
    obtain ⟨e, he, rfl⟩ := List.mem_map.mp hu
    obtain ⟨f, hf, rfl⟩ := List.mem_map.mp hv
    exact h3 e he f hf
theorem ly_neS {a1 a3 : Nat → Int32} {b : Nat} (h : ly_so a3 (ly_ne a1 b)) {i j : Nat} (hij : i < j) (hj : j < ly_n (a1 b)) : ly_sl a3 (4 * b + ly_ce (a1 b) i) < ly_sl a3 (4 * b + ly_ce (a1 b) j) := by
  unfold ly_so ly_ne at h
  rw [List.map_map, List.pairwise_iff_getElem] at h
  have hl : ((ly_cs (a1 b)).map (ly_sl a3 ∘ fun c => 4 * b + c)).length = ly_n (a1 b) := by rw [List.length_map, ly_csL]
  have := h i j (by omega) (by omega) hij
  rw [List.getElem_map, List.getElem_map, ly_csI, ly_csI] at this
  exact this
theorem ly_nm1 {b : Nat} (h : b < 2 ^ 31) : ¬ nI b = -1 := by
  intro e
  have e2 := nI_pos h
  rw [e] at e2
  exact e2 (by decide)
theorem ly_a3 {a3 a5 : Nat → Int32} (hG : ly_G a3 a5) {e : Nat} (he : e < 488) : a3 (nI e).toNatClampNeg = nI (ly_sl a3 e) := by
  rw [nI_clamp (by omega)]
  exact (hG e).1
section
variable {t f c l q : Int32} {a1 a2 a3 a4 a5 a6 a7 a8 a9 a10 a11 a12 : Nat → Int32}
theorem ly_sizeOfNode {post : Int32 → Prop} {b : Nat} (hb : b < 122) (h : post (nI (ly_n (a1 b)))) : wpX_sizeOfNode post (t, f, c, l, q, a1, a2, a3, a4, a5, a6, a7, a8, a9, a10, a11, a12) (nI b) := by
  refine ⟨pk_in b 122 hb, ?_⟩
  rw [nI_clamp (by omega), ly_and15]
  exact h
theorem ly_entryAt {post : Int32 → Prop} {b k : Nat} (hb : b < 122) (h : post (nI (4 * b + ly_ce (a1 b) k))) : wpX_entryAt post (t, f, c, l, q, a1, a2, a3, a4, a5, a6, a7, a8, a9, a10, a11, a12) (nI b) (nI k) := by
  refine ⟨pk_in b 122 hb, ?_⟩
  rw [nI_clamp (by omega), ly_and15, show (4 : Int32) * nI b = nI (4 * b) from pk_mul 4 b, nI_add]
  exact h
theorem ly_nodeForL {post : Int32 → Prop} {s : Nat} {ns : List Nat} (hs : s < 81) (hG : ly_G a3 a5) (hc : ly_cw a1 a2 a3 ns) (H : ∀ pre b suf, ns = pre ++ b :: suf → (∀ e ∈ ly_en a1 pre, ly_sl a3 e < s) → (∀ e ∈ ly_en a1 suf, s < ly_sl a3 e) → (pre = [] ∨ ∃ e ∈ ly_ne a1 b, ly_sl a3 e ≤ s) → post (nI b)) : ∀ suf pre b, ns = pre ++ b :: suf → (∀ e ∈ ly_en a1 pre, ly_sl a3 e < s) → (pre = [] ∨ ∃ e ∈ ly_ne a1 b, ly_sl a3 e ≤ s) → ∃ n, wX_nodeFor_10 post (nI s) t f c l q a1 a2 a3 a4 a5 a6 a7 a8 a9 a10 a11 a12 n (nI b) (ly_lk suf) := by
  obtain ⟨c1, c2, c3, c4, c5⟩ := hc
  intro suf
  induction suf with
  | nil =>
    intro pre b h hp hq
    exact ⟨1, br_t rfl (H pre b [] h hp (fun e he => absurd he List.not_mem_nil) hq)⟩
  | cons b' r ih =>
    intro pre b h hp hq
    have h' : ns = (pre ++ [b]) ++ b' :: r := by rw [h, List.append_assoc]; rfl
    have c1' : ly_ch a2 (b' :: r) := by rw [h'] at c1; exact ly_chA c1
    have hb' : b' < 122 := c1'.1
    have mem : b' ∈ ns := by rw [h']; exact List.mem_append_right _ List.mem_cons_self
    have memt : b' ∈ ns.tail := by
      rw [h]
      cases pre with
      | nil => exact List.mem_cons_self
      | cons x y => exact List.mem_append_right y (List.mem_cons_of_mem _ List.mem_cons_self)
    have hok := c2 b' mem
    have ⟨n4, n5, _⟩ := ly_okN hok
    have hne := c3 b' memt
    have hn : 0 < ly_n (a1 b') := by
      rw [← ly_csL]
      exact List.length_pos_iff.mpr hne
    have he4 := n5 0 (by omega)
    have hE : 4 * b' + ly_ce (a1 b') 0 < 488 := by omega
    have hin : 4 * b' + ly_ce (a1 b') 0 ∈ ly_ne a1 b' := ly_neM.mpr ⟨0, hn, rfl⟩
    rw [h', ly_enA, ly_soA, ly_enC] at c5
    obtain ⟨s1, s2, s3⟩ := c5
    have hin2 : 4 * b' + ly_ce (a1 b') 0 ∈ ly_ne a1 b' ++ ly_en a1 r := List.mem_append_left _ hin
    by_cases hlt : s < ly_sl a3 (4 * b' + ly_ce (a1 b') 0)
    · refine ⟨1, br_f (ly_nm1 (by omega)) (ly_entryAt (k := 0) hb' ⟨pk_in _ 488 hE, br_t ?_ (H pre b (b' :: r) h hp ?_ hq)⟩)⟩
      · rw [ly_a3 hG hE]
        exact nI_lt hlt (by have := (hG (4 * b' + ly_ce (a1 b') 0)).2.1; omega)
      · intro e he
        rw [ly_enC] at he
        obtain ⟨x1, x2, x3⟩ := ly_soA.mp s2
        rcases List.mem_append.mp he with he | he
        · obtain ⟨j, hj, rfl⟩ := ly_neM.mp he
          by_cases hj0 : j = 0
          · rw [hj0]; exact hlt
          · have := ly_neS x1 (i := 0) (by omega) hj
            omega
        · have := x3 _ hin _ he
          omega
    · obtain ⟨n, hw⟩ := ih (pre ++ [b]) b' h' (fun e he => by have := s3 e he _ hin2; omega) (Or.inr ⟨_, hin, by omega⟩)
      refine ⟨n + 1, br_f (ly_nm1 (by omega)) (ly_entryAt (k := 0) hb' ⟨pk_in _ 488 hE, br_f ?_ ⟨pk_in b' 122 hb', nm_r ?_ hw⟩⟩)⟩
      · rw [ly_a3 hG hE]
        exact nI_nlt (by omega) (by omega)
      · show a2 (nI b').toNatClampNeg = ly_lk r
        rw [nI_clamp (by omega)]
        exact c1'.2.1
theorem ly_nodeFor {post : Int32 → Prop} {s b0 : Nat} {rest : List Nat} (hs : s < 81) (hG : ly_G a3 a5) (hc : ly_cw a1 a2 a3 (b0 :: rest)) (H : ∀ pre b suf, b0 :: rest = pre ++ b :: suf → (∀ e ∈ ly_en a1 pre, ly_sl a3 e < s) → (∀ e ∈ ly_en a1 suf, s < ly_sl a3 e) → (pre = [] ∨ ∃ e ∈ ly_ne a1 b, ly_sl a3 e ≤ s) → post (nI b)) : wpX_nodeFor post (t, f, c, l, q, a1, a2, a3, a4, a5, a6, a7, a8, a9, a10, a11, a12) (nI b0) (nI s) := by
  have hb := hc.1.1
  refine ⟨pk_in b0 122 hb, nm_r (e' := ly_lk rest) ?_ (ly_nodeForL hs hG hc H rest [] b0 rfl (fun e he => absurd he List.not_mem_nil) (Or.inl rfl))⟩
  rw [nI_clamp (by omega)]
  exact hc.1.2.1
theorem ly_lesserL {post : Int32 → Prop} {s b : Nat} (hs : s < 81) (hG : ly_G a3 a5) (hb : b < 122) (hok : ly_ok (a1 b)) (H : ∀ k, k ≤ ly_n (a1 b) → (∀ j, j < k → ly_sl a3 (4 * b + ly_ce (a1 b) j) < s) → (k < ly_n (a1 b) → s ≤ ly_sl a3 (4 * b + ly_ce (a1 b) k)) → post (nI k)) : ∀ d k, k + d = ly_n (a1 b) → (∀ j, j < k → ly_sl a3 (4 * b + ly_ce (a1 b) j) < s) → wX_lesserIn_2 post (nI b) (nI s) t f c l q a1 a2 a3 a4 a5 a6 a7 a8 a9 a10 a11 a12 (d + 1) (nI k) := by
  have ⟨n4, n5, _⟩ := ly_okN hok
  intro d
  induction d with
  | zero =>
    intro k hk hj
    unfold wX_lesserIn_2
    exact ly_sizeOfNode hb (pk_le (ly_n (a1 b)) k (fun _ => H k (by omega) hj (fun z => absurd z (by omega))) (fun z => absurd z (by omega)))
  | succ d ih =>
    intro k hk hj
    have he4 := n5 k (by omega)
    have hE : 4 * b + ly_ce (a1 b) k < 488 := by omega
    have h81 := (hG (4 * b + ly_ce (a1 b) k)).2.1
    unfold wX_lesserIn_2
    refine ly_sizeOfNode hb (pk_le (ly_n (a1 b)) k (fun z => absurd z (by omega)) (fun _ => ly_entryAt hb ⟨pk_in _ 488 hE, pk_le s (ly_sl a3 (4 * b + ly_ce (a1 b) k)) (fun z => H k (by omega) hj (fun _ => z)) (fun z => nm_r (nI_1 k) (ih (k + 1) (by omega) (fun j hj' => ?_))) rfl (ly_a3 hG hE)⟩))
    by_cases e : j = k
    · rw [e]; exact z
    · exact hj j (by omega)
theorem ly_lesserIn {post : Int32 → Prop} {s b : Nat} (hs : s < 81) (hG : ly_G a3 a5) (hb : b < 122) (hok : ly_ok (a1 b)) (H : ∀ k, k ≤ ly_n (a1 b) → (∀ j, j < k → ly_sl a3 (4 * b + ly_ce (a1 b) j) < s) → (k < ly_n (a1 b) → s ≤ ly_sl a3 (4 * b + ly_ce (a1 b) k)) → post (nI k)) : wpX_lesserIn post (t, f, c, l, q, a1, a2, a3, a4, a5, a6, a7, a8, a9, a10, a11, a12) (nI b) (nI s) :=
  ⟨_, ly_lesserL hs hG hb hok H (ly_n (a1 b)) 0 (by omega) (fun j hj => absurd hj (by omega))⟩
theorem ly_entryFor {post : Int32 → Prop} {s : Nat} {ns : List Nat} (hs : s < 81) (hG : ly_G a3 a5) (hc : ly_cn a1 a2 a3 ns) (H1 : ∀ e ∈ ly_en a1 ns, ly_sl a3 e = s → post (nI e)) (H2 : (∀ e ∈ ly_en a1 ns, ly_sl a3 e ≠ s) → post (-1)) : wpX_entryFor post (t, f, c, l, q, a1, a2, a3, a4, a5, a6, a7, a8, a9, a10, a11, a12) (ly_lk ns) (nI s) := by
  cases ns with
  | nil => exact br_t rfl (H2 (fun e he => absurd he List.not_mem_nil))
  | cons b0 rest =>
    have hc1 := hc.1
    obtain ⟨c1, c2, c3, c4, c5⟩ := hc1
    have hb0 := c1.1
    refine br_f (ly_nm1 (b := b0) (by omega)) (ly_nodeFor hs hG hc.1 (fun pre b suf hE hp hsuf _ => ?_))
    have mem : b ∈ b0 :: rest := by rw [hE]; exact List.mem_append_right _ List.mem_cons_self
    have hb := ly_chB c1 b mem
    have hok := c2 b mem
    have ⟨n4, n5, _⟩ := ly_okN hok
    rw [hE, ly_enA, ly_enC, ly_soA, ly_soA] at c5
    have so := c5.2.1.1
    refine ly_lesserIn hs hG hb hok (fun k hk h1 h2 => ly_sizeOfNode hb (pk_le (ly_n (a1 b)) k (fun z => ?_) (fun z => ?_)))
    · refine H2 (fun e he => ?_)
      rw [hE, ly_enA, ly_enC] at he
      rcases List.mem_append.mp he with he | he
      · have := hp e he
        omega
      · rcases List.mem_append.mp he with he | he
        · obtain ⟨j, hj, rfl⟩ := ly_neM.mp he
          have := h1 j (by omega)
          omega
        · have := hsuf e he
          omega
    · have he4 := n5 k (by omega)
      have hE2 : 4 * b + ly_ce (a1 b) k < 488 := by omega
      have h81 := (hG (4 * b + ly_ce (a1 b) k)).2.1
      refine ly_entryAt hb ⟨pk_in _ 488 hE2, pk_eq (ly_sl a3 (4 * b + ly_ce (a1 b) k)) s (fun g => ly_entryAt hb (H1 _ ?_ g)) (fun g => H2 (fun e he => ?_)) (ly_a3 hG hE2) rfl⟩
      · rw [hE, ly_enA, ly_enC]
        exact List.mem_append_right _ (List.mem_append_left _ (ly_neM.mpr ⟨k, z, rfl⟩))
      · have h3 := h2 z
        rw [hE, ly_enA, ly_enC] at he
        rcases List.mem_append.mp he with he | he
        · have := hp e he
          omega
        · rcases List.mem_append.mp he with he | he
          · obtain ⟨j, hj, rfl⟩ := ly_neM.mp he
            rcases Nat.lt_trichotomy j k with e1 | e1 | e1
            · have := h1 j e1
              omega
            · rw [e1]; exact g
            · have := ly_neS so e1 hj
              omega
          · have := hsuf e he
            omega
end
end
section
/-! a node taken, a node split, a slice put into a chain -/
theorem ly_u {a : Nat → Int32} {k : Nat} {v : Int32} (h : k < 2 ^ 31) : upd a (nI k).toNatClampNeg v = upd a k v := by rw [nI_clamp h]
theorem ly_ndM {pre suf : List Nat} {b : Nat} (h : (pre ++ b :: suf).Nodup) : b ∉ pre ∧ b ∉ suf ∧ (∀ x ∈ pre, x ∉ suf) ∧ pre.Nodup ∧ suf.Nodup := by
  have ⟨h1, h2, h3⟩ := List.nodup_append.mp h
  have ⟨h4, h5⟩ := List.nodup_cons.mp h2
  exact ⟨fun z => h3 b z b List.mem_cons_self rfl, h4, fun x hx hx' => h3 x hx x (List.mem_cons_of_mem _ hx') rfl, h1, h5⟩
theorem ly_tkM {o : Int32} {c k : Nat} (h : c ∈ (ly_cs o).take k) : ∃ j, j < k ∧ j < ly_n o ∧ c = ly_ce o j := by
  obtain ⟨i, hi, rfl⟩ := List.mem_iff_getElem.mp h
  have hi' := hi
  rw [List.length_take, ly_csL] at hi'
  refine ⟨i, by omega, by omega, ?_⟩
  rw [List.getElem_take, ly_csI]
theorem ly_dpM {o : Int32} {c k : Nat} (h : c ∈ (ly_cs o).drop k) : ∃ j, k ≤ j ∧ j < ly_n o ∧ c = ly_ce o j := by
  obtain ⟨i, hi, rfl⟩ := List.mem_iff_getElem.mp h
  have hi' := hi
  rw [List.length_drop, ly_csL] at hi'
  refine ⟨k + i, by omega, by omega, ?_⟩
  rw [List.getElem_drop, ly_csI]
theorem ly_cwA {a1 a2 a3 : Nat → Int32} {pre suf : List Nat} {b : Nat} (hc : ly_cw a1 a2 a3 (pre ++ b :: suf)) : ly_cw a1 a2 a3 (b :: suf) := by
  obtain ⟨c1, c2, c3, c4, c5⟩ := hc
  refine ⟨ly_chA c1, fun x hx => c2 x (List.mem_append_right _ hx), fun x hx => c3 x ?_, (List.nodup_append.mp c4).2.1, ?_⟩
  · cases pre with
    | nil => exact hx
    | cons y z => exact List.mem_append_right z (List.mem_cons_of_mem _ hx)
  · rw [ly_enA, ly_soA] at c5
    exact c5.2.1
def ly_mv (a a' : Nat → Int32) (g x y : Nat) : Prop := a' (4 * g) = a x ∧ a' (4 * g + 1) = a y ∧ ∀ e, e ≠ 4 * g → e ≠ 4 * g + 1 → a' e = a e
theorem ly_mvU {a : Nat → Int32} {g x y : Nat} (hy : y ≠ 4 * g) : ly_mv a (upd (upd a (4 * g + 0) (a x)) (4 * g + 1) ((upd a (4 * g + 0) (a x)) y)) g x y := by
  refine ⟨?_, ?_, fun e h1 h2 => ?_⟩
  · rw [pk_un (by omega)]
    exact pk_us
  · rw [pk_us]
    exact pk_un hy
  · rw [pk_un h2]
    exact pk_un h1
theorem ly_lkA {x y z : List Nat} {b : Nat} : ly_lk (x ++ b :: y) = ly_lk (x ++ b :: z) := by
  cases x <;> rfl
theorem ly_chI {a2 b2 : Nat → Int32} {pre suf : List Nat} {b g : Nat} (hc : ly_ch a2 (pre ++ b :: suf)) (hg : g < 122) (hb : b ∉ pre) (hb' : b ∉ suf) (hgp : g ∉ pre) (hgs : g ∉ suf) (h1 : b2 b = nI g) (h2 : b2 g = a2 b) (h3 : ∀ j, j ≠ b → j ≠ g → b2 j = a2 j) : ly_ch b2 (pre ++ b :: g :: suf) := by
  induction pre with
  | nil =>
    refine ⟨hc.1, h1, hg, h2.trans hc.2.1, ly_chF (fun x hx => h3 x ?_ ?_) hc.2.2⟩
    · intro e; rw [e] at hx; exact hb' hx
    · intro e; rw [e] at hx; exact hgs hx
  | cons x p ih =>
    have hx1 : x ≠ b := fun e => hb (by rw [e]; exact List.mem_cons_self)
    have hx2 : x ≠ g := fun e => hgp (by rw [e]; exact List.mem_cons_self)
    refine ⟨hc.1, (h3 x hx1 hx2).trans (hc.2.1.trans ly_lkA), ih hc.2.2 (fun z => hb (List.mem_cons_of_mem _ z)) (fun z => hgp (List.mem_cons_of_mem _ z))⟩
theorem ly_neE {a1 : Nat → Int32} {b : Nat} {l : List Nat} (h : ly_cs (a1 b) = l) : ly_ne a1 b = l.map (fun c => 4 * b + c) := by
  unfold ly_ne
  rw [h]
theorem ly_rlC {a1 a3 a4 a5 a6 : Nat → Int32} {b : Nat} {r : List Nat} : ly_rl a1 a3 a4 a5 a6 (b :: r) = (ly_ne a1 b).map (ly_rc a3 a4 a5 a6) ++ ly_rl a1 a3 a4 a5 a6 r := by
  unfold ly_rl
  rw [ly_enC, List.map_append]
theorem ly_soR {a1 a3 a4 a5 a6 b1 b3 b4 b5 b6 : Nat → Int32} {ns ms : List Nat} (h : ly_rl b1 b3 b4 b5 b6 ms = ly_rl a1 a3 a4 a5 a6 ns) (hs : ly_so a3 (ly_en a1 ns)) : ly_so b3 (ly_en b1 ms) := by
  unfold ly_so at hs ⊢
  rw [← ly_rlS (a4 := b4) (a5 := b5) (a6 := b6), h, ly_rlS]
  exact hs
theorem ly_splitP {a1 a2 a3 a4 a5 a6 b1 b2 b3 b4 b5 b6 : Nat → Int32} {pre suf : List Nat} {b g : Nat} (hc : ly_cw a1 a2 a3 (pre ++ b :: suf)) (h4 : ly_n (a1 b) = 4) (hg : g < 122) (hgn : g ∉ pre ++ b :: suf) (hb1 : b1 b = (a1 b &&& (-16)) ||| 2) (hb1g : b1 g = 205058) (hb1o : ∀ j, j ≠ b → j ≠ g → b1 j = a1 j) (hb2 : b2 b = nI g) (hb2g : b2 g = a2 b) (hb2o : ∀ j, j ≠ b → j ≠ g → b2 j = a2 j) (m3 : ly_mv a3 b3 g (4 * b + ly_ce (a1 b) 2) (4 * b + ly_ce (a1 b) 3)) (m4 : ly_mv a4 b4 g (4 * b + ly_ce (a1 b) 2) (4 * b + ly_ce (a1 b) 3)) (m5 : ly_mv a5 b5 g (4 * b + ly_ce (a1 b) 2) (4 * b + ly_ce (a1 b) 3)) (m6 : ly_mv a6 b6 g (4 * b + ly_ce (a1 b) 2) (4 * b + ly_ce (a1 b) 3)) :
    ly_cw b1 b2 b3 (pre ++ b :: g :: suf) ∧ ly_rl b1 b3 b4 b5 b6 (pre ++ b :: g :: suf) = ly_rl a1 a3 a4 a5 a6 (pre ++ b :: suf) ∧ ly_cs (b1 b) ≠ [] ∧ ly_cs (b1 g) ≠ [] ∧ ly_n (b1 b) = 2 ∧ ly_n (b1 g) = 2 := by
  obtain ⟨c1, c2, c3, c4, c5⟩ := hc
  have ⟨n1, n2, n3, n4, n5⟩ := ly_ndM c4
  have gp : g ∉ pre := fun z => hgn (List.mem_append_left _ z)
  have gb : g ≠ b := fun z => hgn (by rw [z]; exact List.mem_append_right _ List.mem_cons_self)
  have gs : g ∉ suf := fun z => hgn (List.mem_append_right _ (List.mem_cons_of_mem _ z))
  have hok := c2 b (List.mem_append_right _ List.mem_cons_self)
  have ⟨k1, k2, k3⟩ := ly_okS hok h4
  have ⟨k4, k5, _⟩ := ly_okN hok
  have e2 := k5 2 (by omega)
  have e3 := k5 3 (by omega)
  have e0 := k5 0 (by omega)
  have e1 := k5 1 (by omega)
  have fpre : ly_rl b1 b3 b4 b5 b6 pre = ly_rl a1 a3 a4 a5 a6 pre := by
    refine ly_rlF (fun x hx => c2 x (List.mem_append_left _ hx)) (fun x hx => hb1o x ?_ ?_) (fun e he => ?_)
    · intro z; rw [z] at hx; exact n1 hx
    · intro z; rw [z] at hx; exact gp hx
    · have h1 : e ≠ 4 * g := fun z => gp (by rw [z, show 4 * g / 4 = g by omega] at he; exact he)
      have h2 : e ≠ 4 * g + 1 := fun z => gp (by rw [z, show (4 * g + 1) / 4 = g by omega] at he; exact he)
      exact ⟨m3.2.2 e h1 h2, m4.2.2 e h1 h2, m5.2.2 e h1 h2, m6.2.2 e h1 h2⟩
  have fsuf : ly_rl b1 b3 b4 b5 b6 suf = ly_rl a1 a3 a4 a5 a6 suf := by
    refine ly_rlF (fun x hx => c2 x (List.mem_append_right _ (List.mem_cons_of_mem _ hx))) (fun x hx => hb1o x ?_ ?_) (fun e he => ?_)
    · intro z; rw [z] at hx; exact n2 hx
    · intro z; rw [z] at hx; exact gs hx
    · have h1 : e ≠ 4 * g := fun z => gs (by rw [z, show 4 * g / 4 = g by omega] at he; exact he)
      have h2 : e ≠ 4 * g + 1 := fun z => gs (by rw [z, show (4 * g + 1) / 4 = g by omega] at he; exact he)
      exact ⟨m3.2.2 e h1 h2, m4.2.2 e h1 h2, m5.2.2 e h1 h2, m6.2.2 e h1 h2⟩
  have rcS : ∀ e, e ≠ 4 * g → e ≠ 4 * g + 1 → ly_rc b3 b4 b5 b6 e = ly_rc a3 a4 a5 a6 e := by
    intro e h1 h2
    unfold ly_rc ly_sl
    rw [m3.2.2 e h1 h2, m4.2.2 e h1 h2, m5.2.2 e h1 h2, m6.2.2 e h1 h2]
  have rcX : ly_rc b3 b4 b5 b6 (4 * g) = ly_rc a3 a4 a5 a6 (4 * b + ly_ce (a1 b) 2) := by
    unfold ly_rc ly_sl
    rw [m3.1, m4.1, m5.1, m6.1]
  have rcY : ly_rc b3 b4 b5 b6 (4 * g + 1) = ly_rc a3 a4 a5 a6 (4 * b + ly_ce (a1 b) 3) := by
    unfold ly_rc ly_sl
    rw [m3.2.1, m4.2.1, m5.2.1, m6.2.1]
  have cb : ly_cs (b1 b) = [ly_ce (a1 b) 0, ly_ce (a1 b) 1] := by rw [hb1]; exact k2
  have cg : ly_cs (b1 g) = [0, 1] := by rw [hb1g]; exact ly_cs2
  have rl : ly_rl b1 b3 b4 b5 b6 (pre ++ b :: g :: suf) = ly_rl a1 a3 a4 a5 a6 (pre ++ b :: suf) := by
    rw [ly_rlA, ly_rlA, fpre, ly_rlC, ly_rlC, ly_rlC, fsuf, ly_neE cb, ly_neE cg, ly_neE k3, ← List.append_assoc (List.map _ _)]
    refine congrArg (ly_rl a1 a3 a4 a5 a6 pre ++ ·) (congrArg (· ++ ly_rl a1 a3 a4 a5 a6 suf) ?_)
    show [ly_rc b3 b4 b5 b6 (4 * b + ly_ce (a1 b) 0), ly_rc b3 b4 b5 b6 (4 * b + ly_ce (a1 b) 1), ly_rc b3 b4 b5 b6 (4 * g), ly_rc b3 b4 b5 b6 (4 * g + 1)] = [ly_rc a3 a4 a5 a6 (4 * b + ly_ce (a1 b) 0), ly_rc a3 a4 a5 a6 (4 * b + ly_ce (a1 b) 1), ly_rc a3 a4 a5 a6 (4 * b + ly_ce (a1 b) 2), ly_rc a3 a4 a5 a6 (4 * b + ly_ce (a1 b) 3)]
    rw [rcX, rcY, rcS _ (by omega) (by omega), rcS _ (by omega) (by omega)]
  refine ⟨⟨ly_chI c1 hg n1 n2 gp gs hb2 hb2g hb2o, ?_, ?_, ?_, ly_soR rl c5⟩, rl, by rw [cb]; exact List.cons_ne_nil _ _, by rw [cg]; exact List.cons_ne_nil _ _, by rw [← ly_csL, cb]; rfl, by rw [← ly_csL, cg]; rfl⟩
  · intro x hx
    by_cases hxb : x = b
    · rw [hxb, hb1]; exact k1
    · by_cases hxg : x = g
      · rw [hxg, hb1g]; exact ly_ok2
      · rw [hb1o x hxb hxg]
        refine c2 x ?_
        rcases List.mem_append.mp hx with h | h
        · exact List.mem_append_left _ h
        · rcases List.mem_cons.mp h with h | h
          · exact absurd h hxb
          · rcases List.mem_cons.mp h with h | h
            · exact absurd h hxg
            · exact List.mem_append_right _ (List.mem_cons_of_mem _ h)
  · intro x hx
    by_cases hxb : x = b
    · rw [hxb, cb]; exact List.cons_ne_nil _ _
    · by_cases hxg : x = g
      · rw [hxg, cg]; exact List.cons_ne_nil _ _
      · rw [hb1o x hxb hxg]
        refine c3 x ?_
        cases pre with
        | nil =>
          rcases List.mem_cons.mp hx with h | h
          · exact absurd h hxg
          · exact h
        | cons y z =>
          rcases List.mem_append.mp (show x ∈ z ++ b :: g :: suf from hx) with h | h
          · exact List.mem_append_left (b :: suf) h
          · rcases List.mem_cons.mp h with h | h
            · exact absurd h hxb
            · rcases List.mem_cons.mp h with h | h
              · exact absurd h hxg
              · exact List.mem_append_right z (List.mem_cons_of_mem _ h)
  · rw [List.nodup_append] at c4 ⊢
    refine ⟨c4.1, ?_, ?_⟩
    · rw [List.nodup_cons, List.nodup_cons]
      refine ⟨fun z => ?_, gs, n5⟩
      rcases List.mem_cons.mp z with z | z
      · exact gb z.symm
      · exact n2 z
    · intro x hx y hy e
      subst e
      rcases List.mem_cons.mp hy with h | h
      · rw [h] at hx; exact n1 hx
      · rcases List.mem_cons.mp h with h | h
        · rw [h] at hx; exact gp hx
        · exact n3 x hx h
/-- a slice put at its place in a node -/
theorem ly_insP {a1 a2 a3 a4 a5 a6 : Nat → Int32} {ns pre suf : List Nat} {b k s : Nat} (hE : ns = pre ++ b :: suf) (hc : ly_cw a1 a2 a3 ns) (hs : s < 81) (hn : ly_n (a1 b) < 4) (hk : k ≤ ly_n (a1 b)) (hp : ∀ e ∈ ly_en a1 pre, ly_sl a3 e < s) (hq : ∀ e ∈ ly_en a1 suf, s < ly_sl a3 e) (h1 : ∀ j, j < k → ly_sl a3 (4 * b + ly_ce (a1 b) j) < s) (h2 : k < ly_n (a1 b) → s ≤ ly_sl a3 (4 * b + ly_ce (a1 b) k)) (hno : ∀ e ∈ ly_en a1 ns, ly_sl a3 e ≠ s) :
    ly_cw (upd a1 b (ly_oi (a1 b) k (ly_n (a1 b)))) a2 (upd a3 (4 * b + ly_ce (a1 b) (ly_n (a1 b))) (nI s)) ns ∧ ly_cs (upd a1 b (ly_oi (a1 b) k (ly_n (a1 b))) b) ≠ [] ∧ 4 * b + ly_ce (a1 b) (ly_n (a1 b)) ∈ ly_en (upd a1 b (ly_oi (a1 b) k (ly_n (a1 b)))) ns ∧ (∀ r, r ∈ ly_rl (upd a1 b (ly_oi (a1 b) k (ly_n (a1 b)))) (upd a3 (4 * b + ly_ce (a1 b) (ly_n (a1 b))) (nI s)) (upd a4 (4 * b + ly_ce (a1 b) (ly_n (a1 b))) 0) (upd a5 (4 * b + ly_ce (a1 b) (ly_n (a1 b))) 0) (upd a6 (4 * b + ly_ce (a1 b) (ly_n (a1 b))) (-1)) ns ↔ r = (s, 0, 0, -1) ∨ r ∈ ly_rl a1 a3 a4 a5 a6 ns) := by
  obtain ⟨c1, c2, c3, c4, c5⟩ := hc
  have c4' := c4
  rw [hE] at c4'
  have ⟨n1, n2, n3, n4, n5⟩ := ly_ndM c4'
  have hbm : b ∈ ns := by rw [hE]; exact List.mem_append_right _ List.mem_cons_self
  have hok := c2 b hbm
  have ⟨k4, k5, k6⟩ := ly_okN hok
  have ⟨i1, i2⟩ := ly_okI hok hn hk
  have hx4 := k5 (ly_n (a1 b)) hn
  generalize hxe : 4 * b + ly_ce (a1 b) (ly_n (a1 b)) = x at *
  have hxd : x / 4 = b := by omega
  have hb1 : upd a1 b (ly_oi (a1 b) k (ly_n (a1 b))) b = ly_oi (a1 b) k (ly_n (a1 b)) := pk_us
  have hb1o : ∀ j, j ≠ b → upd a1 b (ly_oi (a1 b) k (ly_n (a1 b))) j = a1 j := fun j hj => pk_un hj
  generalize upd a1 b (ly_oi (a1 b) k (ly_n (a1 b))) = b1 at *
  have okp : ∀ y ∈ pre, ly_ok (a1 y) := fun y hy => c2 y (by rw [hE]; exact List.mem_append_left _ hy)
  have oks : ∀ y ∈ suf, ly_ok (a1 y) := fun y hy => c2 y (by rw [hE]; exact List.mem_append_right _ (List.mem_cons_of_mem _ hy))
  have fp : ly_en b1 pre = ly_en a1 pre := ly_enF (fun y hy => hb1o y (fun z => n1 (by rw [z] at hy; exact hy)))
  have fs : ly_en b1 suf = ly_en a1 suf := ly_enF (fun y hy => hb1o y (fun z => n2 (by rw [z] at hy; exact hy)))
  have nb : ly_ne b1 b = ((ly_cs (a1 b)).take k).map (fun c => 4 * b + c) ++ x :: ((ly_cs (a1 b)).drop k).map (fun c => 4 * b + c) := by
    have hcs : ly_cs (b1 b) = (ly_cs (a1 b)).take k ++ ly_ce (a1 b) (ly_n (a1 b)) :: (ly_cs (a1 b)).drop k := by rw [hb1]; exact i2
    rw [ly_neE hcs, List.map_append, List.map_cons, hxe]
  have na : ly_ne a1 b = ((ly_cs (a1 b)).take k).map (fun c => 4 * b + c) ++ ((ly_cs (a1 b)).drop k).map (fun c => 4 * b + c) := by
    rw [← List.map_append, List.take_append_drop]
    rfl
  have EA : ly_en a1 ns = (ly_en a1 pre ++ ((ly_cs (a1 b)).take k).map (fun c => 4 * b + c)) ++ (((ly_cs (a1 b)).drop k).map (fun c => 4 * b + c) ++ ly_en a1 suf) := by
    rw [hE, ly_enA, ly_enC, na, List.append_assoc, List.append_assoc]
  have EB : ly_en b1 ns = (ly_en a1 pre ++ ((ly_cs (a1 b)).take k).map (fun c => 4 * b + c)) ++ x :: (((ly_cs (a1 b)).drop k).map (fun c => 4 * b + c) ++ ly_en a1 suf) := by
    rw [hE, ly_enA, ly_enC, nb, fp, fs, List.append_assoc, List.append_assoc]
    rfl
  have so0 := c5
  rw [EA] at so0
  have sob : ly_so a3 (ly_ne a1 b) := by
    rw [hE, ly_enA, ly_enC, ly_soA, ly_soA] at c5
    exact c5.2.1.1
  have xno : x ∉ ly_en a1 ns := by
    intro hx
    rw [hE, ly_enA, ly_enC] at hx
    rcases List.mem_append.mp hx with h | h
    · have := ly_enD okp h
      rw [hxd] at this
      exact n1 this
    · rcases List.mem_append.mp h with h | h
      · obtain ⟨j, hj, e⟩ := ly_neM.mp h
        have := k6 _ hn j (by omega) (by omega)
        omega
      · have := ly_enD oks h
        rw [hxd] at this
        exact n2 this
  have f3 : ∀ e ∈ ly_en a1 ns, upd a3 x (nI s) e = a3 e := fun e he => pk_un (fun z => xno (by rw [← z]; exact he))
  have slx : ly_sl (upd a3 x (nI s)) x = s := by
    unfold ly_sl
    rw [pk_us, nI_clamp (by omega)]
  have hA : ∀ e ∈ ly_en a1 pre ++ ((ly_cs (a1 b)).take k).map (fun c => 4 * b + c), ly_sl a3 e < s := by
    intro e he
    rcases List.mem_append.mp he with h | h
    · exact hp e h
    · obtain ⟨c, hc, rfl⟩ := List.mem_map.mp h
      obtain ⟨j, j1, j2, rfl⟩ := ly_tkM hc
      exact h1 j j1
  have hB : ∀ e ∈ ((ly_cs (a1 b)).drop k).map (fun c => 4 * b + c) ++ ly_en a1 suf, s < ly_sl a3 e := by
    intro e he
    have hne := hno e (by rw [EA]; exact List.mem_append_right _ he)
    rcases List.mem_append.mp he with h | h
    · obtain ⟨c, hc, rfl⟩ := List.mem_map.mp h
      obtain ⟨j, j1, j2, rfl⟩ := ly_dpM hc
      have g := h2 (by omega)
      by_cases ejk : j = k
      · subst ejk
        have : ly_sl a3 (4 * b + ly_ce (a1 b) j) ≠ s := hne
        show s < ly_sl a3 (4 * b + ly_ce (a1 b) j)
        omega
      · have := ly_neS sob (show k < j by omega) j2
        show s < ly_sl a3 (4 * b + ly_ce (a1 b) j)
        omega
    · exact hq e h
  have slF : ∀ e ∈ ly_en a1 ns, ly_sl (upd a3 x (nI s)) e = ly_sl a3 e := fun e he => by unfold ly_sl; rw [f3 e he]
  have so1 := ly_soF f3 c5
  rw [EA, ly_soA] at so1
  obtain ⟨q1, q2, q3⟩ := so1
  refine ⟨⟨c1, ?_, ?_, c4, ?_⟩, ?_, ?_, ?_⟩
  · intro y hy
    by_cases e : y = b
    · rw [e, hb1]; exact i1
    · rw [hb1o y e]; exact c2 y hy
  · intro y hy
    by_cases e : y = b
    · rw [e, hb1, i2]
      exact List.append_ne_nil_of_right_ne_nil _ (List.cons_ne_nil _ _)
    · rw [hb1o y e]; exact c3 y hy
  · rw [EB, ly_soA]
    refine ⟨q1, ?_, ?_⟩
    · show (ly_sl (upd a3 x (nI s)) x :: _).Pairwise (· < ·)
      rw [List.pairwise_cons]
      refine ⟨fun u hu => ?_, q2⟩
      obtain ⟨e, he, rfl⟩ := List.mem_map.mp hu
      rw [slx, slF e (by rw [EA]; exact List.mem_append_right _ he)]
      exact hB e he
    · intro e he f hf
      rcases List.mem_cons.mp hf with h | h
      · rw [h, slx, slF e (by rw [EA]; exact List.mem_append_left _ he)]
        exact hA e he
      · exact q3 e he f h
  · rw [hb1, i2]
    exact List.append_ne_nil_of_right_ne_nil _ (List.cons_ne_nil _ _)
  · rw [EB]
    exact List.mem_append_right _ List.mem_cons_self
  · intro r
    have rcx : ly_rc (upd a3 x (nI s)) (upd a4 x 0) (upd a5 x 0) (upd a6 x (-1)) x = (s, 0, 0, -1) := by
      unfold ly_rc
      rw [slx, pk_us, pk_us, pk_us]
    have rco : ∀ e ∈ ly_en a1 ns, ly_rc (upd a3 x (nI s)) (upd a4 x 0) (upd a5 x 0) (upd a6 x (-1)) e = ly_rc a3 a4 a5 a6 e := by
      intro e he
      have hex : e ≠ x := fun z => xno (by rw [← z]; exact he)
      unfold ly_rc
      rw [slF e he, pk_un hex, pk_un hex, pk_un hex]
    rw [ly_rlM, ly_rlM, EB, EA]
    rw [EA] at rco
    constructor
    · rintro ⟨e, he, rfl⟩
      rcases List.mem_append.mp he with h | h
      · exact Or.inr ⟨e, List.mem_append_left _ h, (rco e (List.mem_append_left _ h)).symm⟩
      · rcases List.mem_cons.mp h with h | h
        · left
          rw [h]
          exact rcx
        · exact Or.inr ⟨e, List.mem_append_right _ h, (rco e (List.mem_append_right _ h)).symm⟩
    · rintro (h | ⟨e, he, rfl⟩)
      · exact ⟨x, List.mem_append_right _ List.mem_cons_self, by rw [h]; exact rcx⟩
      · refine ⟨e, ?_, rco e he⟩
        rcases List.mem_append.mp he with h | h
        · exact List.mem_append_left _ h
        · exact List.mem_append_right _ (List.mem_cons_of_mem _ h)
theorem ly_vnar {x : Int32} (h : x = 0 ∨ x = 1) : vp_nar .boolean x = x := by
  rcases h with rfl | rfl <;> rfl
section
variable {t f c l q : Int32} {a1 a2 a3 a4 a5 a6 a7 a8 a9 a10 a11 a12 : Nat → Int32}
theorem ly_entryAtE {post : Int32 → Prop} {x y : Int32} {b k : Nat} (hx : x = nI b) (hy : y = nI k) (hb : b < 122) (h : post (nI (4 * b + ly_ce (a1 b) k))) : wpX_entryAt post (t, f, c, l, q, a1, a2, a3, a4, a5, a6, a7, a8, a9, a10, a11, a12) x y := by
  subst hx hy
  exact ly_entryAt hb h
theorem ly_takeNode {post : Int32 → St2 → Prop} {g : Nat} (hg : g < 122) (hf : f = nI (122 - g)) (h7 : a7 (121 - g) = nI g) (H : post (nI g) (t, nI (121 - g), c, l, q, upd a1 g 205056, upd a2 g (-1), a3, a4, a5, a6, a7, a8, a9, a10, a11, a12)) : wpX_takeNode post (t, f, c, l, q, a1, a2, a3, a4, a5, a6, a7, a8, a9, a10, a11, a12) := by
  subst hf
  have e : nI (122 - g) - 1 = nI (121 - g) := by
    have := pk_sub (a := 122 - g) (b := 1) (by omega)
    rw [show 122 - g - 1 = 121 - g by omega] at this
    exact this
  refine nm_r e ⟨pk_in (121 - g) 122 (by omega), nm_r (e' := nI g) ?_ ⟨pk_in g 122 hg, nm_r (ly_u (by omega)) ⟨pk_in g 122 hg, nm_r (ly_u (by omega)) H⟩⟩⟩
  rw [nI_clamp (by omega)]
  exact h7
theorem ly_spS {post : St2 → Prop} {b g k n : Nat} (hk : k < 2) (hb : b < 122) (hg : g < 122) (hok : ly_ok (a1 b)) (h5 : a5 (4 * b + ly_ce (a1 b) (2 + k)) = 0 ∨ a5 (4 * b + ly_ce (a1 b) (2 + k)) = 1) (H : wX_split_26 post (nI b) (nI g) t f c l q n (nI (k + 1)) a1 a2 (upd a3 (4 * g + k) (a3 (4 * b + ly_ce (a1 b) (2 + k)))) (upd a4 (4 * g + k) (a4 (4 * b + ly_ce (a1 b) (2 + k)))) (upd a5 (4 * g + k) (a5 (4 * b + ly_ce (a1 b) (2 + k)))) (upd a6 (4 * g + k) (a6 (4 * b + ly_ce (a1 b) (2 + k)))) a7 a8 a9 a10 a11 a12) : wX_split_26 post (nI b) (nI g) t f c l q (n + 1) (nI k) a1 a2 a3 a4 a5 a6 a7 a8 a9 a10 a11 a12 := by
  have ⟨k4, k5, _⟩ := ly_okN hok
  have e4 := k5 (2 + k) (by omega)
  have hX : 4 * b + ly_ce (a1 b) (2 + k) < 488 := by omega
  have hY : 4 * g + k < 488 := by omega
  have cX := nI_clamp (n := 4 * b + ly_ce (a1 b) (2 + k)) (by omega)
  have cY := nI_clamp (n := 4 * g + k) (by omega)
  refine pk_le 2 k (fun z => absurd z (by omega)) (fun _ => ly_entryAtE rfl (nI_add 2 k) hb (nm_r (e' := nI (4 * g + k)) ?_ ⟨pk_in _ 488 hX, pk_in _ 488 hY, nm_r (by rw [cX, cY]) ⟨pk_in _ 488 hX, pk_in _ 488 hY, nm_r (by rw [cX, cY]) ⟨pk_in _ 488 hX, pk_in _ 488 hY, nm_r (by rw [cX, cY, ly_vnar h5]) ⟨pk_in _ 488 hX, pk_in _ 488 hY, nm_r (by rw [cX, cY]) (nm_r (nI_1 k) H)⟩⟩⟩⟩))
  rw [show (4 : Int32) * nI g = nI (4 * g) from pk_mul 4 g]
  exact nI_add _ _
theorem ly_split {post : St2 → Prop} {b g : Nat} (hb : b < 122) (hg : g < 122) (hbg : b ≠ g) (hf : f = nI (122 - g)) (h7 : a7 (121 - g) = nI g) (hok : ly_ok (a1 b)) (hG : ly_G a3 a5)
    (H : ∀ b1 b2 b3 b4 b5 b6 : Nat → Int32, b1 b = (a1 b &&& (-16)) ||| 2 → b1 g = 205058 → (∀ j, j ≠ b → j ≠ g → b1 j = a1 j) → b2 b = nI g → b2 g = a2 b → (∀ j, j ≠ b → j ≠ g → b2 j = a2 j) → ly_mv a3 b3 g (4 * b + ly_ce (a1 b) 2) (4 * b + ly_ce (a1 b) 3) → ly_mv a4 b4 g (4 * b + ly_ce (a1 b) 2) (4 * b + ly_ce (a1 b) 3) → ly_mv a5 b5 g (4 * b + ly_ce (a1 b) 2) (4 * b + ly_ce (a1 b) 3) → ly_mv a6 b6 g (4 * b + ly_ce (a1 b) 2) (4 * b + ly_ce (a1 b) 3) → post (t, nI (121 - g), c, l, q, b1, b2, b3, b4, b5, b6, a7, a8, a9, a10, a11, a12)) :
    wpX_split post (t, f, c, l, q, a1, a2, a3, a4, a5, a6, a7, a8, a9, a10, a11, a12) (nI b) := by
  have ⟨k4, k5, _⟩ := ly_okN hok
  have e2 := k5 2 (by omega)
  have e3 := k5 3 (by omega)
  have A1 : upd a1 g 205056 b = a1 b := pk_un hbg
  have A2 : upd a2 g (-1) b = a2 b := pk_un hbg
  have cb := nI_clamp (n := b) (by omega)
  have cg := nI_clamp (n := g) (by omega)
  unfold wpX_split
  refine ly_takeNode hg hf h7 ⟨pk_in b 122 hb, pk_in g 122 hg, nm_r (e' := upd (upd a2 g (-1)) g (a2 b)) (by rw [cb, cg, A2]) ⟨pk_in b 122 hb, nm_r (e' := upd (upd (upd a2 g (-1)) g (a2 b)) b (nI g)) (by rw [cb]) ⟨3, ?_⟩⟩⟩
  refine ly_spS (k := 0) (by omega) hb hg (by rw [A1]; exact hok) (by rw [A1]; exact (hG _).2.2) ?_
  have hY : 4 * b + ly_ce (a1 b) 3 ≠ 4 * g := by omega
  refine ly_spS (k := 1) (by omega) hb hg (by rw [A1]; exact hok) ?_ ?_
  · rw [A1, pk_un (by omega)]
    exact (hG _).2.2
  · rw [A1]
    refine pk_le 2 2 (fun _ => ⟨pk_in g 122 hg, nm_r (e' := upd (upd a1 g 205056) g 205058) (by rw [cg]) ⟨pk_in b 122 hb, pk_in b 122 hb, nm_r (e' := upd (upd (upd a1 g 205056) g 205058) b ((a1 b &&& (-16)) ||| 2)) ?_ (H _ _ _ _ _ _ ?_ ?_ ?_ ?_ ?_ ?_ (ly_mvU hY) (ly_mvU hY) (ly_mvU hY) (ly_mvU hY))⟩⟩) (fun z => absurd z (by omega))
    · rw [cb, pk_un hbg, A1]
    · exact pk_us
    · rw [pk_un (fun z => hbg z.symm)]
      exact pk_us
    · intro j h1 h2
      rw [pk_un h1, pk_un h2, pk_un h2]
    · exact pk_us
    · rw [pk_un (fun z => hbg z.symm)]
      exact pk_us
    · intro j h1 h2
      rw [pk_un h1, pk_un h2, pk_un h2]
theorem ly_ins28 {post : Int32 → St2 → Prop} {s b : Nat} (hs : s < 81) (hG : ly_G a3 a5) (hb : b < 122) (hok : ly_ok (a1 b)) (hn : ly_n (a1 b) < 4)
    (H : ∀ k, k ≤ ly_n (a1 b) → (∀ j, j < k → ly_sl a3 (4 * b + ly_ce (a1 b) j) < s) → (k < ly_n (a1 b) → s ≤ ly_sl a3 (4 * b + ly_ce (a1 b) k)) → post (nI (4 * b + ly_ce (a1 b) (ly_n (a1 b)))) (t, f, c, l, q, upd a1 b (ly_oi (a1 b) k (ly_n (a1 b))), a2, upd a3 (4 * b + ly_ce (a1 b) (ly_n (a1 b))) (nI s), upd a4 (4 * b + ly_ce (a1 b) (ly_n (a1 b))) 0, upd a5 (4 * b + ly_ce (a1 b) (ly_n (a1 b))) 0, upd a6 (4 * b + ly_ce (a1 b) (ly_n (a1 b))) (-1), a7, a8, a9, a10, a11, a12)) :
    wX_insert_28 post (nI s) (nI b) t f c l q a1 a2 a3 a4 a5 a6 a7 a8 a9 a10 a11 a12 := by
  have ⟨k4, k5, _⟩ := ly_okN hok
  have e4 := k5 _ hn
  have hX : 4 * b + ly_ce (a1 b) (ly_n (a1 b)) < 488 := by omega
  have cb := nI_clamp (n := b) (by omega)
  have cX := ly_u (a := a3) (k := 4 * b + ly_ce (a1 b) (ly_n (a1 b))) (v := nI s) (by omega)
  refine ly_lesserIn hs hG hb hok (fun k hk h1 h2 => ly_sizeOfNode hb ⟨pk_in b 122 hb, nm_e ⟨pk_in b 122 hb, nm_e (nm_e (nm_e (nm_e (nm_e ⟨pk_in b 122 hb, nm_r (e' := upd a1 b (ly_oi (a1 b) k (ly_n (a1 b)))) ?_ (nm_r (e' := nI (4 * b + ly_ce (a1 b) (ly_n (a1 b)))) ?_ ⟨pk_in _ 488 hX, nm_r (ly_u (by omega)) ⟨pk_in _ 488 hX, nm_r (ly_u (by omega)) ⟨pk_in _ 488 hX, nm_r (ly_u (by omega)) ⟨pk_in _ 488 hX, nm_r (ly_u (by omega)) (H k hk h1 h2)⟩⟩⟩⟩)⟩))))⟩⟩)
  · rw [cb]
    rfl
  · rw [cb, ly_and15, show (4 : Int32) * nI b = nI (4 * b) from pk_mul 4 b]
    exact nI_add _ _
/-- what 'insert' gives -/
def ly_IS (g s : Nat) (ns : List Nat) (a1 a2 a3 a4 a5 a6 : Nat → Int32) (e g' : Nat) (ns' : List Nat) (b1 b2 b3 b4 b5 b6 : Nat → Int32) : Prop :=
  (g' = g ∨ g' = g + 1) ∧ ly_cn b1 b2 b3 ns' ∧ ly_lk ns' = ly_lk ns ∧ (∀ b ∈ ns', b ∈ ns ∨ (b = g ∧ g' = g + 1)) ∧ (∀ b ∈ ns, b ∈ ns') ∧ ly_fr ns' a1 a2 a3 a4 a5 a6 b1 b2 b3 b4 b5 b6 ∧ ly_G b3 b5 ∧ e ∈ ly_en b1 ns' ∧ ly_sl b3 e = s ∧ (∀ r, r ∈ ly_rl b1 b3 b4 b5 b6 ns' ↔ r = (s, 0, 0, -1) ∨ r ∈ ly_rl a1 a3 a4 a5 a6 ns)
theorem ly_GU {a3 a5 : Nat → Int32} {x s : Nat} (hs : s < 81) (hG : ly_G a3 a5) : ly_G (upd a3 x (nI s)) (upd a5 x 0) := by
  intro e
  by_cases h : e = x
  · subst h
    unfold ly_sl
    rw [pk_us, pk_us, nI_clamp (by omega)]
    exact ⟨rfl, hs, Or.inl rfl⟩
  · unfold ly_sl
    rw [pk_un h, pk_un h]
    exact hG e
theorem ly_Gmv {a3 a5 b3 b5 : Nat → Int32} {g x y : Nat} (m3 : ly_mv a3 b3 g x y) (m5 : ly_mv a5 b5 g x y) (hG : ly_G a3 a5) : ly_G b3 b5 := by
  intro e
  unfold ly_sl
  by_cases h : e = 4 * g
  · rw [h, m3.1, m5.1]; exact hG x
  · by_cases h' : e = 4 * g + 1
    · rw [h', m3.2.1, m5.2.1]; exact hG y
    · rw [m3.2.2 e h h', m5.2.2 e h h']; exact hG e
/-- the insertion at a node with room, as 'insert' gives it -/
theorem ly_insQ {ns pre suf : List Nat} {b k s g : Nat} {o1 o2 o3 o4 o5 o6 : Nat → Int32} {ms : List Nat} {g' : Nat} (hg' : g' = g ∨ g' = g + 1) (hE : ns = pre ++ b :: suf) (hc : ly_cw a1 a2 a3 ns) (hhd : ∀ x ∈ ns, x ≠ b → ly_cs (a1 x) ≠ []) (hs : s < 81) (hG : ly_G a3 a5) (hn : ly_n (a1 b) < 4) (hk : k ≤ ly_n (a1 b)) (hp : ∀ e ∈ ly_en a1 pre, ly_sl a3 e < s) (hq : ∀ e ∈ ly_en a1 suf, s < ly_sl a3 e) (h1 : ∀ j, j < k → ly_sl a3 (4 * b + ly_ce (a1 b) j) < s) (h2 : k < ly_n (a1 b) → s ≤ ly_sl a3 (4 * b + ly_ce (a1 b) k)) (hno : ∀ e ∈ ly_en a1 ns, ly_sl a3 e ≠ s)
    (hlk : ly_lk ns = ly_lk ms) (hin : ∀ x ∈ ns, x ∈ ms ∨ (x = g ∧ g' = g + 1)) (hin' : ∀ x ∈ ms, x ∈ ns) (hfr : ly_fr ns o1 o2 o3 o4 o5 o6 a1 a2 a3 a4 a5 a6) (hrl : ly_rl a1 a3 a4 a5 a6 ns = ly_rl o1 o3 o4 o5 o6 ms) :
    ly_IS g s ms o1 o2 o3 o4 o5 o6 (4 * b + ly_ce (a1 b) (ly_n (a1 b))) g' ns (upd a1 b (ly_oi (a1 b) k (ly_n (a1 b)))) a2 (upd a3 (4 * b + ly_ce (a1 b) (ly_n (a1 b))) (nI s)) (upd a4 (4 * b + ly_ce (a1 b) (ly_n (a1 b))) 0) (upd a5 (4 * b + ly_ce (a1 b) (ly_n (a1 b))) 0) (upd a6 (4 * b + ly_ce (a1 b) (ly_n (a1 b))) (-1)) := by
  have hbm : b ∈ ns := by rw [hE]; exact List.mem_append_right _ List.mem_cons_self
  have hok := hc.2.1 b hbm
  have ⟨k4, k5, _⟩ := ly_okN hok
  have e4 := k5 _ hn
  have ⟨r1, r2, r3, r4⟩ := ly_insP (a4 := a4) (a5 := a5) (a6 := a6) hE hc hs hn hk hp hq h1 h2 hno
  refine ⟨hg', ⟨r1, fun x hx => ?_⟩, hlk, hin, hin', ⟨fun x hx => ?_, fun e he => ?_⟩, ly_GU hs hG, r3, ?_, fun r => ?_⟩
  · by_cases e : x = b
    · rw [e]; exact r2
    · rw [pk_un e]; exact hhd x hx e
  · have : x ≠ b := fun z => hx (by rw [z]; exact hbm)
    rw [pk_un this]
    exact hfr.1 x hx
  · have : e ≠ 4 * b + ly_ce (a1 b) (ly_n (a1 b)) := fun z => he (by rw [z, show (4 * b + ly_ce (a1 b) (ly_n (a1 b))) / 4 = b by omega]; exact hbm)
    rw [pk_un this, pk_un this, pk_un this, pk_un this]
    exact hfr.2 e he
  · unfold ly_sl
    rw [pk_us, nI_clamp (by omega)]
  · rw [r4 r, hrl]
theorem ly_insert {post : Int32 → St2 → Prop} {s g b0 : Nat} {rest : List Nat} (hs : s < 81) (hG : ly_G a3 a5) (hc : ly_cw a1 a2 a3 (b0 :: rest)) (hno : ∀ e ∈ ly_en a1 (b0 :: rest), ly_sl a3 e ≠ s) (hhd : rest = [] ∨ ly_cs (a1 b0) ≠ []) (hg : g < 122) (hgn : ∀ b ∈ b0 :: rest, b < g) (hf : f = nI (122 - g)) (h7 : a7 (121 - g) = nI g)
    (H : ∀ e g' ns' b1 b2 b3 b4 b5 b6, ly_IS g s (b0 :: rest) a1 a2 a3 a4 a5 a6 e g' ns' b1 b2 b3 b4 b5 b6 → post (nI e) (t, nI (122 - g'), c, l, q, b1, b2, b3, b4, b5, b6, a7, a8, a9, a10, a11, a12)) :
    wpX_insert post (t, f, c, l, q, a1, a2, a3, a4, a5, a6, a7, a8, a9, a10, a11, a12) (nI b0) (nI s) := by
  subst hf
  have hcn : ∀ x ∈ b0 :: rest, x ≠ b0 → ly_cs (a1 x) ≠ [] := by
    intro x hx h0
    rcases List.mem_cons.mp hx with e | hx
    · exact absurd e h0
    · exact hc.2.2.1 x hx
  refine ly_nodeFor hs hG hc (fun pre b suf hE hp hq hfi => ?_)
  have hbm : b ∈ b0 :: rest := by rw [hE]; exact List.mem_append_right _ List.mem_cons_self
  have hb := ly_chB hc.1 b hbm
  have hok := hc.2.1 b hbm
  have ⟨k4, k5, k6⟩ := ly_okN hok
  have hcs : ∀ x ∈ b0 :: rest, x ≠ b → ly_cs (a1 x) ≠ [] := by
    intro x hx hxb
    by_cases e : x = b0
    · rcases hhd with h | h
      · rw [h] at hbm
        have : b = b0 := by simpa using hbm
        exact absurd (e.trans this.symm) hxb
      · rw [e]; exact h
    · exact hcn x hx e
  refine ly_sizeOfNode hb (pk_eq (ly_n (a1 b)) 4 (fun h4 => ?_) (fun h4 => ?_))
  · have hgm : g ∉ b0 :: rest := fun z => by have := hgn g z; omega
    have hbg : b ≠ g := fun z => hgm (by rw [← z]; exact hbm)
    refine ly_split hb hg hbg rfl h7 hok hG (fun b1 b2 b3 b4 b5 b6 q1 q2 q3 q4 q5 q6 m3 m4 m5 m6 => ?_)
    have hc' := hc
    rw [hE] at hc' hgm
    have ⟨w1, w2, w3, w4, w5, w6⟩ := ly_splitP hc' h4 hg hgm q1 q2 q3 q4 q5 q6 m3 m4 m5 m6
    have hG' : ly_G b3 b5 := ly_Gmv m3 m5 hG
    have ⟨d1, d2, d3, d4, d5⟩ := ly_ndM hc'.2.2.2.1
    have gp : g ∉ pre := fun z => hgm (List.mem_append_left _ z)
    have gs : g ∉ suf := fun z => hgm (List.mem_append_right _ (List.mem_cons_of_mem _ z))
    have okp : ∀ y ∈ pre, ly_ok (a1 y) := fun y hy => hc'.2.1 y (List.mem_append_left _ hy)
    have oks : ∀ y ∈ suf, ly_ok (a1 y) := fun y hy => hc'.2.1 y (List.mem_append_right _ (List.mem_cons_of_mem _ hy))
    have fp : ly_en b1 pre = ly_en a1 pre := ly_enF (fun y hy => q3 y (fun z => d1 (by rw [z] at hy; exact hy)) (fun z => gp (by rw [z] at hy; exact hy)))
    have fs : ly_en b1 suf = ly_en a1 suf := ly_enF (fun y hy => q3 y (fun z => d2 (by rw [z] at hy; exact hy)) (fun z => gs (by rw [z] at hy; exact hy)))
    have slo : ∀ e, e / 4 ≠ g → ly_sl b3 e = ly_sl a3 e := by
      intro e he
      unfold ly_sl
      rw [m3.2.2 e (by omega) (by omega)]
    have hp' : ∀ e ∈ ly_en b1 pre, ly_sl b3 e < s := by
      intro e he
      rw [fp] at he
      rw [slo e (fun z => gp (by rw [← z]; exact ly_enD okp he))]
      exact hp e he
    have hq' : ∀ e ∈ ly_en b1 suf, s < ly_sl b3 e := by
      intro e he
      rw [fs] at he
      rw [slo e (fun z => gs (by rw [← z]; exact ly_enD oks he))]
      exact hq e he
    have hno' : ∀ e ∈ ly_en b1 (pre ++ b :: g :: suf), ly_sl b3 e ≠ s := by
      intro e he hes
      have hm : ly_rc b3 b4 b5 b6 e ∈ ly_rl b1 b3 b4 b5 b6 (pre ++ b :: g :: suf) := ly_rlM.mpr ⟨e, he, rfl⟩
      rw [w2] at hm
      obtain ⟨e', he', hr⟩ := ly_rlM.mp hm
      have h1 : ly_sl a3 e' = ly_sl b3 e := congrArg Prod.fst hr
      rw [hE] at hno
      exact hno e' he' (h1.trans hes)
    have lkE : ly_lk (pre ++ b :: g :: suf) = ly_lk (b0 :: rest) := by rw [hE]; exact ly_lkA
    have hin : ∀ x ∈ pre ++ b :: g :: suf, x ∈ b0 :: rest ∨ (x = g ∧ g + 1 = g + 1) := by
      intro x hx
      rw [hE]
      rcases List.mem_append.mp hx with h | h
      · exact Or.inl (List.mem_append_left _ h)
      · rcases List.mem_cons.mp h with h | h
        · exact Or.inl (List.mem_append_right _ (by rw [h]; exact List.mem_cons_self))
        · rcases List.mem_cons.mp h with h | h
          · exact Or.inr ⟨h, rfl⟩
          · exact Or.inl (List.mem_append_right _ (List.mem_cons_of_mem _ h))
    have hin' : ∀ x ∈ b0 :: rest, x ∈ pre ++ b :: g :: suf := by
      intro x hx
      rw [hE] at hx
      rcases List.mem_append.mp hx with h | h
      · exact List.mem_append_left _ h
      · rcases List.mem_cons.mp h with h | h
        · exact List.mem_append_right _ (by rw [h]; exact List.mem_cons_self)
        · exact List.mem_append_right _ (List.mem_cons_of_mem _ (List.mem_cons_of_mem _ h))
    have hmb : b ∈ pre ++ b :: g :: suf := List.mem_append_right _ List.mem_cons_self
    have hmg : g ∈ pre ++ b :: g :: suf := List.mem_append_right _ (List.mem_cons_of_mem _ List.mem_cons_self)
    have hfr : ly_fr (pre ++ b :: g :: suf) a1 a2 a3 a4 a5 a6 b1 b2 b3 b4 b5 b6 := by
      refine ⟨fun x hx => ?_, fun e he => ?_⟩
      · have z1 : x ≠ b := fun z => hx (by rw [z]; exact hmb)
        have z2 : x ≠ g := fun z => hx (by rw [z]; exact hmg)
        exact ⟨q3 x z1 z2, q6 x z1 z2⟩
      · have z1 : e ≠ 4 * g := fun z => he (by rw [z, show 4 * g / 4 = g by omega]; exact hmg)
        have z2 : e ≠ 4 * g + 1 := fun z => he (by rw [z, show (4 * g + 1) / 4 = g by omega]; exact hmg)
        exact ⟨m3.2.2 e z1 z2, m4.2.2 e z1 z2, m5.2.2 e z1 z2, m6.2.2 e z1 z2⟩
    have hcs' : ∀ x ∈ pre ++ b :: g :: suf, ly_cs (b1 x) ≠ [] := by
      intro x hx
      by_cases e1 : x = b
      · rw [e1]; exact w3
      · by_cases e2 : x = g
        · rw [e2]; exact w4
        · rw [q3 x e1 e2]
          rcases hin x hx with h | h
          · exact hcs x h e1
          · exact absurd h.1 e2
    have w1' := ly_cwA w1
    refine ly_nodeFor hs hG' w1' (fun pre2 c2 suf2 hE2 hp2 hq2 hfi2 => ?_)
    have whole : pre ++ b :: g :: suf = (pre ++ pre2) ++ c2 :: suf2 := by rw [hE2, List.append_assoc]
    have hp3 : ∀ e ∈ ly_en b1 (pre ++ pre2), ly_sl b3 e < s := by
      intro e he
      rw [ly_enA] at he
      rcases List.mem_append.mp he with h | h
      · exact hp' e h
      · exact hp2 e h
    have hc2 : c2 = b ∨ c2 = g := by
      cases pre2 with
      | nil => exact Or.inl (List.cons.inj hE2).1.symm
      | cons x y =>
        cases y with
        | nil => exact Or.inr (List.cons.inj (List.cons.inj hE2).2).1.symm
        | cons x' y' =>
          exfalso
          have h3 : suf = y' ++ c2 :: suf2 := (List.cons.inj (List.cons.inj hE2).2).2
          rcases hfi2 with h | ⟨e, he, hle⟩
          · exact List.cons_ne_nil _ _ h
          · have : e ∈ ly_en b1 suf := by
              rw [h3, ly_enA, ly_enC]
              exact List.mem_append_right _ (List.mem_append_left _ he)
            have := hq' e this
            omega
    have hc2m : c2 ∈ pre ++ b :: g :: suf := by
      rcases hc2 with h | h
      · rw [h]; exact hmb
      · rw [h]; exact hmg
    have hn2 : ly_n (b1 c2) < 4 := by
      rcases hc2 with h | h
      · rw [h]; omega
      · rw [h]; omega
    have hb2 := ly_chB w1.1 c2 hc2m
    refine ly_ins28 hs hG' hb2 (w1.2.1 c2 hc2m) hn2 (fun k hk h1 h2 => ?_)
    have key := ly_insQ (g := g) (g' := g + 1) (Or.inr rfl) whole w1 (fun x hx _ => hcs' x hx) hs hG' hn2 hk hp3 hq2 h1 h2 hno' lkE hin hin' hfr (by rw [w2, hE])
    have := H _ _ _ _ _ _ _ _ _ key
    rw [show 122 - (g + 1) = 121 - g by omega] at this
    exact this
  · refine ly_ins28 hs hG hb hok (by omega) (fun k hk h1 h2 => ?_)
    exact H _ _ _ _ _ _ _ _ _ (ly_insQ (g := g) (g' := g) (Or.inl rfl) hE hc hcs hs hG (by omega) hk hp hq h1 h2 hno rfl (fun x hx => Or.inl hx) (fun x hx => hx) ⟨fun _ _ => ⟨rfl, rfl⟩, fun _ _ => ⟨rfl, rfl, rfl, rfl⟩⟩ rfl)
end
end
section
/-! an entry dropped out of its chain -/
/-- where a chain's head stands: the field top, or the place below an entry -/
def ly_slot (ab : Option Nat) (t : Int32) (a6 : Nat → Int32) : Int32 := match ab with
  | none => t
  | some x => a6 x
def ly_ab : Option Nat → Int32
  | none => -1
  | some x => nI x
def ly_sfr (ab : Option Nat) (t : Int32) (a6 : Nat → Int32) (t' : Int32) (b6 : Nat → Int32) : Prop := (ab ≠ none → t' = t) ∧ (∀ j, ab ≠ some j → b6 j = a6 j)
theorem ly_chR {a2 b2 : Nat → Int32} {p suf : List Nat} {x b : Nat} (hc : ly_ch a2 (p ++ x :: b :: suf)) (hx : x ∉ p) (hxs : x ∉ suf) (h1 : b2 x = a2 b) (h2 : ∀ j, j ≠ x → b2 j = a2 j) : ly_ch b2 (p ++ x :: suf) := by
  induction p with
  | nil => exact ⟨hc.1, h1.trans hc.2.2.2.1, ly_chF (fun y hy => h2 y (fun z => hxs (by rw [z] at hy; exact hy))) hc.2.2.2.2⟩
  | cons y r ih =>
    have hy : y ≠ x := fun z => hx (by rw [z]; exact List.mem_cons_self)
    exact ⟨hc.1, (h2 y hy).trans (hc.2.1.trans ly_lkA), ih hc.2.2 (fun z => hx (List.mem_cons_of_mem _ z))⟩
theorem ly_chQ {a2 : Nat → Int32} {p r : List Nat} {x : Nat} (hc : ly_ch a2 (p ++ x :: r)) : x < 122 ∧ a2 x = ly_lk r := by
  have := ly_chA hc
  exact ⟨this.1, this.2.1⟩
section
variable {t f c l q : Int32} {a1 a2 a3 a4 a5 a6 a7 a8 a9 a10 a11 a12 : Nat → Int32}
theorem ly_setHead {post : St2 → Prop} {ab : Option Nat} {v : Int32} (hab : ∀ x, ab = some x → x < 488) (H : ∀ t' b6, ly_slot ab t' b6 = v → ly_sfr ab t a6 t' b6 → post (t', f, c, l, q, a1, a2, a3, a4, a5, b6, a7, a8, a9, a10, a11, a12)) : wpX_setHead post (t, f, c, l, q, a1, a2, a3, a4, a5, a6, a7, a8, a9, a10, a11, a12) (ly_ab ab) v := by
  cases ab with
  | none => exact br_t rfl (H v a6 rfl ⟨fun z => absurd rfl z, fun _ _ => rfl⟩)
  | some x =>
    have hx := hab x rfl
    refine br_f (ly_nm1 (b := x) (by omega)) ⟨pk_in x 488 hx, nm_r (e' := upd a6 x v) (ly_u (by omega)) (H t (upd a6 x v) pk_us ⟨fun _ => rfl, fun j hj => pk_un (fun z => hj (by rw [z]))⟩)⟩
theorem ly_giveNode {post : St2 → Prop} {b ff : Nat} (hf : f = nI ff) (hff : ff < 122) (H : post (t, nI (ff + 1), c, l, q, a1, a2, a3, a4, a5, a6, upd a7 ff (nI b), a8, a9, a10, a11, a12)) : wpX_giveNode post (t, f, c, l, q, a1, a2, a3, a4, a5, a6, a7, a8, a9, a10, a11, a12) (nI b) := by
  subst hf
  exact ⟨pk_in ff 122 hff, nm_r (ly_u (by omega)) (nm_r (nI_1 ff) H)⟩
theorem ly_un88 {post : St2 → Prop} {b ff : Nat} (hf : f = nI ff) (hff : ff < 122) (H : post (t, nI (ff + 1), c, l, q, a1, a2, a3, a4, a5, a6, upd a7 ff (nI b), a8, a9, a10, a11, a12)) : wX_unlink_88 post (nI b) t f c l q a1 a2 a3 a4 a5 a6 a7 a8 a9 a10 a11 a12 := by
  unfold wX_unlink_88
  exact ly_giveNode hf hff H
theorem ly_un41 {post : St2 → Prop} {pre suf : List Nat} {b ff : Nat} (hc : ly_ch a2 (pre ++ b :: suf)) (hnd : (pre ++ b :: suf).Nodup) (hf : f = nI ff) (hff : ff < 122)
    (H : ∀ b2 b7, ly_ch b2 (pre ++ suf) → (∀ j, j ∉ pre → b2 j = a2 j) → post (t, nI (ff + 1), c, l, q, a1, b2, a3, a4, a5, a6, b7, a8, a9, a10, a11, a12)) :
    ∀ p2 p1 x, pre = p1 ++ x :: p2 → ∃ n, wX_unlink_41 post (nI b) t f c l q a1 a2 a3 a4 a5 a6 a7 a8 a9 a10 a11 a12 n (nI x) := by
  have ⟨d1, d2, d3, d4, d5⟩ := ly_ndM hnd
  have hb := (ly_chQ hc).1
  intro p2
  induction p2 with
  | nil =>
    intro p1 x hp
    have hc' : ly_ch a2 (p1 ++ x :: (b :: suf)) := by rw [hp, List.append_assoc] at hc; exact hc
    have ⟨hx, ex⟩ := ly_chQ hc'
    have ex' : a2 (nI x).toNatClampNeg = nI b := by rw [nI_clamp (by omega)]; exact ex
    have hxp : x ∈ pre := by rw [hp]; exact List.mem_append_right _ List.mem_cons_self
    have hx1 : x ∉ p1 := by
      rw [hp] at d4
      exact (ly_ndM d4).1
    refine ⟨1, pk_in x 122 hx, br_f (by rw [ex']; exact ly_nm1 (by omega)) ⟨pk_in x 122 hx, br_t ex' ⟨pk_in b 122 hb, pk_in x 122 hx, nm_r (e' := upd a2 x (a2 b)) (by rw [nI_clamp (by omega), nI_clamp (by omega)]) (ly_un88 hf hff (H _ _ ?_ ?_))⟩⟩⟩
    · rw [hp, List.append_assoc]
      exact ly_chR hc' hx1 (d3 x hxp) pk_us (fun j hj => pk_un hj)
    · intro j hj
      exact pk_un (fun z => hj (by rw [z]; exact hxp))
  | cons y p3 ih =>
    intro p1 x hp
    have hc' : ly_ch a2 (p1 ++ x :: (y :: (p3 ++ b :: suf))) := by rw [hp, List.append_assoc] at hc; exact hc
    have ⟨hx, ex⟩ := ly_chQ hc'
    have ex' : a2 (nI x).toNatClampNeg = nI y := by rw [nI_clamp (by omega)]; exact ex
    have hp' : pre = (p1 ++ [x]) ++ y :: p3 := by rw [hp, List.append_assoc]; rfl
    have hyp : y ∈ pre := by rw [hp']; exact List.mem_append_right _ List.mem_cons_self
    have hy := ly_chB hc y (List.mem_append_left _ hyp)
    obtain ⟨n, hw⟩ := ih (p1 ++ [x]) y hp'
    refine ⟨n + 1, pk_in x 122 hx, br_f (by rw [ex']; exact ly_nm1 (by omega)) ⟨pk_in x 122 hx, br_f ?_ ⟨pk_in x 122 hx, nm_r ex' hw⟩⟩⟩
    rw [ex', nI_eq (by omega) (by omega)]
    intro z
    rw [z] at hyp
    exact d1 hyp
theorem ly_un18 {post : St2 → Prop} {ab : Option Nat} {pre suf : List Nat} {b ff : Nat} (hab : ∀ x, ab = some x → x < 488) (hc : ly_ch a2 (pre ++ b :: suf)) (hnd : (pre ++ b :: suf).Nodup) (hsl : ly_slot ab t a6 = ly_lk (pre ++ b :: suf)) (hf : f = nI ff) (hff : ff < 122)
    (H : ∀ t' b2 b6 b7, ly_ch b2 (pre ++ suf) → (∀ j, j ∉ pre → b2 j = a2 j) → ly_slot ab t' b6 = ly_lk (pre ++ suf) → ly_sfr ab t a6 t' b6 → post (t', nI (ff + 1), c, l, q, a1, b2, a3, a4, a5, b6, b7, a8, a9, a10, a11, a12)) :
    wX_unlink_18 post (ly_ab ab) (nI b) (ly_lk (pre ++ b :: suf)) t f c l q a1 a2 a3 a4 a5 a6 a7 a8 a9 a10 a11 a12 := by
  have ⟨d1, d2, d3, d4, d5⟩ := ly_ndM hnd
  have ⟨hb, eb⟩ := ly_chQ hc
  cases pre with
  | nil =>
    refine br_t rfl ⟨pk_in b 122 hb, ?_⟩
    rw [nI_clamp (by omega), eb]
    refine ly_setHead hab (fun t' b6 h1 h2 => ly_un88 hf hff (H t' a2 b6 _ (ly_chA (x := [b]) hc) (fun _ _ => rfl) h1 h2))
  | cons x p =>
    have hx := hc.1
    have hxb : x ≠ b := fun z => d1 (by rw [z]; exact List.mem_cons_self)
    refine br_f ?_ (ly_un41 hc hnd hf hff (fun b2 b7 h1 h2 => H t b2 a6 b7 h1 h2 hsl ⟨fun _ => rfl, fun _ _ => rfl⟩) p [] x rfl)
    show ¬ nI x = nI b
    rw [nI_eq (by omega) (by omega)]
    exact hxb
theorem ly_unlink {post : St2 → Prop} {ab : Option Nat} {pre suf : List Nat} {b ff : Nat} (hab : ∀ x, ab = some x → x < 488) (hc : ly_ch a2 (pre ++ b :: suf)) (hnd : (pre ++ b :: suf).Nodup) (hsl : ly_slot ab t a6 = ly_lk (pre ++ b :: suf)) (hf : f = nI ff) (hff : ff < 122)
    (H : ∀ t' b2 b6 b7, ly_ch b2 (pre ++ suf) → (∀ j, j ∉ pre → b2 j = a2 j) → ly_slot ab t' b6 = ly_lk (pre ++ suf) → ly_sfr ab t a6 t' b6 → post (t', nI (ff + 1), c, l, q, a1, b2, a3, a4, a5, b6, b7, a8, a9, a10, a11, a12)) :
    wpX_unlink post (t, f, c, l, q, a1, a2, a3, a4, a5, a6, a7, a8, a9, a10, a11, a12) (ly_ab ab) (nI b) := by
  have key := ly_un18 (a1 := a1) (a3 := a3) (a4 := a4) (a5 := a5) (a7 := a7) (a8 := a8) (a9 := a9) (a10 := a10) (a11 := a11) (a12 := a12) hab hc hnd hsl hf hff H
  rw [← hsl] at key
  cases ab with
  | none => exact br_t rfl key
  | some x =>
    have hx := hab x rfl
    refine br_f (ly_nm1 (b := x) (by omega)) ⟨pk_in x 488 hx, ?_⟩
    show wX_unlink_18 post (nI x) (nI b) (a6 (nI x).toNatClampNeg) t f c l q a1 a2 a3 a4 a5 a6 a7 a8 a9 a10 a11 a12
    rw [nI_clamp (by omega)]
    exact key
/-- pure: an entry out of its node's order -/
theorem ly_dropP {b1 : Nat → Int32} {ns pre suf : List Nat} {b k : Nat} (hE : ns = pre ++ b :: suf) (hc : ly_cn a1 a2 a3 ns) (hk : k < ly_n (a1 b)) (hb1 : b1 b = ly_od (a1 b) k (ly_n (a1 b)) (ly_ce (a1 b) k)) (hb1o : ∀ j, j ≠ b → b1 j = a1 j) :
    ∃ A B, ly_en a1 ns = A ++ (4 * b + ly_ce (a1 b) k) :: B ∧ ly_en b1 ns = A ++ B ∧ (ly_n (a1 b) = 1 → ly_en b1 (pre ++ suf) = A ++ B) ∧ ly_ok (b1 b) ∧ (ly_n (a1 b) ≠ 1 → ly_cs (b1 b) ≠ []) := by
  obtain ⟨⟨c1, c2, c3, c4, c5⟩, c6⟩ := hc
  have c4' := c4
  rw [hE] at c4'
  have ⟨n1, n2, n3, n4, n5⟩ := ly_ndM c4'
  have hok := c2 b (by rw [hE]; exact List.mem_append_right _ List.mem_cons_self)
  have ⟨i1, i2⟩ := ly_okD hok hk
  have fp : ly_en b1 pre = ly_en a1 pre := ly_enF (fun y hy => hb1o y (fun z => n1 (by rw [z] at hy; exact hy)))
  have fs : ly_en b1 suf = ly_en a1 suf := ly_enF (fun y hy => hb1o y (fun z => n2 (by rw [z] at hy; exact hy)))
  have hcs : ly_cs (b1 b) = (ly_cs (a1 b)).take k ++ (ly_cs (a1 b)).drop (k + 1) := by rw [hb1]; exact i2
  have hl : k < (ly_cs (a1 b)).length := by rw [ly_csL]; exact hk
  have hca : ly_cs (a1 b) = (ly_cs (a1 b)).take k ++ ly_ce (a1 b) k :: (ly_cs (a1 b)).drop (k + 1) := by
    rw [← ly_csI hl, ← List.drop_eq_getElem_cons hl, List.take_append_drop]
  have na : ly_ne a1 b = ((ly_cs (a1 b)).take k).map (fun c => 4 * b + c) ++ (4 * b + ly_ce (a1 b) k) :: ((ly_cs (a1 b)).drop (k + 1)).map (fun c => 4 * b + c) := by
    rw [ly_neE hca, List.map_append, List.map_cons]
  have nb : ly_ne b1 b = ((ly_cs (a1 b)).take k).map (fun c => 4 * b + c) ++ ((ly_cs (a1 b)).drop (k + 1)).map (fun c => 4 * b + c) := by
    rw [ly_neE hcs, List.map_append]
  refine ⟨ly_en a1 pre ++ ((ly_cs (a1 b)).take k).map (fun c => 4 * b + c), ((ly_cs (a1 b)).drop (k + 1)).map (fun c => 4 * b + c) ++ ly_en a1 suf, ?_, ?_, ?_, ?_, ?_⟩
  · rw [hE, ly_enA, ly_enC, na, List.append_assoc, List.append_assoc]
    rfl
  · rw [hE, ly_enA, ly_enC, nb, fp, fs, List.append_assoc, List.append_assoc]
  · intro h1
    have z1 : (ly_cs (a1 b)).take k = [] := by rw [show k = 0 by omega]; rfl
    have z2 : (ly_cs (a1 b)).drop (k + 1) = [] := List.drop_eq_nil_of_le (by rw [ly_csL]; omega)
    rw [ly_enA, fp, fs, z1, z2, List.map_nil, List.append_nil]
    rfl
  · rw [hb1]
    exact i1
  · intro h1 z
    have := congrArg List.length hcs
    rw [z, List.length_append, List.length_take, List.length_drop, ly_csL] at this
    have z0 : ([] : List Nat).length = 0 := rfl
    omega
/-- what 'dropEntry' gives -/
def ly_DS (ab : Option Nat) (s ff : Nat) (ns : List Nat) (t : Int32) (a1 a2 a3 a4 a5 a6 : Nat → Int32) (ns' : List Nat) (t' f' : Int32) (b1 b2 b6 : Nat → Int32) : Prop :=
  ly_cn b1 b2 a3 ns' ∧ ly_slot ab t' b6 = ly_lk ns' ∧ ly_sfr ab t a6 t' b6 ∧ (∀ j, j ∉ ns → b1 j = a1 j ∧ b2 j = a2 j) ∧ (∀ j ∈ ns', j ∈ ns) ∧ (f' = nI ff ∨ (f' = nI (ff + 1) ∧ ∃ b ∈ ns, b ∉ ns')) ∧ (∀ r, r ∈ ly_rl b1 a3 a4 a5 b6 ns' ↔ r ∈ ly_rl a1 a3 a4 a5 a6 ns ∧ r.1 ≠ s)
theorem ly_dropR {b1 b6 : Nat → Int32} {ns ms A B : List Nat} {e : Nat} (hA : ly_en a1 ns = A ++ e :: B) (hB : ly_en b1 ms = A ++ B) (hso : ly_so a3 (ly_en a1 ns)) (h6 : ∀ x ∈ ly_en a1 ns, b6 x = a6 x) : ly_so a3 (ly_en b1 ms) ∧ ∀ r, r ∈ ly_rl b1 a3 a4 a5 b6 ms ↔ r ∈ ly_rl a1 a3 a4 a5 a6 ns ∧ r.1 ≠ ly_sl a3 e := by
  have h1 := hso
  rw [hA, ly_soA] at h1
  obtain ⟨s1, s2, s3⟩ := h1
  have s2' : (ly_sl a3 e :: B.map (ly_sl a3)).Pairwise (· < ·) := s2
  have ⟨p1, p2⟩ := List.pairwise_cons.mp s2'
  have rcE : ∀ x ∈ ly_en a1 ns, ly_rc a3 a4 a5 b6 x = ly_rc a3 a4 a5 a6 x := fun x hx => by unfold ly_rc; rw [h6 x hx]
  refine ⟨?_, fun r => ?_⟩
  · rw [hB, ly_soA]
    exact ⟨s1, p2, fun x hx y hy => s3 x hx y (List.mem_cons_of_mem _ hy)⟩
  · rw [ly_rlM, ly_rlM, hB]
    constructor
    · rintro ⟨x, hx, rfl⟩
      have hx' : x ∈ ly_en a1 ns := by
        rw [hA]
        rcases List.mem_append.mp hx with h | h
        · exact List.mem_append_left _ h
        · exact List.mem_append_right _ (List.mem_cons_of_mem _ h)
      refine ⟨⟨x, hx', (rcE x hx').symm⟩, ?_⟩
      show ly_sl a3 x ≠ ly_sl a3 e
      rcases List.mem_append.mp hx with h | h
      · have := s3 x h e List.mem_cons_self
        omega
      · have := p1 _ (List.mem_map_of_mem h)
        omega
    · rintro ⟨⟨x, hx, rfl⟩, hne⟩
      refine ⟨x, ?_, rcE x hx⟩
      rw [hA] at hx
      rcases List.mem_append.mp hx with h | h
      · exact List.mem_append_left _ h
      · rcases List.mem_cons.mp h with h | h
        · rw [h] at hne
          exact absurd rfl hne
        · exact List.mem_append_right _ h
theorem ly_dropEntry {post : St2 → Prop} {ab : Option Nat} {ns : List Nat} {e ff : Nat} (hab : ∀ x, ab = some x → x < 488 ∧ x / 4 ∉ ns) (hG : ly_G a3 a5) (hc : ly_cn a1 a2 a3 ns) (he : e ∈ ly_en a1 ns) (hsl : ly_slot ab t a6 = ly_lk ns) (hf : f = nI ff) (hff : ff < 122)
    (H : ∀ ns' t' f' b1 b2 b6 b7, ly_DS ab (ly_sl a3 e) ff ns t a1 a2 a3 a4 a5 a6 ns' t' f' b1 b2 b6 → post (t', f', c, l, q, b1, b2, a3, a4, a5, b6, b7, a8, a9, a10, a11, a12)) :
    wpX_dropEntry post (t, f, c, l, q, a1, a2, a3, a4, a5, a6, a7, a8, a9, a10, a11, a12) (ly_ab ab) (nI e) := by
  have hcc := hc
  obtain ⟨⟨c1, c2, c3, c4, c5⟩, c6⟩ := hc
  obtain ⟨b, hbm, hne⟩ := ly_enM.mp he
  have hb := ly_chB c1 b hbm
  have hok := c2 b hbm
  have ⟨k4, k5, k6⟩ := ly_okN hok
  obtain ⟨j, hj, hej⟩ := ly_neM.mp hne
  have hce := k5 j (by omega)
  have hd : e / 4 = b := by omega
  have hm : e % 4 = ly_ce (a1 b) j := by omega
  have he4 : e < 488 := by omega
  obtain ⟨pre, suf, hE⟩ := List.append_of_mem hbm
  have sob : ly_so a3 (ly_ne a1 b) := by
    rw [hE, ly_enA, ly_enC, ly_soA, ly_soA] at c5
    exact c5.2.1.1
  have edv : nI e / 4 = nI b := by
    have := pk_div (a := e) (d := 4) (by omega) (by omega) (by omega)
    rw [hd] at this
    exact this
  have erm : nI e - nI b * 4 = nI (ly_ce (a1 b) j) := by
    have := pk_rem (a := e) (d := 4) (by omega) (by omega) (by omega)
    rw [hm] at this
    have e4 : (4 : Int32) = nI 4 := rfl
    rw [← e4, edv] at this
    exact this
  have cb := nI_clamp (n := b) (by omega)
  have ea3 : a3 (nI e).toNatClampNeg = nI (ly_sl a3 e) := ly_a3 hG he4
  have h81 := (hG e).2.1
  unfold wpX_dropEntry
  refine ⟨by decide, nm_r edv (ly_sizeOfNode hb ⟨pk_in e 488 he4, ?_⟩)⟩
  rw [ea3]
  refine ly_lesserIn h81 hG hb hok (fun k hk h1 h2 => ?_)
  have hkj : k = j := by
    rcases Nat.lt_trichotomy k j with z | z | z
    · have a := h2 (by omega)
      have b' := ly_neS sob z hj
      rw [← hej] at b'
      omega
    · exact z
    · have a := h1 j z
      rw [← hej] at a
      omega
  subst hkj
  refine ⟨pk_in b 122 hb, nm_e (nm_e (nm_e (nm_e ⟨by decide, nm_r (e' := nI (ly_ce (a1 b) k)) (by rw [edv]; exact erm) (nm_e ⟨pk_in b 122 hb, nm_r (e' := upd a1 b (ly_od (a1 b) k (ly_n (a1 b)) (ly_ce (a1 b) k))) (by rw [cb]; rfl) ?_⟩)⟩)))⟩
  have hb1 : upd a1 b (ly_od (a1 b) k (ly_n (a1 b)) (ly_ce (a1 b) k)) b = ly_od (a1 b) k (ly_n (a1 b)) (ly_ce (a1 b) k) := pk_us
  have hb1o : ∀ y, y ≠ b → upd a1 b (ly_od (a1 b) k (ly_n (a1 b)) (ly_ce (a1 b) k)) y = a1 y := fun y hy => pk_un hy
  generalize upd a1 b (ly_od (a1 b) k (ly_n (a1 b)) (ly_ce (a1 b) k)) = b1 at *
  obtain ⟨A, B, r1, r2, r3, r4, r5⟩ := ly_dropP hE hcc hj hb1 hb1o
  rw [← hej] at r1
  refine pk_eq (ly_n (a1 b)) 1 (fun hn => ?_) (fun hn => ?_)
  · have c1' := c1
    have c4' := c4
    rw [hE] at c1' c4' hsl
    have ⟨n1, n2, n3, n4, n5⟩ := ly_ndM c4'
    refine ly_unlink (fun x hx => (hab x hx).1) c1' c4' hsl hf hff (fun t' b2 b6 b7 g1 g2 g3 g4 => H (pre ++ suf) t' _ b1 b2 b6 b7 ?_)
    have h6 : ∀ x ∈ ly_en a1 ns, b6 x = a6 x := fun x hx => g4.2 x (fun z => (hab x z).2 (ly_enD c2 hx))
    have ⟨w1, w2⟩ := ly_dropR (a4 := a4) (a5 := a5) r1 (r3 hn) c5 h6
    have sub : ∀ y ∈ pre ++ suf, y ∈ ns ∧ y ≠ b := by
      intro y hy
      rw [hE]
      rcases List.mem_append.mp hy with h | h
      · exact ⟨List.mem_append_left _ h, fun z => n1 (by rw [← z]; exact h)⟩
      · exact ⟨List.mem_append_right _ (List.mem_cons_of_mem _ h), fun z => n2 (by rw [← z]; exact h)⟩
    have hne' : ∀ y ∈ pre ++ suf, ly_cs (b1 y) ≠ [] := fun y hy => by rw [hb1o y (sub y hy).2]; exact c6 y (sub y hy).1
    refine ⟨⟨⟨g1, fun y hy => by rw [hb1o y (sub y hy).2]; exact c2 y (sub y hy).1, fun y hy => hne' y (List.mem_of_mem_tail hy), ?_, w1⟩, hne'⟩, g3, g4, fun y hy => ⟨hb1o y (fun z => hy (by rw [z]; exact hbm)), g2 y (fun z => hy (by rw [hE]; exact List.mem_append_left _ z))⟩, fun y hy => (sub y hy).1, Or.inr ⟨rfl, b, hbm, fun z => (sub b z).2 rfl⟩, w2⟩
    rw [List.nodup_append]
    exact ⟨n4, n5, fun x hx y hy z => n3 x hx (by rw [z]; exact hy)⟩
  · refine H ns t f b1 a2 a6 a7 ?_
    have ⟨w1, w2⟩ := ly_dropR (a4 := a4) (a5 := a5) (a6 := a6) (b6 := a6) r1 r2 c5 (fun _ _ => rfl)
    have hne' : ∀ y ∈ ns, ly_cs (b1 y) ≠ [] := by
      intro y hy
      by_cases e : y = b
      · rw [e]; exact r5 hn
      · rw [hb1o y e]; exact c6 y hy
    refine ⟨⟨⟨c1, fun y hy => ?_, fun y hy => hne' y (List.mem_of_mem_tail hy), c4, w1⟩, hne'⟩, hsl, ⟨fun _ => rfl, fun _ _ => rfl⟩, fun y hy => ⟨hb1o y (fun z => hy (by rw [z]; exact hbm)), rfl⟩, fun y hy => hy, Or.inl hf, w2⟩
    by_cases e : y = b
    · rw [e]; exact r4
    · rw [hb1o y e]; exact c2 y hy
end
end
section
/-! the tree: its top chain N 0, and below the entry of slice s the chain N s -/
def ly_tr (t : Int32) (a1 a2 a3 a4 a5 a6 : Nat → Int32) (N : Nat → List Nat) : Prop :=
  ly_G a3 a5 ∧ t = ly_lk (N 0) ∧ (∀ k, ly_cn a1 a2 a3 (N k)) ∧ (∀ k k' b, b ∈ N k → b ∈ N k' → k = k') ∧
  (∀ e ∈ ly_en a1 (N 0), ly_S0 (ly_sl a3 e) ∧ a6 e = ly_lk (N (ly_sl a3 e))) ∧
  (∀ k, k ≠ 0 → N k ≠ [] → ∃ e ∈ ly_en a1 (N 0), ly_sl a3 e = k) ∧
  (∀ k, k ≠ 0 → ∀ e ∈ ly_en a1 (N k), ly_S1 (ly_sl a3 e) ∧ a6 e = -1)
def ly_hd (a1 a3 a4 a5 : Nat → Int32) (N : Nat → List Nat) (k s : Nat) (v : Int32) : Prop := ∃ e ∈ ly_en a1 (N k), ly_sl a3 e = s ∧ a4 e = v ∧ a5 e = 1
def ly_Nu (N : Nat → List Nat) (k : Nat) (ns : List Nat) : Nat → List Nat := fun j => if j = k then ns else N j
theorem ly_Nus {N : Nat → List Nat} {k : Nat} {ns : List Nat} : ly_Nu N k ns k = ns := if_pos rfl
theorem ly_Nun {N : Nat → List Nat} {k j : Nat} {ns : List Nat} (h : j ≠ k) : ly_Nu N k ns j = N j := if_neg h
theorem ly_hdR {a1 a3 a4 a5 a6 : Nat → Int32} {N : Nat → List Nat} {k s : Nat} {v : Int32} : ly_hd a1 a3 a4 a5 N k s v ↔ ∃ be, (s, v, (1 : Int32), be) ∈ ly_rl a1 a3 a4 a5 a6 (N k) := by
  constructor
  · rintro ⟨e, he, rfl, rfl, h5⟩
    refine ⟨a6 e, ly_rlM.mpr ⟨e, he, ?_⟩⟩
    unfold ly_rc
    rw [h5]
  · rintro ⟨be, h⟩
    obtain ⟨e, he, hr⟩ := ly_rlM.mp h
    unfold ly_rc at hr
    have h1 := congrArg Prod.fst hr
    have h2 := congrArg (fun r => r.2.1) hr
    have h3 := congrArg (fun r => r.2.2.1) hr
    exact ⟨e, he, h1, h2, h3⟩
section
variable {t t' : Int32} {a1 a2 a3 a4 a5 a6 b1 b2 b3 b4 b5 b6 : Nat → Int32} {N : Nat → List Nat}
/-- one chain anew, the others as they were -/
theorem ly_trX {k : Nat} {ab : Option Nat} {ns' : List Nat} (hT : ly_tr t a1 a2 a3 a4 a5 a6 N) (hab : (k = 0 ∧ ab = none) ∨ (k ≠ 0 ∧ ∃ x, ab = some x ∧ x ∈ ly_en a1 (N 0) ∧ ly_sl a3 x = k)) (hcn : ly_cn b1 b2 b3 ns') (hG : ly_G b3 b5) (hsl : ly_slot ab t' b6 = ly_lk ns') (ht : ab ≠ none → t' = t)
    (fr1 : ∀ j, j ≠ k → ∀ b ∈ N j, b ∉ ns' ∧ b1 b = a1 b ∧ b2 b = a2 b) (fr2 : ∀ j, j ≠ k → ∀ e, e / 4 ∈ N j → b3 e = a3 e ∧ b4 e = a4 e ∧ b5 e = a5 e ∧ (ab ≠ some e → b6 e = a6 e))
    (v0 : k = 0 → ∀ r ∈ ly_rl b1 b3 b4 b5 b6 ns', ly_S0 r.1 ∧ r.2.2.2 = ly_lk (N r.1)) (v1 : k ≠ 0 → ∀ r ∈ ly_rl b1 b3 b4 b5 b6 ns', ly_S1 r.1 ∧ r.2.2.2 = -1) (v2 : k = 0 → ∀ s, s ≠ 0 → N s ≠ [] → ∃ r ∈ ly_rl b1 b3 b4 b5 b6 ns', r.1 = s) :
    ly_tr t' b1 b2 b3 b4 b5 b6 (ly_Nu N k ns') ∧ ∀ j, j ≠ k → (ly_en b1 (ly_Nu N k ns' j) = ly_en a1 (N j) ∧ ∀ s v, ly_hd b1 b3 b4 b5 (ly_Nu N k ns') j s v ↔ ly_hd a1 a3 a4 a5 N j s v) := by
  obtain ⟨g, tt, cn, dj, z0, nn, ff⟩ := hT
  have enE : ∀ j, j ≠ k → ly_en b1 (N j) = ly_en a1 (N j) := fun j hj => ly_enF (fun b hb => (fr1 j hj b hb).2.1)
  have inE : ∀ j e, e ∈ ly_en a1 (N j) → e / 4 ∈ N j := fun j e he => ly_enD (cn j).1.2.1 he
  have slE : ∀ j, j ≠ k → ∀ e ∈ ly_en a1 (N j), ly_sl b3 e = ly_sl a3 e := fun j hj e he => by unfold ly_sl; rw [(fr2 j hj e (inE j e he)).1]
  have rlI : ∀ e ∈ ly_en b1 ns', ly_rc b3 b4 b5 b6 e ∈ ly_rl b1 b3 b4 b5 b6 ns' := fun e he => ly_rlM.mpr ⟨e, he, rfl⟩
  refine ⟨⟨hG, ?_, fun j => ?_, fun j j' b hb hb' => ?_, fun e he => ?_, fun j hj hne => ?_, fun j hj e he => ?_⟩, fun j hj => ⟨?_, fun s v => ?_⟩⟩
  · rcases hab with ⟨h1, h2⟩ | ⟨h1, x, h2, _⟩
    · subst h1 h2
      rw [ly_Nus]
      exact hsl
    · rw [ly_Nun (fun z => h1 z.symm), ht (by rw [h2]; exact Option.some_ne_none x)]
      exact tt
  · by_cases h : j = k
    · rw [h, ly_Nus]; exact hcn
    · rw [ly_Nun h]
      exact ly_cnF (fun b hb => (fr1 j h b hb).2) (fun e he => (fr2 j h e he).1) (cn j)
  · by_cases h : j = k
    · by_cases h' : j' = k
      · rw [h, h']
      · rw [h, ly_Nus] at hb
        rw [ly_Nun h'] at hb'
        exact absurd hb (fr1 j' h' b hb').1
    · rw [ly_Nun h] at hb
      by_cases h' : j' = k
      · rw [h', ly_Nus] at hb'
        exact absurd hb' (fr1 j h b hb).1
      · rw [ly_Nun h'] at hb'
        exact dj j j' b hb hb'
  · by_cases h : k = 0
    · subst h
      rw [ly_Nus] at he
      have := v0 rfl _ (rlI e he)
      have h1 : ly_S0 (ly_sl b3 e) := this.1
      have h2 : b6 e = ly_lk (N (ly_sl b3 e)) := this.2
      refine ⟨h1, ?_⟩
      rw [ly_Nun (by have := h1.1; omega)]
      exact h2
    · have h0 : (0 : Nat) ≠ k := fun z => h z.symm
      rw [ly_Nun h0, enE 0 h0] at he
      rw [slE 0 h0 e he]
      have ⟨y1, y2⟩ := z0 e he
      refine ⟨y1, ?_⟩
      rcases hab with ⟨h1, _⟩ | ⟨_, x, h2, h3, h4⟩
      · exact absurd h1 h
      · by_cases hx : e = x
        · subst hx
          rw [h4, ly_Nus]
          rw [h2] at hsl
          exact hsl
        · rw [ly_Nun (fun z => hx (ly_soU (cn 0).1.2.2.2.2 he h3 (z.trans h4.symm))), (fr2 0 h0 e (inE 0 e he)).2.2.2 (by rw [h2]; exact fun z => hx (Option.some.inj z).symm)]
          exact y2
  · by_cases h : k = 0
    · subst h
      rw [ly_Nun hj] at hne
      obtain ⟨r, hr, hs⟩ := v2 rfl j hj hne
      obtain ⟨e, he, rfl⟩ := ly_rlM.mp hr
      rw [ly_Nus]
      exact ⟨e, he, hs⟩
    · have h0 : (0 : Nat) ≠ k := fun z => h z.symm
      rw [ly_Nun h0, enE 0 h0]
      rcases hab with ⟨h1, _⟩ | ⟨_, x, h2, h3, h4⟩
      · exact absurd h1 h
      · by_cases hjk : j = k
        · exact ⟨x, h3, by rw [slE 0 h0 x h3, h4, hjk]⟩
        · rw [ly_Nun hjk] at hne
          obtain ⟨e, he, hs⟩ := nn j hj hne
          exact ⟨e, he, by rw [slE 0 h0 e he, hs]⟩
  · by_cases h : j = k
    · subst h
      rw [ly_Nus] at he
      exact v1 hj _ (rlI e he)
    · rw [ly_Nun h, enE j h] at he
      rw [slE j h e he]
      have ⟨y1, y2⟩ := ff j hj e he
      refine ⟨y1, ?_⟩
      rw [(fr2 j h e (inE j e he)).2.2.2 ?_]
      · exact y2
      · intro z
        rcases hab with ⟨_, h2⟩ | ⟨_, x, h2, h3, _⟩
        · rw [h2] at z
          exact absurd z (fun y => Option.some_ne_none e y.symm)
        · rw [h2] at z
          have hxe := Option.some.inj z
          rw [hxe] at h3
          exact hj (dj j 0 _ (inE j e he) (inE 0 e h3))
  · rw [ly_Nun hj]
    exact enE j hj
  · unfold ly_hd
    rw [ly_Nun hj, enE j hj]
    constructor
    · rintro ⟨e, he, h1, h2, h3⟩
      have ⟨y1, y2, y3, _⟩ := fr2 j hj e (inE j e he)
      exact ⟨e, he, by rw [← slE j hj e he]; exact h1, by rw [← y2]; exact h2, by rw [← y3]; exact h3⟩
    · rintro ⟨e, he, h1, h2, h3⟩
      have ⟨y1, y2, y3, _⟩ := fr2 j hj e (inE j e he)
      exact ⟨e, he, by rw [slE j hj e he]; exact h1, by rw [y2]; exact h2, by rw [y3]; exact h3⟩
/-- a new record in a chain -/
theorem ly_trI {k s : Nat} {ab : Option Nat} {ns' : List Nat} (hT : ly_tr t a1 a2 a3 a4 a5 a6 N) (hab : (k = 0 ∧ ab = none) ∨ (k ≠ 0 ∧ ∃ x, ab = some x ∧ x ∈ ly_en a1 (N 0) ∧ ly_sl a3 x = k)) (hS : (k = 0 → ly_S0 s) ∧ (k ≠ 0 → ly_S1 s)) (hno : ∀ e ∈ ly_en a1 (N k), ly_sl a3 e ≠ s) (hcn : ly_cn b1 b2 b3 ns') (hG : ly_G b3 b5) (hsl : ly_slot ab t' b6 = ly_lk ns') (ht : ab ≠ none → t' = t)
    (fr1 : ∀ j, j ≠ k → ∀ b ∈ N j, b ∉ ns' ∧ b1 b = a1 b ∧ b2 b = a2 b) (fr2 : ∀ j, j ≠ k → ∀ e, e / 4 ∈ N j → b3 e = a3 e ∧ b4 e = a4 e ∧ b5 e = a5 e ∧ (ab ≠ some e → b6 e = a6 e))
    (hr : ∀ r, r ∈ ly_rl b1 b3 b4 b5 b6 ns' ↔ r = (s, 0, 0, -1) ∨ r ∈ ly_rl a1 a3 a4 a5 a6 (N k)) :
    ly_tr t' b1 b2 b3 b4 b5 b6 (ly_Nu N k ns') ∧ ∀ j s v, ly_hd b1 b3 b4 b5 (ly_Nu N k ns') j s v ↔ ly_hd a1 a3 a4 a5 N j s v := by
  have hT0 := hT
  obtain ⟨g, tt, cn, dj, z0, nn, ff⟩ := hT
  have key := ly_trX hT0 hab hcn hG hsl ht fr1 fr2 ?_ ?_ ?_
  · refine ⟨key.1, fun j x v => ?_⟩
    by_cases hj : j = k
    · subst hj
      rw [ly_hdR (a6 := b6), ly_hdR (a6 := a6), ly_Nus]
      constructor
      · rintro ⟨be, h⟩
        rcases (hr _).mp h with h | h
        · have := congrArg (fun r => r.2.2.1) h
          exact absurd (show (1 : Int32) = 0 from this) (by decide)
        · exact ⟨be, h⟩
      · rintro ⟨be, h⟩
        exact ⟨be, (hr _).mpr (Or.inr h)⟩
    · exact (key.2 j hj).2 x v
  · intro hk r hm
    subst hk
    rcases (hr r).mp hm with h | h
    · rw [h]
      have hs := hS.1 rfl
      refine ⟨hs, ?_⟩
      have : N s = [] := by
        apply Classical.byContradiction
        intro hne
        obtain ⟨e, he, h1⟩ := nn s (by have := hs.1; omega) hne
        exact hno e he h1
      show (-1 : Int32) = ly_lk (N s)
      rw [this]
      rfl
    · obtain ⟨e, he, rfl⟩ := ly_rlM.mp h
      exact z0 e he
  · intro hk r hm
    rcases (hr r).mp hm with h | h
    · rw [h]
      exact ⟨hS.2 hk, rfl⟩
    · obtain ⟨e, he, rfl⟩ := ly_rlM.mp h
      exact ff k hk e he
  · intro hk x hx hne
    subst hk
    obtain ⟨e, he, h1⟩ := nn x hx hne
    exact ⟨_, (hr _).mpr (Or.inr (ly_rlM.mpr ⟨e, he, rfl⟩)), h1⟩
/-- one entry's value and flag anew -/
theorem ly_trV {k e0 : Nat} {v0 h0 : Int32} (hT : ly_tr t a1 a2 a3 a4 a5 a6 N) (he : e0 ∈ ly_en a1 (N k)) (hh : h0 = 0 ∨ h0 = 1) :
    ly_tr t a1 a2 a3 (upd a4 e0 v0) (upd a5 e0 h0) a6 N ∧ ∀ j s v, ly_hd a1 a3 (upd a4 e0 v0) (upd a5 e0 h0) N j s v ↔ (j = k ∧ s = ly_sl a3 e0 ∧ v = v0 ∧ h0 = 1) ∨ (¬ (j = k ∧ s = ly_sl a3 e0) ∧ ly_hd a1 a3 a4 a5 N j s v) := by
  obtain ⟨g, tt, cn, dj, z0, nn, ff⟩ := hT
  refine ⟨⟨fun e => ?_, tt, cn, dj, z0, nn, ff⟩, fun j s v => ⟨?_, ?_⟩⟩
  · refine ⟨(g e).1, (g e).2.1, ?_⟩
    by_cases h : e = e0
    · rw [h, pk_us]; exact hh
    · rw [pk_un h]; exact (g e).2.2
  · rintro ⟨e, h1, h2, h3, h4⟩
    by_cases h : e = e0
    · subst h
      rw [pk_us] at h3 h4
      have hjk : j = k := dj j k _ (ly_enD (cn j).1.2.1 h1) (ly_enD (cn k).1.2.1 he)
      exact Or.inl ⟨hjk, h2.symm, h3.symm, h4⟩
    · rw [pk_un h] at h3 h4
      refine Or.inr ⟨fun z => h ?_, ⟨e, h1, h2, h3, h4⟩⟩
      rw [z.1] at h1
      exact ly_soU (cn k).1.2.2.2.2 h1 he (h2.trans z.2)
  · rintro (⟨rfl, rfl, rfl, h4⟩ | ⟨hn, e, h1, h2, h3, h4⟩)
    · exact ⟨e0, he, rfl, pk_us, by rw [pk_us]; exact h4⟩
    · have h : e ≠ e0 := by
        intro z
        subst z
        exact hn ⟨dj j k _ (ly_enD (cn j).1.2.1 h1) (ly_enD (cn k).1.2.1 he), h2.symm⟩
      exact ⟨e, h1, h2, by rw [pk_un h]; exact h3, by rw [pk_un h]; exact h4⟩
end
end
section
/-! find, makePath, put -/
theorem ly_uid {a : Nat → Int32} {k : Nat} : upd a k (a k) = a := by
  funext j
  by_cases h : j = k
  · rw [h, pk_us]
  · rw [pk_un h]
def ly_ct (a1 a3 a4 a5 : Nat → Int32) (N : Nat → List Nat) (m : Nat → Option Int32) : Prop := ∀ k s v, ly_hd a1 a3 a4 a5 N k s v ↔ ∃ w, ly_W w ∧ ly_ka w = k ∧ ly_ta w = s ∧ m w = some v
theorem ly_Winj {w w' : Nat} (h : ly_W w) (h' : ly_W w') (e1 : ly_ka w = ly_ka w') (e2 : ly_ta w = ly_ta w') : w = w' := by
  rw [← ly_Wwa h, ← ly_Wwa h', e1, e2]
theorem ly_ctG {a1 a3 a4 a5 : Nat → Int32} {N : Nat → List Nat} {m : Nat → Option Int32} (h : ly_ct a1 a3 a4 a5 N m) {w : Nat} (hw : ly_W w) {v : Int32} : ly_hd a1 a3 a4 a5 N (ly_ka w) (ly_ta w) v ↔ m w = some v := by
  rw [h]
  constructor
  · rintro ⟨w', h1, h2, h3, h4⟩
    rw [ly_Winj hw h1 h2.symm h3.symm]
    exact h4
  · intro hm
    exact ⟨w, hw, rfl, rfl, hm⟩
theorem ly_taB {w : Nat} (hw : ly_W w) : ly_ta w < 81 ∧ (ly_ka w = 0 → ly_S0 (ly_ta w)) ∧ (ly_ka w ≠ 0 → ly_S1 (ly_ta w)) := by
  have h0 := ly_WS0 hw
  unfold ly_ta ly_ka
  rcases ly_WS1 hw with h | ⟨h, h1⟩
  · rw [if_pos h, if_pos h]
    exact ⟨by have := h0.2.1; omega, fun _ => h0, fun z => absurd rfl z⟩
  · rw [if_neg (by omega), if_neg (by omega)]
    exact ⟨by have := h1.2.1; omega, fun z => absurd z (by have := h0.1; omega), fun _ => h1⟩
theorem ly_trB {t : Int32} {a1 a2 a3 a4 a5 a6 : Nat → Int32} {N : Nat → List Nat} (hT : ly_tr t a1 a2 a3 a4 a5 a6 N) {k e : Nat} (he : e ∈ ly_en a1 (N k)) : e < 488 := by
  have hc := hT.2.2.1 k
  have := ly_chB hc.1.1 _ (ly_enD hc.1.2.1 he)
  omega
section
variable {t f c l q : Int32} {a1 a2 a3 a4 a5 a6 a7 a8 a9 a10 a11 a12 : Nat → Int32} {N : Nat → List Nat}
theorem ly_entryForE {post : Int32 → Prop} {s : Nat} {ns : List Nat} {h : Int32} (hh : h = ly_lk ns) (hs : s < 81) (hG : ly_G a3 a5) (hc : ly_cn a1 a2 a3 ns) (H1 : ∀ e ∈ ly_en a1 ns, ly_sl a3 e = s → post (nI e)) (H2 : (∀ e ∈ ly_en a1 ns, ly_sl a3 e ≠ s) → post (-1)) : wpX_entryFor post (t, f, c, l, q, a1, a2, a3, a4, a5, a6, a7, a8, a9, a10, a11, a12) h (nI s) := by
  subst hh
  exact ly_entryFor hs hG hc H1 H2
theorem ly_find {post : Int32 → Prop} {w : Nat} (hw : ly_W w) (hT : ly_tr t a1 a2 a3 a4 a5 a6 N) (H1 : ∀ e ∈ ly_en a1 (N (ly_ka w)), ly_sl a3 e = ly_ta w → post (nI e)) (H2 : (∀ e ∈ ly_en a1 (N (ly_ka w)), ly_sl a3 e ≠ ly_ta w) → post (-1)) : wpX_find post (t, f, c, l, q, a1, a2, a3, a4, a5, a6, a7, a8, a9, a10, a11, a12) (nI w) := by
  have ⟨w1, w2, w3, w4, _⟩ := ly_W1 hw
  have h0 := ly_WS0 hw
  have h0b := h0.2.1
  have h0a := h0.1
  have hT0 := hT
  obtain ⟨g, tt, cn, dj, z0, nn, ff⟩ := hT
  have lsd : ly_ls w = (ly_sz w + 1) / 2 := rfl
  unfold wpX_find
  refine ly_layersOf (by omega) ?_
  unfold ly_ka ly_ta at H1 H2
  rcases ly_WS1 hw with h | ⟨h, h1⟩
  · rw [if_pos h, if_pos h] at H1 H2
    rw [h]
    refine ⟨2, pk_le 1 0 (fun z => absurd z (by omega)) (fun _ => ly_sliceOf (l := 0) (by omega) (by omega) (ly_entryForE tt (by omega) g (cn 0) (fun e he hs => ?_) (fun hno => br_t rfl (H2 hno))))⟩
    have hB := ly_trB hT0 he
    exact br_f (ly_nm1 (by omega)) ⟨pk_in e 488 hB, nm_e (nm_r (nI_1 0) (pk_le 1 1 (fun _ => H1 e he hs) (fun z => absurd z (by omega))))⟩
  · rw [if_neg (by omega), if_neg (by omega)] at H1 H2
    rw [h]
    have h1b := h1.2.1
    refine ⟨3, pk_le 2 0 (fun z => absurd z (by omega)) (fun _ => ly_sliceOf (l := 0) (by omega) (by omega) (ly_entryForE tt (by omega) g (cn 0) (fun e he hs => ?_) (fun hno => br_t rfl (H2 ?_))))⟩
    · have hB := ly_trB hT0 he
      refine br_f (ly_nm1 (by omega)) ⟨pk_in e 488 hB, nm_r (e' := ly_lk (N (ly_sc w 0))) ?_ (nm_r (nI_1 0) (pk_le 2 1 (fun z => absurd z (by omega)) (fun _ => ly_sliceOf (l := 1) (by omega) (by omega) (ly_entryFor (by omega) g (cn (ly_sc w 0)) (fun e2 he2 hs2 => ?_) (fun hno => br_t rfl (H2 hno))))))⟩
      · rw [nI_clamp (by omega), ← hs]
        exact (z0 e he).2
      · have hB2 := ly_trB hT0 he2
        exact br_f (ly_nm1 (by omega)) ⟨pk_in e2 488 hB2, nm_e (nm_r (nI_1 1) (pk_le 2 2 (fun _ => H1 e2 he2 hs2) (fun z => absurd z (by omega))))⟩
    · intro e he
      exfalso
      have hne : N (ly_sc w 0) ≠ [] := fun z => by rw [z] at he; exact absurd he List.not_mem_nil
      obtain ⟨x, hx, hxs⟩ := nn _ (by omega) hne
      exact hno x hx hxs
/-- the nodes in use, in the time of the puts -/
def ly_al (g : Nat) (f : Int32) (a7 : Nat → Int32) (N : Nat → List Nat) : Prop := f = nI (122 - g) ∧ (∀ j, j < 122 → a7 j = nI (121 - j)) ∧ ∀ k b, b ∈ N k → b < g
theorem ly_mkP {k s g g1 g' e : Nat} {ab : Option Nat} {ms ns' : List Nat} {t' : Int32} {o1 o2 o3 o4 o5 o6 b1 b2 b3 b4 b5 b6 : Nat → Int32} (hT : ly_tr t a1 a2 a3 a4 a5 a6 N) (hab : (k = 0 ∧ ab = none) ∨ (k ≠ 0 ∧ ∃ x, ab = some x ∧ x ∈ ly_en a1 (N 0) ∧ ly_sl a3 x = k)) (hS : (k = 0 → ly_S0 s) ∧ (k ≠ 0 → ly_S1 s)) (hno : ∀ e ∈ ly_en a1 (N k), ly_sl a3 e ≠ s) (hal : ∀ k b, b ∈ N k → b < g) (hg1 : g ≤ g1) (hm : ∀ b ∈ ms, b ∈ N k ∨ g ≤ b) (hmg : ∀ b ∈ ms, b < g1) (hI : ly_IS g1 s ms o1 o2 o3 o4 o5 o6 e g' ns' b1 b2 b3 b4 b5 b6)
    (oF1 : ∀ b, b < g → o1 b = a1 b ∧ o2 b = a2 b) (oF2 : ∀ e, o3 e = a3 e ∧ o4 e = a4 e ∧ o5 e = a5 e ∧ (ab ≠ some e → o6 e = a6 e)) (hslot : ly_slot ab t' o6 = ly_lk ms) (ht : ab ≠ none → t' = t) (hrl : ∀ r, r ∈ ly_rl o1 o3 o4 o5 o6 ms ↔ r ∈ ly_rl a1 a3 a4 a5 a6 (N k)) :
    ly_tr t' b1 b2 b3 b4 b5 b6 (ly_Nu N k ns') ∧ (∀ j s v, ly_hd b1 b3 b4 b5 (ly_Nu N k ns') j s v ↔ ly_hd a1 a3 a4 a5 N j s v) ∧ (∀ j b, b ∈ ly_Nu N k ns' j → b < g') ∧ e ∈ ly_en b1 (ly_Nu N k ns' k) ∧ ly_sl b3 e = s := by
  obtain ⟨i1, i2, i3, i4, i5, ⟨i6, i7⟩, i8, i9, i10, i11⟩ := hI
  have hT0 := hT
  obtain ⟨g0, tt, cn, dj, z0, nn, ff⟩ := hT
  have away : ∀ j, j ≠ k → ∀ b ∈ N j, b ∉ ns' := by
    intro j hj b hb hb'
    have hlt := hal j b hb
    rcases i4 b hb' with h | h
    · rcases hm b h with h | h
      · exact hj (dj j k b hb h)
      · omega
    · omega
  have key := ly_trI (b4 := b4) (b6 := b6) hT0 hab hS hno i2 i8 ?_ ht ?_ ?_ ?_
  · refine ⟨key.1, key.2, fun j b hb => ?_, by rw [ly_Nus]; exact i9, i10⟩
    by_cases h : j = k
    · rw [h, ly_Nus] at hb
      rcases i4 b hb with h | h
      · have := hmg b h
        omega
      · omega
    · rw [ly_Nun h] at hb
      have := hal j b hb
      omega
  · rw [i3, ← hslot]
    rcases hab with ⟨_, h2⟩ | ⟨h1, x, h2, h3, _⟩
    · rw [h2]
      rfl
    · rw [h2]
      exact (i7 x (away 0 (fun z => h1 z.symm) _ (ly_enD (cn 0).1.2.1 h3))).2.2.2
  · intro j hj b hb
    have hlt := hal j b hb
    have ha := away j hj b hb
    exact ⟨ha, (i6 b ha).1.trans (oF1 b hlt).1, (i6 b ha).2.trans (oF1 b hlt).2⟩
  · intro j hj x hx
    have ha := away j hj _ hx
    have ⟨y3, y4, y5, y6⟩ := i7 x ha
    have ⟨x3, x4, x5, x6⟩ := oF2 x
    exact ⟨y3.trans x3, y4.trans x4, y5.trans x5, fun z => y6.trans (x6 z)⟩
  · intro r
    rw [i11 r, hrl r]
theorem ly_mk42 {post : Int32 → St2 → Prop} {J : Int32 → Int32 → Int32 → Int32 → Int32 → Int32 → Int32 → (Nat → Int32) → (Nat → Int32) → (Nat → Int32) → (Nat → Int32) → (Nat → Int32) → (Nat → Int32) → (Nat → Int32) → (Nat → Int32) → (Nat → Int32) → (Nat → Int32) → (Nat → Int32) → (Nat → Int32) → Prop} {x1 x3 h : Int32} {k s g y : Nat} {ab : Option Nat} (hT : ly_tr t a1 a2 a3 a4 a5 a6 N) (hal : ly_al g f a7 N) (hg : g ≤ 110) (hh : h = ly_lk (N k)) (hab : (k = 0 ∧ ab = none) ∨ (k ≠ 0 ∧ ∃ x, ab = some x ∧ x ∈ ly_en a1 (N 0) ∧ ly_sl a3 x = k)) (hs : s < 81) (hS : (k = 0 → ly_S0 s) ∧ (k ≠ 0 → ly_S1 s))
    (H : ∀ e g' N' t' b1 b2 b3 b4 b5 b6, g' ≤ g + 2 → ly_tr t' b1 b2 b3 b4 b5 b6 N' → ly_al g' (nI (122 - g')) a7 N' → (∀ j s v, ly_hd b1 b3 b4 b5 N' j s v ↔ ly_hd a1 a3 a4 a5 N j s v) → e ∈ ly_en b1 (N' k) → ly_sl b3 e = s → J (nI e) (nI (y + 1)) t' (nI (122 - g')) c l q b1 b2 b3 b4 b5 b6 a7 a8 a9 a10 a11 a12) :
    wX_makePath_42 post J x1 (ly_ab ab) x3 (nI y) (nI s) h t f c l q a1 a2 a3 a4 a5 a6 a7 a8 a9 a10 a11 a12 := by
  subst hh
  have hT0 := hT
  obtain ⟨g0, tt, cn, dj, z0, nn, ff⟩ := hT
  obtain ⟨l1, l2, l3⟩ := hal
  have hab' : ∀ x, ab = some x → x < 488 := by
    intro x hx
    rcases hab with ⟨_, h2⟩ | ⟨_, x', h2, h3, _⟩
    · rw [h2] at hx
      exact absurd hx.symm (Option.some_ne_none x)
    · rw [h2] at hx
      rw [← Option.some.inj hx]
      exact ly_trB hT0 h3
  have h7 : a7 (121 - g) = nI g := by
    rw [l2 _ (by omega), show 121 - (121 - g) = g by omega]
  unfold wX_makePath_42
  refine ly_entryFor hs g0 (cn k) (fun e he hes => ?_) (fun hno => br_t rfl ?_)
  · have hB := ly_trB hT0 he
    refine br_f (ly_nm1 (by omega)) (nm_r (nI_1 y) ?_)
    rw [l1]
    exact H e g N t a1 a2 a3 a4 a5 a6 (by omega) hT0 ⟨rfl, l2, l3⟩ (fun _ _ _ => Iff.rfl) he hes
  · by_cases hN : N k = []
    · refine br_t (by rw [hN]; rfl) (ly_takeNode (g := g) (by omega) l1 h7 (ly_setHead hab' (fun t' b6 h1 h2 => ?_)))
      unfold wX_makePath_79
      have h7' : a7 (121 - (g + 1)) = nI (g + 1) := by
        rw [l2 _ (by omega), show 121 - (121 - (g + 1)) = g + 1 by omega]
      have en0 : ly_en (upd a1 g 205056) [g] = [] := by
        show ly_ne (upd a1 g 205056) g ++ [] = []
        rw [ly_neE (show ly_cs (upd a1 g 205056 g) = [] by rw [pk_us]; exact ly_cs0)]
        rfl
      have cw0 : ly_cw (upd a1 g 205056) (upd a2 g (-1)) a3 [g] := by
        refine ⟨⟨by omega, pk_us, trivial⟩, fun b hb => ?_, fun b hb => absurd hb List.not_mem_nil, List.nodup_cons.mpr ⟨List.not_mem_nil, List.nodup_nil⟩, ?_⟩
        · rw [List.mem_singleton.mp hb, pk_us]
          exact ly_ok0
        · rw [en0]
          exact List.Pairwise.nil
      refine ly_insert (g := g + 1) (b0 := g) (rest := []) hs g0 cw0 (fun e he => by rw [en0] at he; exact absurd he List.not_mem_nil) (Or.inl rfl) (by omega) (fun b hb => by rw [List.mem_singleton.mp hb]; omega) (by rw [show 122 - (g + 1) = 121 - g by omega]) h7' (fun e g' ns' c1 c2 c3 c4 c5 c6 hI => nm_r (nI_1 y) ?_)
      have hg' : g' ≤ g + 2 := by
        have := hI.1
        omega
      have key := ly_mkP (t' := t') hT0 hab hS hno l3 (show g ≤ g + 1 by omega) (fun b hb => Or.inr (by rw [List.mem_singleton.mp hb]; omega)) (fun b hb => by rw [List.mem_singleton.mp hb]; omega) hI (fun b hb => ⟨pk_un (by omega), pk_un (by omega)⟩) (fun x => ⟨rfl, rfl, rfl, fun z => h2.2 x z⟩) h1 h2.1 (fun r => by unfold ly_rl; rw [en0, hN]; exact Iff.rfl)
      exact H e g' _ t' c1 c2 c3 c4 c5 c6 hg' key.1 ⟨rfl, l2, key.2.2.1⟩ key.2.1 key.2.2.2.1 key.2.2.2.2
    · obtain ⟨b0, rest, hN'⟩ := List.exists_cons_of_ne_nil hN
      have hb0 := ly_chB (cn k).1.1 b0 (by rw [hN']; exact List.mem_cons_self)
      have cnk := cn k
      have hno' := hno
      have hl3 : ∀ b ∈ N k, b < g := fun b hb => l3 k b hb
      rw [hN'] at cnk hno' hl3
      rw [hN']
      refine br_f (ly_nm1 (b := b0) (by omega)) ?_
      unfold wX_makePath_79
      refine ly_insert (g := g) hs g0 cnk.1 hno' (Or.inr (cnk.2 b0 List.mem_cons_self)) (by omega) hl3 l1 h7 (fun e g' ns' c1 c2 c3 c4 c5 c6 hI => nm_r (nI_1 y) ?_)
      have hg' : g' ≤ g + 2 := by
        have := hI.1
        omega
      rw [← hN'] at hI hl3
      have hsl : ly_slot ab t a6 = ly_lk (N k) := by
        rcases hab with ⟨h1, h2⟩ | ⟨h1, x, h2, h3, h4⟩
        · rw [h1, h2]
          exact tt
        · rw [h2, ← h4]
          exact (z0 x h3).2
      have key := ly_mkP (t' := t) hT0 hab hS hno l3 (Nat.le_refl g) (fun b hb => Or.inl hb) hl3 hI (fun _ _ => ⟨rfl, rfl⟩) (fun _ => ⟨rfl, rfl, rfl, fun _ => rfl⟩) hsl (fun _ => rfl) (fun _ => Iff.rfl)
      exact H e g' _ t c1 c2 c3 c4 c5 c6 hg' key.1 ⟨rfl, l2, key.2.2.1⟩ key.2.1 key.2.2.2.1 key.2.2.2.2
theorem ly_makePath {post : Int32 → St2 → Prop} {w g : Nat} (hw : ly_W w) (hT : ly_tr t a1 a2 a3 a4 a5 a6 N) (hal : ly_al g f a7 N) (hg : g ≤ 100)
    (H : ∀ e g' N' t' b1 b2 b3 b4 b5 b6, g' ≤ g + 4 → ly_tr t' b1 b2 b3 b4 b5 b6 N' → ly_al g' (nI (122 - g')) a7 N' → (∀ j s v, ly_hd b1 b3 b4 b5 N' j s v ↔ ly_hd a1 a3 a4 a5 N j s v) → e ∈ ly_en b1 (N' (ly_ka w)) → ly_sl b3 e = ly_ta w → post (nI e) (t', nI (122 - g'), c, l, q, b1, b2, b3, b4, b5, b6, a7, a8, a9, a10, a11, a12)) :
    wpX_makePath post (t, f, c, l, q, a1, a2, a3, a4, a5, a6, a7, a8, a9, a10, a11, a12) (nI w) := by
  have ⟨w1, w2, w3, w4, _⟩ := ly_W1 hw
  have h0 := ly_WS0 hw
  have h0b := h0.2.1
  have h0a := h0.1
  have lsd : ly_ls w = (ly_sz w + 1) / 2 := rfl
  unfold wpX_makePath
  refine ly_layersOf (by omega) ?_
  unfold ly_ka ly_ta at H
  rcases ly_WS1 hw with h | ⟨h, h1⟩
  · rw [if_pos h, if_pos h] at H
    rw [h]
    refine ⟨2, pk_le 1 0 (fun z => absurd z (by omega)) (fun _ => ly_sliceOf (l := 0) (by omega) (by omega) (br_t rfl ?_))⟩
    refine ly_mk42 (ab := none) (k := 0) (y := 0) hT hal (by omega) hT.2.1 (Or.inl ⟨rfl, rfl⟩) (by omega) ⟨fun _ => h0, fun z => absurd rfl z⟩ (fun e g' N' t' b1 b2 b3 b4 b5 b6 p1 p2 p3 p4 p5 p6 => ?_)
    exact pk_le 1 1 (fun _ => H e g' N' t' b1 b2 b3 b4 b5 b6 (by omega) p2 p3 p4 p5 p6) (fun z => absurd z (by omega))
  · rw [if_neg (by omega), if_neg (by omega)] at H
    rw [h]
    have h1b := h1.2.1
    refine ⟨3, pk_le 2 0 (fun z => absurd z (by omega)) (fun _ => ly_sliceOf (l := 0) (by omega) (by omega) (br_t rfl ?_))⟩
    refine ly_mk42 (ab := none) (k := 0) (y := 0) hT hal (by omega) hT.2.1 (Or.inl ⟨rfl, rfl⟩) (by omega) ⟨fun _ => h0, fun z => absurd rfl z⟩ (fun e g' N' t' b1 b2 b3 b4 b5 b6 p1 p2 p3 p4 p5 p6 => ?_)
    have hB := ly_trB p2 p5
    refine pk_le 2 1 (fun z => absurd z (by omega)) (fun _ => ly_sliceOf (l := 1) (by omega) (by omega) (br_f (ly_nm1 (by omega)) ⟨pk_in e 488 hB, ?_⟩))
    refine ly_mk42 (ab := some e) (k := ly_sc w 0) (y := 1) p2 p3 (by omega) ?_ (Or.inr ⟨by omega, e, rfl, p5, p6⟩) (by omega) ⟨fun z => absurd z (by omega), fun _ => h1⟩ (fun e' g'' N'' t'' c1 c2 c3 c4 c5 c6 r1 r2 r3 r4 r5 r6 => ?_)
    · rw [nI_clamp (by omega), ← p6]
      exact (p2.2.2.2.2.1 e p5).2
    · exact pk_le 2 2 (fun _ => H e' g'' N'' t'' c1 c2 c3 c4 c5 c6 (by omega) r2 r3 (fun j s v => (r4 j s v).trans (p4 j s v)) r5 r6) (fun z => absurd z (by omega))
/-- the content with a word's value anew -/
def ly_mu (m : Nat → Option Int32) (w : Nat) (v : Option Int32) : Nat → Option Int32 := fun x => if x = w then v else m x
theorem ly_ctU {b1 b3 b4 b5 : Nat → Int32} {N' : Nat → List Nat} {m : Nat → Option Int32} {w : Nat} {v : Int32} (hw : ly_W w) (hc : ly_ct a1 a3 a4 a5 N m) (h : ∀ j s u, ly_hd b1 b3 b4 b5 N' j s u ↔ (j = ly_ka w ∧ s = ly_ta w ∧ u = v) ∨ (¬ (j = ly_ka w ∧ s = ly_ta w) ∧ ly_hd a1 a3 a4 a5 N j s u)) : ly_ct b1 b3 b4 b5 N' (ly_mu m w (some v)) := by
  intro j s u
  rw [h, hc]
  unfold ly_mu
  constructor
  · rintro (⟨h1, h2, h3⟩ | ⟨h1, w', h2, h3, h4, h5⟩)
    · exact ⟨w, hw, h1.symm, h2.symm, by rw [if_pos rfl, h3]⟩
    · refine ⟨w', h2, h3, h4, ?_⟩
      rw [if_neg (fun z => h1 (by rw [← h3, ← h4, z]; exact ⟨rfl, rfl⟩))]
      exact h5
  · rintro ⟨w', h2, h3, h4, h5⟩
    by_cases z : w' = w
    · rw [if_pos z] at h5
      subst z
      exact Or.inl ⟨h3.symm, h4.symm, (Option.some.inj h5).symm⟩
    · rw [if_neg z] at h5
      refine Or.inr ⟨fun y => z (ly_Winj h2 hw (h3.trans y.1) (h4.trans y.2)), w', h2, h3, h4, h5⟩
theorem ly_put42 {post : Int32 → St2 → Prop} {w g cc : Nat} {v : Int32} {m : Nat → Option Int32} (hw : ly_W w) (hT : ly_tr t a1 a2 a3 a4 a5 a6 N) (hal : ly_al g f a7 N) (hg : g ≤ 100) (hct : ly_ct a1 a3 a4 a5 N m) (hc : c = nI cc) (hcc : cc < 40)
    (H1 : ∀ g' N' t' b1 b2 b3 b4 b5 b6, g' ≤ g + 4 → ly_tr t' b1 b2 b3 b4 b5 b6 N' → ly_al g' (nI (122 - g')) a7 N' → ly_ct b1 b3 b4 b5 N' (ly_mu m w (some v)) → post 1 (t', nI (122 - g'), nI (cc + 1), l, 0, b1, b2, b3, b4, b5, b6, a7, a8, a9, a10, a11, a12)) :
    wX_put_42 post (nI w) v t f c l q a1 a2 a3 a4 a5 a6 a7 a8 a9 a10 a11 a12 := by
  subst hc
  refine pk_eq cc 40 (fun z => absurd z (by omega)) (fun _ => ly_makePath hw hT hal hg (fun e g' N' t' b1 b2 b3 b4 b5 b6 p1 p2 p3 p4 p5 p6 => ?_))
  have hB := ly_trB p2 p5
  have ⟨k1, k2⟩ := ly_trV (v0 := v) (h0 := 1) p2 p5 (Or.inr rfl)
  refine ⟨pk_in e 488 hB, nm_r (ly_u (by omega)) ⟨pk_in e 488 hB, nm_r (ly_u (by omega)) (nm_r (nI_1 cc) (H1 g' N' t' b1 b2 b3 _ _ b6 p1 k1 p3 (ly_ctU hw hct (fun j s u => ?_))))⟩⟩
  rw [k2, p6, p4]
  constructor
  · rintro (⟨h1, h2, h3, _⟩ | h)
    · exact Or.inl ⟨h1, h2, h3⟩
    · exact Or.inr h
  · rintro (⟨h1, h2, h3⟩ | h)
    · exact Or.inl ⟨h1, h2, h3, rfl⟩
    · exact Or.inr h
theorem ly_put {post : Int32 → St2 → Prop} {w g cc : Nat} {v : Int32} {m : Nat → Option Int32} (hw : ly_W w) (hT : ly_tr t a1 a2 a3 a4 a5 a6 N) (hal : ly_al g f a7 N) (hg : g ≤ 100) (hct : ly_ct a1 a3 a4 a5 N m) (hc : c = nI cc) (hcc : cc < 40)
    (H0 : m w ≠ none → ∀ g' N' t' b1 b2 b3 b4 b5 b6, g' ≤ g + 4 → ly_tr t' b1 b2 b3 b4 b5 b6 N' → ly_al g' (nI (122 - g')) a7 N' → ly_ct b1 b3 b4 b5 N' (ly_mu m w (some v)) → post 0 (t', nI (122 - g'), nI cc, l, 0, b1, b2, b3, b4, b5, b6, a7, a8, a9, a10, a11, a12))
    (H1 : m w = none → ∀ g' N' t' b1 b2 b3 b4 b5 b6, g' ≤ g + 4 → ly_tr t' b1 b2 b3 b4 b5 b6 N' → ly_al g' (nI (122 - g')) a7 N' → ly_ct b1 b3 b4 b5 N' (ly_mu m w (some v)) → post 1 (t', nI (122 - g'), nI (cc + 1), l, 0, b1, b2, b3, b4, b5, b6, a7, a8, a9, a10, a11, a12)) :
    wpX_put post (t, f, c, l, q, a1, a2, a3, a4, a5, a6, a7, a8, a9, a10, a11, a12) (nI w) v := by
  have cn := hT.2.2.1
  have none_of : (∀ e ∈ ly_en a1 (N (ly_ka w)), ly_sl a3 e = ly_ta w → a5 e ≠ 1) → m w = none := by
    intro h
    cases hm : m w with
    | none => rfl
    | some u =>
      obtain ⟨e, h1, h2, h3, h4⟩ := (ly_ctG hct hw).mpr hm
      exact absurd h4 (h e h1 h2)
  unfold wpX_put
  refine ly_isWord hw (br_f (by decide) (ly_find hw hT (fun e he hs => ?_) (fun hno => ?_)))
  · have hB := ly_trB hT he
    have g5 := (hT.1 e).2.2
    refine br_f (nI_pos (by omega)) ⟨pk_in e 488 hB, ?_⟩
    rw [nI_clamp (by omega)]
    rcases g5 with g5 | g5
    · refine br_t g5 (ly_put42 hw hT hal hg hct hc hcc (H1 (none_of (fun e' he' hs' => ?_))))
      rw [ly_soU (cn _).1.2.2.2.2 he' he (hs'.trans hs.symm), g5]
      decide
    · refine br_f (by rw [g5]; decide) ⟨pk_in e 488 hB, nm_e ?_⟩
      have hm := (ly_ctG hct hw).mp ⟨e, he, hs, rfl, g5⟩
      have ⟨k1, k2⟩ := ly_trV (v0 := v) (h0 := 1) hT he (Or.inr rfl)
      have e5 : upd a5 e 1 = a5 := by rw [← g5]; exact ly_uid
      rw [e5] at k1 k2
      obtain ⟨l1, l2, l3⟩ := hal
      rw [l1, hc]
      refine H0 (by rw [hm]; exact Option.some_ne_none _) g N t a1 a2 a3 _ a5 a6 (by omega) k1 ⟨rfl, l2, l3⟩ (ly_ctU hw hct (fun j s u => ?_))
      rw [k2, hs]
      constructor
      · rintro (⟨h1, h2, h3, _⟩ | h)
        · exact Or.inl ⟨h1, h2, h3⟩
        · exact Or.inr h
      · rintro (⟨h1, h2, h3⟩ | h)
        · exact Or.inl ⟨h1, h2, h3, rfl⟩
        · exact Or.inr h
  · exact br_t (by decide) (ly_put42 hw hT hal hg hct hc hcc (H1 (none_of (fun e' he' hs' => absurd hs' (hno e' he')))))
end
end
section
/-! takeOut -/
/-- the nodes in use, in the time of the clearing -/
def ly_au (U : List Nat) (f : Int32) (N : Nat → List Nat) : Prop := f = nI (122 - U.length) ∧ U.length ≤ 122 ∧ ∀ k b, b ∈ N k → b ∈ U
theorem ly_lk0 {ns : List Nat} {a2 : Nat → Int32} (hc : ly_ch a2 ns) (h : ly_lk ns = -1) : ns = [] := by
  cases ns with
  | nil => rfl
  | cons b r =>
    have := hc.1
    exact absurd h (ly_nm1 (b := b) (by omega))
section
variable {t f c l q : Int32} {a1 a2 a3 a4 a5 a6 a7 a8 a9 a10 a11 a12 : Nat → Int32} {N : Nat → List Nat}
theorem ly_drT {post : St2 → Prop} {k e : Nat} {ab : Option Nat} {U : List Nat} (hT : ly_tr t a1 a2 a3 a4 a5 a6 N) (hau : ly_au U f N) (hab : (k = 0 ∧ ab = none) ∨ (k ≠ 0 ∧ ∃ x, ab = some x ∧ x ∈ ly_en a1 (N 0) ∧ ly_sl a3 x = k)) (he : e ∈ ly_en a1 (N k)) (h5 : a5 e ≠ 1) (h6 : k = 0 → a6 e = -1)
    (H : ∀ U' N' t' f' b1 b2 b6 b7, ly_tr t' b1 b2 a3 a4 a5 b6 N' → ly_au U' f' N' → (∀ j s v, ly_hd b1 a3 a4 a5 N' j s v ↔ ly_hd a1 a3 a4 a5 N j s v) → (k ≠ 0 → ly_en b1 (N' 0) = ly_en a1 (N 0)) → post (t', f', c, l, q, b1, b2, a3, a4, a5, b6, b7, a8, a9, a10, a11, a12)) :
    wpX_dropEntry post (t, f, c, l, q, a1, a2, a3, a4, a5, a6, a7, a8, a9, a10, a11, a12) (ly_ab ab) (nI e) := by
  have hT0 := hT
  obtain ⟨g0, tt, cn, dj, z0, nn, ff⟩ := hT
  obtain ⟨u1, u2, u3⟩ := hau
  have hek : e / 4 ∈ N k := ly_enD (cn k).1.2.1 he
  have hU : 1 ≤ U.length := List.length_pos_of_mem (u3 k _ hek)
  have hab' : ∀ x, ab = some x → x < 488 ∧ x / 4 ∉ N k := by
    intro x hx
    rcases hab with ⟨_, h2⟩ | ⟨h1, x', h2, h3, _⟩
    · rw [h2] at hx
      exact absurd hx.symm (Option.some_ne_none x)
    · rw [h2] at hx
      have hxx := Option.some.inj hx
      rw [← hxx]
      exact ⟨ly_trB hT0 h3, fun z => h1 (dj k 0 _ z (ly_enD (cn 0).1.2.1 h3))⟩
  have hsl : ly_slot ab t a6 = ly_lk (N k) := by
    rcases hab with ⟨h1, h2⟩ | ⟨h1, x, h2, h3, h4⟩
    · rw [h1, h2]
      exact tt
    · rw [h2, ← h4]
      exact (z0 x h3).2
  refine ly_dropEntry hab' g0 (cn k) he hsl u1 (by omega) (fun ns' t' f' b1 b2 b6 b7 hD => ?_)
  obtain ⟨d1, d2, d3, d4, d5, d6, d7⟩ := hD
  have away : ∀ j, j ≠ k → ∀ b ∈ N j, b ∉ N k := fun j hj b hb hb' => hj (dj j k b hb hb')
  have key := ly_trX (b3 := a3) (b4 := a4) (b5 := a5) hT0 hab d1 g0 d2 d3.1 (fun j hj b hb => ⟨fun z => away j hj b hb (d5 b z), d4 b (away j hj b hb)⟩) (fun j hj x hx => ⟨rfl, rfl, rfl, fun z => d3.2 x z⟩) ?_ ?_ ?_
  · have au' : ∃ U', ly_au U' f' (ly_Nu N k ns') := by
      rcases d6 with h | ⟨h, b, hb, hb'⟩
      · refine ⟨U, h, u2, fun j x hx => ?_⟩
        by_cases hj : j = k
        · rw [hj, ly_Nus] at hx
          exact u3 k x (d5 x hx)
        · rw [ly_Nun hj] at hx
          exact u3 j x hx
      · have hbU := u3 k b hb
        refine ⟨U.erase b, ?_, ?_, fun j x hx => ?_⟩
        · rw [h, List.length_erase_of_mem hbU]
          exact congrArg nI (by omega)
        · rw [List.length_erase_of_mem hbU]
          omega
        · by_cases hj : j = k
          · rw [hj, ly_Nus] at hx
            exact (List.mem_erase_of_ne (fun z => hb' (by rw [← z]; exact hx))).mpr (u3 k x (d5 x hx))
          · rw [ly_Nun hj] at hx
            exact (List.mem_erase_of_ne (fun z => away j hj x hx (by rw [z]; exact hb))).mpr (u3 j x hx)
    obtain ⟨U', hU'⟩ := au'
    refine H U' _ t' f' b1 b2 b6 b7 key.1 hU' (fun j s v => ?_) (fun hk => (key.2 0 (fun z => hk z.symm)).1)
    by_cases hj : j = k
    · subst hj
      rw [ly_hdR (a6 := b6), ly_hdR (a6 := a6), ly_Nus]
      constructor
      · rintro ⟨be, h⟩
        exact ⟨be, ((d7 _).mp h).1⟩
      · rintro ⟨be, h⟩
        refine ⟨be, (d7 _).mpr ⟨h, fun z => ?_⟩⟩
        obtain ⟨x, hx, hr⟩ := ly_rlM.mp h
        unfold ly_rc at hr
        have q1 := congrArg Prod.fst hr
        have q3 := congrArg (fun r => r.2.2.1) hr
        have hxe : x = e := ly_soU (cn j).1.2.2.2.2 hx he (q1.trans z)
        rw [hxe] at q3
        exact h5 q3
    · exact (key.2 j hj).2 s v
  · intro hk r hr
    subst hk
    obtain ⟨x, hx, rfl⟩ := ly_rlM.mp ((d7 r).mp hr).1
    exact z0 x hx
  · intro hk r hr
    obtain ⟨x, hx, rfl⟩ := ly_rlM.mp ((d7 r).mp hr).1
    exact ff k hk x hx
  · intro hk s hs hne
    subst hk
    obtain ⟨x, hx, hxs⟩ := nn s hs hne
    refine ⟨ly_rc a3 a4 a5 a6 x, (d7 _).mpr ⟨ly_rlM.mpr ⟨x, hx, rfl⟩, fun z => hne ?_⟩, hxs⟩
    have z' : ly_sl a3 x = ly_sl a3 e := z
    have h6' := h6 rfl
    rw [(z0 e he).2, ← z', hxs] at h6'
    exact ly_lk0 (cn s).1.1 h6'
theorem ly_to0 {post : St2 → Prop} {e n : Nat} {U : List Nat} (hT : ly_tr t a1 a2 a3 a4 a5 a6 N) (hau : ly_au U f N) (h8 : a8 0 = nI e) (he : e ∈ ly_en a1 (N 0))
    (H : ∀ U' N' t' f' b1 b2 b6 b7, ly_tr t' b1 b2 a3 a4 a5 b6 N' → ly_au U' f' N' → (∀ j s v, ly_hd b1 a3 a4 a5 N' j s v ↔ ly_hd a1 a3 a4 a5 N j s v) → post (t', f', c, l, q, b1, b2, a3, a4, a5, b6, b7, a8, a9, a10, a11, a12)) :
    wX_takeOut_94 post (n + 2) 0 t f c l q a1 a2 a3 a4 a5 a6 a7 a8 a9 a10 a11 a12 := by
  have hB := ly_trB hT he
  have ce := nI_clamp (n := e) (by omega)
  have stay : post (t, f, c, l, q, a1, a2, a3, a4, a5, a6, a7, a8, a9, a10, a11, a12) := H U N t f a1 a2 a6 a7 hT hau (fun _ _ _ => Iff.rfl)
  refine br_f (by decide) ⟨pk_in 0 3 (by omega), nm_r (e' := nI e) (by rw [sb_cl0]; exact h8) ⟨pk_in e 488 hB, ?_⟩⟩
  rw [ce]
  rcases (hT.1 e).2.2 with g5 | g5
  · refine br_t g5 ⟨pk_in e 488 hB, ?_⟩
    by_cases g6 : a6 e = -1
    · refine br_t g6 (br_t rfl ?_)
      unfold wX_takeOut_147
      refine ly_drT (k := 0) (ab := none) hT hau (Or.inl ⟨rfl, rfl⟩) he (by rw [g5]; decide) (fun _ => g6) (fun U' N' t' f' b1 b2 b6 b7 p1 p2 p3 _ => nm_r (e' := -1) (by decide) (br_t (by decide) (H U' N' t' f' b1 b2 b6 b7 p1 p2 p3)))
    · exact br_f g6 (nm_r (e' := -1) (by decide) (br_t (by decide) stay))
  · exact br_f (by rw [g5]; decide) (nm_r (e' := -1) (by decide) (br_t (by decide) stay))
theorem ly_to1 {post : St2 → Prop} {e e1 k n : Nat} {U : List Nat} (hT : ly_tr t a1 a2 a3 a4 a5 a6 N) (hau : ly_au U f N) (h8 : a8 0 = nI e) (h81 : a8 1 = nI e1) (he : e ∈ ly_en a1 (N 0)) (hk : k ≠ 0) (hes : ly_sl a3 e = k) (he1 : e1 ∈ ly_en a1 (N k)) (h5 : a5 e1 = 0)
    (H : ∀ U' N' t' f' b1 b2 b6 b7, ly_tr t' b1 b2 a3 a4 a5 b6 N' → ly_au U' f' N' → (∀ j s v, ly_hd b1 a3 a4 a5 N' j s v ↔ ly_hd a1 a3 a4 a5 N j s v) → post (t', f', c, l, q, b1, b2, a3, a4, a5, b6, b7, a8, a9, a10, a11, a12)) :
    wX_takeOut_94 post (n + 3) 1 t f c l q a1 a2 a3 a4 a5 a6 a7 a8 a9 a10 a11 a12 := by
  have hB1 := ly_trB hT he1
  have ce1 := nI_clamp (n := e1) (by omega)
  have cl1 : (1 : Int32).toNatClampNeg = 1 := by decide
  have cl0 : ((1 : Int32) - 1).toNatClampNeg = 0 := by decide
  refine br_f (by decide) ⟨pk_in 1 3 (by omega), nm_r (e' := nI e1) (by rw [cl1]; exact h81) ⟨pk_in e1 488 hB1, ?_⟩⟩
  rw [ce1]
  refine br_t h5 ⟨pk_in e1 488 hB1, br_t (hT.2.2.2.2.2.2 k hk e1 he1).2 (br_f (by decide) ⟨pk_in 0 3 (by omega), ?_⟩)⟩
  rw [cl0, h8]
  unfold wX_takeOut_147
  refine ly_drT (k := k) (ab := some e) hT hau (Or.inr ⟨hk, e, rfl, he, hes⟩) he1 (by rw [h5]; decide) (fun z => absurd z hk) (fun U' N' t' f' b1 b2 b6 b7 p1 p2 p3 p4 => nm_r (e' := 0) (by decide) (ly_to0 p1 p2 h8 (by rw [p4 hk]; exact he) (fun U'' N'' t'' f'' c1 c2 c6 c7 r1 r2 r3 => H U'' N'' t'' f'' c1 c2 c6 c7 r1 r2 (fun j s v => (r3 j s v).trans (p3 j s v)))))
theorem ly_ctN {b1 b3 b4 b5 : Nat → Int32} {N' : Nat → List Nat} {m : Nat → Option Int32} {w : Nat} (hw : ly_W w) (hc : ly_ct a1 a3 a4 a5 N m) (h : ∀ j s u, ly_hd b1 b3 b4 b5 N' j s u ↔ (¬ (j = ly_ka w ∧ s = ly_ta w) ∧ ly_hd a1 a3 a4 a5 N j s u)) : ly_ct b1 b3 b4 b5 N' (ly_mu m w none) := by
  intro j s u
  rw [h, hc]
  unfold ly_mu
  constructor
  · rintro ⟨h1, w', h2, h3, h4, h5⟩
    refine ⟨w', h2, h3, h4, ?_⟩
    rw [if_neg (fun z => h1 (by rw [← h3, ← h4, z]; exact ⟨rfl, rfl⟩))]
    exact h5
  · rintro ⟨w', h2, h3, h4, h5⟩
    by_cases z : w' = w
    · rw [if_pos z] at h5
      exact absurd h5.symm (Option.some_ne_none u)
    · rw [if_neg z] at h5
      exact ⟨fun y => z (ly_Winj h2 hw (h3.trans y.1) (h4.trans y.2)), w', h2, h3, h4, h5⟩
theorem ly_takeOut {post : St2 → Prop} {w cc : Nat} {v : Int32} {m : Nat → Option Int32} {U : List Nat} (hw : ly_W w) (hT : ly_tr t a1 a2 a3 a4 a5 a6 N) (hau : ly_au U f N) (hct : ly_ct a1 a3 a4 a5 N m) (hm : m w = some v) (hc : c = nI (cc + 1))
    (H : ∀ U' N' t' f' b1 b2 b5 b6 b7 b8, ly_tr t' b1 b2 a3 a4 b5 b6 N' → ly_au U' f' N' → ly_ct b1 a3 a4 b5 N' (ly_mu m w none) → post (t', f', nI cc, l, 0, b1, b2, a3, a4, b5, b6, b7, b8, a9, a10, a11, a12)) :
    wpX_takeOut post (t, f, c, l, q, a1, a2, a3, a4, a5, a6, a7, a8, a9, a10, a11, a12) (nI w) := by
  subst hc
  have ⟨w1, w2, w3, w4, _⟩ := ly_W1 hw
  have h0 := ly_WS0 hw
  have h0b := h0.2.1
  have h0a := h0.1
  have hT0 := hT
  have hh := (ly_ctG hct hw).mpr hm
  obtain ⟨ex, hx1, hx2, hx3, hx4⟩ := hh
  have fin : ∀ e, e ∈ ly_en a1 (N (ly_ka w)) → ly_sl a3 e = ly_ta w → ly_tr t a1 a2 a3 a4 (upd a5 e 0) a6 N ∧ ly_ct a1 a3 a4 (upd a5 e 0) N (ly_mu m w none) := by
    intro e he hs
    have ⟨k1, k2⟩ := ly_trV (v0 := a4 e) (h0 := 0) hT0 he (Or.inl rfl)
    rw [ly_uid] at k1 k2
    refine ⟨k1, ly_ctN hw hct (fun j s u => ?_)⟩
    rw [k2, hs]
    constructor
    · rintro (⟨_, _, _, h4⟩ | h)
      · exact absurd h4 (by decide)
      · exact h
    · exact fun h => Or.inr h
  obtain ⟨g, tt, cn, dj, z0, nn, ff⟩ := hT
  have lsd : ly_ls w = (ly_sz w + 1) / 2 := rfl
  unfold wpX_takeOut
  refine ly_layersOf (by omega) ?_
  unfold ly_ka at fin hx1
  unfold ly_ta at fin hx2
  rcases ly_WS1 hw with h | ⟨h, h1⟩
  · rw [if_pos h] at fin hx1 hx2
    rw [if_pos h] at fin
    rw [h]
    refine ⟨2, pk_le 1 0 (fun z => absurd z (by omega)) (fun _ => ly_sliceOf (l := 0) (by omega) (by omega) (ly_entryForE tt (by omega) g (cn 0) (fun e he hs => ?_) (fun hno => absurd hx2 (hno ex hx1))))⟩
    have hB := ly_trB hT0 he
    have ce := nI_clamp (n := e) (by omega)
    have ⟨k1, k2⟩ := fin e he hs
    have e80 : (upd a8 0 (nI e)) (0 : Int32).toNatClampNeg = nI e := by rw [sb_cl0]; exact pk_us
    refine ⟨pk_in 0 3 (by omega), nm_r (e' := upd a8 0 (nI e)) (by rw [sb_cl0]) ⟨pk_in 0 3 (by omega), by rw [e80]; exact pk_in e 488 hB, nm_e (nm_r (nI_1 0) (pk_le 1 1 (fun _ => ⟨pk_in 0 3 (by omega), ?_⟩) (fun z => absurd z (by omega))))⟩⟩
    have e81 : (upd a8 0 (nI e)) (nI 1 - 1).toNatClampNeg = nI e := by
      rw [show (nI 1 - 1 : Int32).toNatClampNeg = 0 by decide]
      exact pk_us
    rw [e81]
    refine ⟨pk_in e 488 hB, nm_r (e' := upd a5 e 0) (ly_u (by omega)) (nm_r (nI_pred cc) (nm_r (e' := 0) (by decide) ⟨2, ?_⟩))⟩
    exact ly_to0 (n := 0) k1 hau pk_us he (fun U' N' t' f' b1 b2 b6 b7 p1 p2 p3 => H U' N' t' f' b1 b2 _ b6 b7 _ p1 p2 (fun j s u => (p3 j s u).trans (k2 j s u)))
  · rw [if_neg (by omega)] at fin hx1 hx2
    rw [if_neg (by omega)] at fin
    rw [h]
    have h1b := h1.2.1
    have hne : N (ly_sc w 0) ≠ [] := fun z => by rw [z] at hx1; exact absurd hx1 List.not_mem_nil
    obtain ⟨ey, hy1, hy2⟩ := nn _ (by omega) hne
    refine ⟨3, pk_le 2 0 (fun z => absurd z (by omega)) (fun _ => ly_sliceOf (l := 0) (by omega) (by omega) (ly_entryForE tt (by omega) g (cn 0) (fun e he hs => ?_) (fun hno => absurd hy2 (hno ey hy1))))⟩
    have hB := ly_trB hT0 he
    have ce := nI_clamp (n := e) (by omega)
    have e80 : (upd a8 0 (nI e)) (0 : Int32).toNatClampNeg = nI e := by rw [sb_cl0]; exact pk_us
    refine ⟨pk_in 0 3 (by omega), nm_r (e' := upd a8 0 (nI e)) (by rw [sb_cl0]) ⟨pk_in 0 3 (by omega), by rw [e80]; exact pk_in e 488 hB, nm_r (e' := ly_lk (N (ly_sc w 0))) (by rw [e80, ce, ← hs]; exact (z0 e he).2) (nm_r (nI_1 0) (pk_le 2 1 (fun z => absurd z (by omega)) (fun _ => ?_)))⟩⟩
    refine ly_sliceOf (l := 1) (by omega) (by omega) (ly_entryFor (by omega) g (cn (ly_sc w 0)) (fun e1 he1 hs1 => ?_) (fun hno => absurd hx2 (hno ex hx1)))
    have hB1 := ly_trB hT0 he1
    have ce1 := nI_clamp (n := e1) (by omega)
    have ⟨k1, k2⟩ := fin e1 he1 hs1
    have e81 : (upd (upd a8 0 (nI e)) 1 (nI e1)) (nI 1).toNatClampNeg = nI e1 := by
      rw [nI_clamp (by omega)]
      exact pk_us
    refine ⟨pk_in 1 3 (by omega), nm_r (e' := upd (upd a8 0 (nI e)) 1 (nI e1)) (by rw [nI_clamp (by omega)]) ⟨pk_in 1 3 (by omega), by rw [e81]; exact pk_in e1 488 hB1, nm_e (nm_r (nI_1 1) (pk_le 2 2 (fun _ => ⟨pk_in 1 3 (by omega), ?_⟩) (fun z => absurd z (by omega))))⟩⟩
    have e82 : (upd (upd a8 0 (nI e)) 1 (nI e1)) (nI 2 - 1).toNatClampNeg = nI e1 := by
      rw [show (nI 2 - 1 : Int32).toNatClampNeg = 1 by decide]
      exact pk_us
    rw [e82]
    refine ⟨pk_in e1 488 hB1, nm_r (e' := upd a5 e1 0) (ly_u (by omega)) (nm_r (nI_pred cc) (nm_r (e' := 1) (by decide) ⟨3, ?_⟩))⟩
    exact ly_to1 (n := 0) (k := ly_sc w 0) k1 hau (by rw [pk_un (by omega)]; exact pk_us) pk_us he (by omega) hs he1 pk_us (fun U' N' t' f' b1 b2 b6 b7 p1 p2 p3 => H U' N' t' f' b1 b2 _ b6 b7 _ p1 p2 (fun j s u => (p3 j s u).trans (k2 j s u)))
end
end
section
/-! the listing: its walk -/
def ly_q1 (a3 a4 a5 : Nat → Int32) (k : Nat) : List Nat → List (Nat × Int32)
  | [] => []
  | e :: r => (if a5 e = 0 then [] else [(ly_wa k (ly_sl a3 e), a4 e)]) ++ ly_q1 a3 a4 a5 k r
def ly_q0 (a1 a3 a4 a5 : Nat → Int32) (N : Nat → List Nat) : List Nat → List (Nat × Int32)
  | [] => []
  | e :: r => (if a5 e = 0 then [] else [(ly_wa 0 (ly_sl a3 e), a4 e)]) ++ (ly_q1 a3 a4 a5 (ly_sl a3 e) (ly_en a1 (N (ly_sl a3 e))) ++ ly_q0 a1 a3 a4 a5 N r)
/-- the arrays show a list -/
def ly_ls9 (Q : List (Nat × Int32)) (a9 a10 : Nat → Int32) : Prop := ∀ j w v, Q[j]? = some (w, v) → a9 j = nI w ∧ a10 j = v
theorem ly_lsA {Q : List (Nat × Int32)} {a9 a10 : Nat → Int32} {w : Nat} {v : Int32} (h : ly_ls9 Q a9 a10) : ly_ls9 (Q ++ [(w, v)]) (upd a9 Q.length (nI w)) (upd a10 Q.length v) := by
  intro j w' v' hj
  by_cases e : j = Q.length
  · subst e
    rw [List.getElem?_append_right (Nat.le_refl _), Nat.sub_self] at hj
    have hh := Option.some.inj (show some (w, v) = some (w', v') from hj)
    have h1 : w = w' := congrArg Prod.fst hh
    have h2 : v = v' := congrArg Prod.snd hh
    rw [pk_us, pk_us, h1, h2]
    exact ⟨rfl, rfl⟩
  · have hl : j < Q.length := by
      have := (List.getElem?_eq_some_iff.mp hj).1
      rw [List.length_append] at this
      have : j < Q.length + 1 := this
      omega
    rw [List.getElem?_append_left hl] at hj
    rw [pk_un e, pk_un e]
    exact h j w' v' hj
theorem ly_neI {a1 : Nat → Int32} {b e : Nat} {d es : List Nat} (h : ly_ne a1 b = d ++ e :: es) : d.length < ly_n (a1 b) ∧ e = 4 * b + ly_ce (a1 b) d.length := by
  have hl : (ly_ne a1 b).length = ly_n (a1 b) := by unfold ly_ne; rw [List.length_map, ly_csL]
  have h1 : d.length < ly_n (a1 b) := by rw [← hl, h, List.length_append, List.length_cons]; omega
  refine ⟨h1, ?_⟩
  have h2 : (ly_ne a1 b)[d.length]? = some (4 * b + ly_ce (a1 b) d.length) := by
    unfold ly_ne
    rw [List.getElem?_map, List.getElem?_eq_getElem (by rw [ly_csL]; exact h1), ly_csI]
    rfl
  rw [h, List.getElem?_append_right (Nat.le_refl _), Nat.sub_self] at h2
  exact Option.some.inj h2
section
variable {t f c l q : Int32} {a1 a2 a3 a4 a5 a6 a7 a8 a9 a10 a11 a12 : Nat → Int32} {N : Nat → List Nat}
theorem ly_woS {post : Int32 → Prop} {k y e s w n : Nat} (hk : k ≤ y) (hy : y < 3) (h8 : a8 k = nI e) (he : e < 488) (hs : a3 e = nI s) (h9 : 9 ≤ s) (h81 : s < 81) (hw : w < 2 ^ 20) (H : wX_wordOf_4 post (nI y) t f c l q a1 a2 a3 a4 a5 a6 a7 a8 a9 a10 a11 a12 n (nI (ly_ex w s)) (nI (k + 1))) : wX_wordOf_4 post (nI y) t f c l q a1 a2 a3 a4 a5 a6 a7 a8 a9 a10 a11 a12 (n + 1) (nI w) (nI k) := by
  have h8' : a8 (nI k).toNatClampNeg = nI e := by rw [nI_clamp (by omega)]; exact h8
  have e1 : nI s / 9 = nI (s / 9) := pk_div (a := s) (d := 9) (by omega) (by omega) (by omega)
  have e2 : nI s - nI s / 9 * 9 = nI (s % 9) := pk_rem (a := s) (d := 9) (by omega) (by omega) (by omega)
  have e3 : (8 * nI w + nI s / 9) - 1 = nI (8 * w + s / 9 - 1) := by
    rw [e1, show (8 : Int32) * nI w = nI (8 * w) from pk_mul 8 w, nI_add]
    exact pk_sub (a := 8 * w + s / 9) (b := 1) (by omega)
  unfold ly_ex at H
  refine pk_lt y k (fun z => absurd z (by omega)) (fun _ => ⟨pk_in k 3 (by omega), by rw [h8']; exact pk_in e 488 he, nm_r (e' := nI s) (by rw [h8', nI_clamp (by omega)]; exact hs) ⟨by decide, nm_r e3 ⟨by decide, ?_⟩⟩⟩)
  refine pk_le (s % 9) 0 (fun z => nm_r (nI_1 k) ?_) (fun z => ⟨by decide, nm_r (e' := nI (8 * (8 * w + s / 9 - 1) + s % 9 - 1)) ?_ (nm_r (nI_1 k) ?_)⟩) e2 rfl
  · rw [if_pos (by omega)] at H
    exact H
  · rw [e2, show (8 : Int32) * nI (8 * w + s / 9 - 1) = nI (8 * (8 * w + s / 9 - 1)) from pk_mul 8 _, nI_add]
    exact pk_sub (a := 8 * (8 * w + s / 9 - 1) + s % 9) (b := 1) (by omega)
  · rw [if_neg (by omega)] at H
    exact H
theorem ly_exB {w s : Nat} (hw : w ≤ 100) (hs : s < 81) : ly_ex w s < 2 ^ 20 := by
  unfold ly_ex
  split <;> omega
theorem ly_wo0 {post : Int32 → Prop} {e s : Nat} (h8 : a8 0 = nI e) (he : e < 488) (hs : a3 e = nI s) (h9 : 9 ≤ s) (h81 : s < 81) (H : post (nI (ly_wa 0 s))) : wpX_wordOf post (t, f, c, l, q, a1, a2, a3, a4, a5, a6, a7, a8, a9, a10, a11, a12) (nI 0) := by
  refine ⟨2, ly_woS (w := 1) (k := 0) (y := 0) (by omega) (by omega) h8 he hs h9 h81 (by omega) (br_t (by decide) ?_)⟩
  exact H
theorem ly_wo1 {post : Int32 → Prop} {e s e1 s1 : Nat} (h8 : a8 0 = nI e) (he : e < 488) (hs : a3 e = nI s) (h9 : 9 ≤ s) (h81 : s < 81) (g8 : a8 1 = nI e1) (ge : e1 < 488) (gs : a3 e1 = nI s1) (g9 : 9 ≤ s1) (g81 : s1 < 81) (H : post (nI (ly_wa s s1))) : wpX_wordOf post (t, f, c, l, q, a1, a2, a3, a4, a5, a6, a7, a8, a9, a10, a11, a12) (nI 1) := by
  refine ⟨3, ly_woS (w := 1) (k := 0) (y := 1) (by omega) (by omega) h8 he hs h9 h81 (by omega) (ly_woS (k := 1) (y := 1) (by omega) (by omega) g8 ge gs g9 g81 (ly_exB (by omega) h81) (br_t (by decide) ?_))⟩
  unfold ly_wa at H
  rw [if_neg (by omega)] at H
  exact H
/-! the loop's single steps -/
theorem ly_liE {post : St2 → Prop} {n y x : Nat} (hy : y < 3) (hx : x < 400) (h11 : a11 y = -1) (H : wX_list_51 post t f c q n (nI y + (-1)) (nI (x + 1)) l a1 a2 a3 a4 a5 a6 a7 a8 a9 a10 a11 a12) : wX_list_51 post t f c q (n + 1) (nI y) (nI x) l a1 a2 a3 a4 a5 a6 a7 a8 a9 a10 a11 a12 :=
  pk_le 400 x (fun z => absurd z (by omega)) (fun _ => br_f (nI_pos (by omega)) ⟨pk_in y 3 hy, nm_r (e' := -1) (by rw [nI_clamp (by omega)]; exact h11) (br_t rfl (nm_e (nm_r (nI_1 x) H)))⟩)
theorem ly_liN {post : St2 → Prop} {n y x b : Nat} (hy : y < 3) (hx : x < 400) (hb : b < 122) (h11 : a11 y = nI b) (h12 : a12 y = nI (ly_n (a1 b))) (H : wX_list_51 post t f c q n (nI y) (nI (x + 1)) l a1 a2 a3 a4 a5 a6 a7 a8 a9 a10 (upd a11 y (a2 b)) (upd a12 y 0)) : wX_list_51 post t f c q (n + 1) (nI y) (nI x) l a1 a2 a3 a4 a5 a6 a7 a8 a9 a10 a11 a12 := by
  have cy := nI_clamp (n := y) (by omega)
  have cb := nI_clamp (n := b) (by omega)
  exact pk_le 400 x (fun z => absurd z (by omega)) (fun _ => br_f (nI_pos (by omega)) ⟨pk_in y 3 hy, nm_r (e' := nI b) (by rw [cy]; exact h11) (br_f (ly_nm1 (by omega)) ⟨pk_in y 3 hy, ly_sizeOfNode hb (br_t (by rw [cy]; exact h12) ⟨pk_in b 122 hb, pk_in y 3 hy, nm_r (by rw [cy, cb]) ⟨pk_in y 3 hy, nm_r (by rw [cy]) (nm_r (nI_1 x) H)⟩⟩)⟩)⟩)
theorem ly_liC {post : St2 → Prop} {n y x b p : Nat} (hy : y < 3) (hx : x < 400) (hb : b < 122) (hok : ly_ok (a1 b)) (h11 : a11 y = nI b) (h12 : a12 y = nI p) (hp : p < ly_n (a1 b)) (h5 : a5 (4 * b + ly_ce (a1 b) p) = 0) (H : wX_list_197 post (wX_list_51 post t f c q n) (nI y) (nI x) (nI (4 * b + ly_ce (a1 b) p)) t f c l q a1 a2 a3 a4 a5 a6 a7 (upd a8 y (nI (4 * b + ly_ce (a1 b) p))) a9 a10 a11 (upd a12 y (nI (p + 1)))) : wX_list_51 post t f c q (n + 1) (nI y) (nI x) l a1 a2 a3 a4 a5 a6 a7 a8 a9 a10 a11 a12 := by
  have cy := nI_clamp (n := y) (by omega)
  have ⟨k4, k5, _⟩ := ly_okN hok
  have h4 := k5 p (by omega)
  have hE : 4 * b + ly_ce (a1 b) p < 488 := by omega
  have cE := nI_clamp (n := 4 * b + ly_ce (a1 b) p) (by omega)
  exact pk_le 400 x (fun z => absurd z (by omega)) (fun _ => br_f (nI_pos (by omega)) ⟨pk_in y 3 hy, nm_r (e' := nI b) (by rw [cy]; exact h11) (br_f (ly_nm1 (by omega)) ⟨pk_in y 3 hy, ly_sizeOfNode hb (br_f (by rw [cy, h12, nI_eq (by omega) (by omega)]; omega) ⟨pk_in y 3 hy, ly_entryAtE rfl (by rw [cy]; exact h12) hb ⟨pk_in y 3 hy, pk_in y 3 hy, nm_r (e' := upd a12 y (nI (p + 1))) (by rw [cy, h12, nI_1]) ⟨pk_in y 3 hy, nm_r (by rw [cy]) ⟨pk_in _ 488 hE, br_t (by rw [cE]; exact h5) H⟩⟩⟩⟩)⟩)⟩)
theorem ly_liH {post : St2 → Prop} {n y x b p ln w : Nat} (hy : y < 3) (hx : x < 400) (hb : b < 122) (hok : ly_ok (a1 b)) (h11 : a11 y = nI b) (h12 : a12 y = nI p) (hp : p < ly_n (a1 b)) (h5 : a5 (4 * b + ly_ce (a1 b) p) ≠ 0) (hln : ln < 40) (hl : l = nI ln) (hw : ∀ P : Int32 → Prop, P (nI w) → wpX_wordOf P (t, f, c, l, q, a1, a2, a3, a4, a5, a6, a7, upd a8 y (nI (4 * b + ly_ce (a1 b) p)), a9, a10, a11, upd a12 y (nI (p + 1))) (nI y)) (H : wX_list_197 post (wX_list_51 post t f c q n) (nI y) (nI x) (nI (4 * b + ly_ce (a1 b) p)) t f c (nI (ln + 1)) q a1 a2 a3 a4 a5 a6 a7 (upd a8 y (nI (4 * b + ly_ce (a1 b) p))) (upd a9 ln (nI w)) (upd a10 ln (a4 (4 * b + ly_ce (a1 b) p))) a11 (upd a12 y (nI (p + 1)))) : wX_list_51 post t f c q (n + 1) (nI y) (nI x) l a1 a2 a3 a4 a5 a6 a7 a8 a9 a10 a11 a12 := by
  subst hl
  have cy := nI_clamp (n := y) (by omega)
  have cl := nI_clamp (n := ln) (by omega)
  have ⟨k4, k5, _⟩ := ly_okN hok
  have h4 := k5 p (by omega)
  have hE : 4 * b + ly_ce (a1 b) p < 488 := by omega
  have cE := nI_clamp (n := 4 * b + ly_ce (a1 b) p) (by omega)
  exact pk_le 400 x (fun z => absurd z (by omega)) (fun _ => br_f (nI_pos (by omega)) ⟨pk_in y 3 hy, nm_r (e' := nI b) (by rw [cy]; exact h11) (br_f (ly_nm1 (by omega)) ⟨pk_in y 3 hy, ly_sizeOfNode hb (br_f (by rw [cy, h12, nI_eq (by omega) (by omega)]; omega) ⟨pk_in y 3 hy, ly_entryAtE rfl (by rw [cy]; exact h12) hb ⟨pk_in y 3 hy, pk_in y 3 hy, nm_r (e' := upd a12 y (nI (p + 1))) (by rw [cy, h12, nI_1]) ⟨pk_in y 3 hy, nm_r (by rw [cy]) ⟨pk_in _ 488 hE, br_f (by rw [cE]; exact h5) (hw _ ⟨pk_in ln 40 hln, nm_r (by rw [cl]) ⟨pk_in _ 488 hE, pk_in ln 40 hln, nm_r (by rw [cl, cE]) (nm_r (nI_1 ln) H)⟩⟩)⟩⟩⟩⟩)⟩)⟩)
theorem ly_l197a {post : St2 → Prop} {J : Int32 → Int32 → Int32 → (Nat → Int32) → (Nat → Int32) → (Nat → Int32) → (Nat → Int32) → (Nat → Int32) → (Nat → Int32) → (Nat → Int32) → (Nat → Int32) → (Nat → Int32) → (Nat → Int32) → (Nat → Int32) → (Nat → Int32) → Prop} {y e x : Nat} (he : e < 488) (h6 : a6 e = -1) (H : J (nI y) (nI (x + 1)) l a1 a2 a3 a4 a5 a6 a7 a8 a9 a10 a11 a12) : wX_list_197 post J (nI y) (nI x) (nI e) t f c l q a1 a2 a3 a4 a5 a6 a7 a8 a9 a10 a11 a12 :=
  ⟨pk_in e 488 he, br_t (by rw [nI_clamp (by omega)]; exact h6) (nm_r (nI_1 x) H)⟩
theorem ly_l197b {post : St2 → Prop} {J : Int32 → Int32 → Int32 → (Nat → Int32) → (Nat → Int32) → (Nat → Int32) → (Nat → Int32) → (Nat → Int32) → (Nat → Int32) → (Nat → Int32) → (Nat → Int32) → (Nat → Int32) → (Nat → Int32) → (Nat → Int32) → (Nat → Int32) → Prop} {e x : Nat} (he : e < 488) (h6 : a6 e ≠ -1) (H : J (nI 1) (nI (x + 1)) l a1 a2 a3 a4 a5 a6 a7 a8 a9 a10 (upd a11 1 (a6 e)) (upd a12 1 0)) : wX_list_197 post J (nI 0) (nI x) (nI e) t f c l q a1 a2 a3 a4 a5 a6 a7 a8 a9 a10 a11 a12 :=
  ⟨pk_in e 488 he, br_f (by rw [nI_clamp (by omega)]; exact h6) (nm_r (nI_1 0) ⟨pk_in e 488 he, pk_in 1 3 (by omega), nm_r (by rw [nI_clamp (by omega), nI_clamp (by omega)]) ⟨pk_in 1 3 (by omega), nm_r (by rw [nI_clamp (by omega)]) (nm_r (nI_1 x) H)⟩⟩)⟩
end
end
section
/-! the listing: the loop as a whole -/
theorem ly_q1z {a3 a4 a5 : Nat → Int32} {k e : Nat} {r : List Nat} (h : a5 e = 0) : ly_q1 a3 a4 a5 k (e :: r) = ly_q1 a3 a4 a5 k r := by
  show (if a5 e = 0 then [] else [(ly_wa k (ly_sl a3 e), a4 e)]) ++ ly_q1 a3 a4 a5 k r = _
  rw [if_pos h]
  rfl
theorem ly_q1h {a3 a4 a5 : Nat → Int32} {k e : Nat} {r : List Nat} (h : a5 e ≠ 0) : ly_q1 a3 a4 a5 k (e :: r) = (ly_wa k (ly_sl a3 e), a4 e) :: ly_q1 a3 a4 a5 k r := by
  show (if a5 e = 0 then [] else [(ly_wa k (ly_sl a3 e), a4 e)]) ++ ly_q1 a3 a4 a5 k r = _
  rw [if_neg h]
  rfl
theorem ly_q0z {a1 a3 a4 a5 : Nat → Int32} {N : Nat → List Nat} {e : Nat} {r : List Nat} (h : a5 e = 0) : ly_q0 a1 a3 a4 a5 N (e :: r) = ly_q1 a3 a4 a5 (ly_sl a3 e) (ly_en a1 (N (ly_sl a3 e))) ++ ly_q0 a1 a3 a4 a5 N r := by
  show (if a5 e = 0 then [] else [(ly_wa 0 (ly_sl a3 e), a4 e)]) ++ _ = _
  rw [if_pos h]
  rfl
theorem ly_q0h {a1 a3 a4 a5 : Nat → Int32} {N : Nat → List Nat} {e : Nat} {r : List Nat} (h : a5 e ≠ 0) : ly_q0 a1 a3 a4 a5 N (e :: r) = (ly_wa 0 (ly_sl a3 e), a4 e) :: (ly_q1 a3 a4 a5 (ly_sl a3 e) (ly_en a1 (N (ly_sl a3 e))) ++ ly_q0 a1 a3 a4 a5 N r) := by
  show (if a5 e = 0 then [] else [(ly_wa 0 (ly_sl a3 e), a4 e)]) ++ _ = _
  rw [if_neg h]
  rfl
theorem ly_lenA {α : Type} {L R T : List α} (h : L ++ R = T) : L.length ≤ T.length := by
  rw [← h, List.length_append]
  omega
section
variable {t f c l q : Int32} {a1 a2 a3 a4 a5 a6 a7 : Nat → Int32} {N : Nat → List Nat}
theorem ly_li1 {post : St2 → Prop} {k e0 X : Nat} {T : List (Nat × Int32)} {y11 y12 : Int32} (hX : X ≤ 400) (hT : T.length ≤ 39) (he0 : e0 < 488) (hs0 : a3 e0 = nI k) (hk9 : 9 ≤ k) (hk81 : k < 81)
    (K : ∀ x a8 a9 a10 a11 a12, x ≤ X → a11 0 = y11 → a12 0 = y12 → ly_ls9 T a9 a10 → ∃ n, wX_list_51 post t f c q n (nI 0) (nI x) (nI T.length) a1 a2 a3 a4 a5 a6 a7 a8 a9 a10 a11 a12) :
    ∀ ns, ly_ch a2 ns → (∀ b ∈ ns, ly_ok (a1 b)) → (∀ e ∈ ly_en a1 ns, a3 e = nI (ly_sl a3 e) ∧ 9 ≤ ly_sl a3 e ∧ ly_sl a3 e < 81 ∧ a6 e = -1) → ∀ x L a8 a9 a10 a11 a12, a8 0 = nI e0 → a11 0 = y11 → a12 0 = y12 → a11 1 = ly_lk ns → a12 1 = 0 → ly_ls9 L a9 a10 → x + (ly_en a1 ns).length + ns.length + 1 ≤ X → L ++ ly_q1 a3 a4 a5 k (ly_en a1 ns) = T → ∃ n, wX_list_51 post t f c q n (nI 1) (nI x) (nI L.length) a1 a2 a3 a4 a5 a6 a7 a8 a9 a10 a11 a12 := by
  intro ns
  induction ns with
  | nil =>
    intro _ _ _ x L a8 a9 a10 a11 a12 h8 h11 h12 g11 g12 hls hx hL
    have hL' : L = T := by
      rw [← hL]
      exact (List.append_nil L).symm
    have hx' : x + 0 + 0 + 1 ≤ X := hx
    rw [hL'] at hls ⊢
    obtain ⟨n, hn⟩ := K (x + 1) a8 a9 a10 a11 a12 (by omega) h11 h12 hls
    have e1 : nI 1 + (-1) = nI 0 := pk_m1 0
    exact ⟨n + 1, ly_liE (y := 1) (by omega) (by omega) g11 (by rw [e1]; exact hn)⟩
  | cons b r ih =>
    intro hch hok hent x L a8 a9 a10 a11 a12 h8 h11 h12 g11 g12 hls hx hL
    have hb := hch.1
    have hokb := hok b List.mem_cons_self
    have ih' := ih hch.2.2 (fun y hy => hok y (List.mem_cons_of_mem _ hy)) (fun e he => hent e (List.mem_append_right _ he))
    have inner : ∀ es d x L a8 a9 a10 a11 a12, ly_ne a1 b = d ++ es → a8 0 = nI e0 → a11 0 = y11 → a12 0 = y12 → a11 1 = nI b → a12 1 = nI d.length → ly_ls9 L a9 a10 → x + es.length + 1 + (ly_en a1 r).length + r.length + 1 ≤ X → L ++ ly_q1 a3 a4 a5 k (es ++ ly_en a1 r) = T → ∃ n, wX_list_51 post t f c q n (nI 1) (nI x) (nI L.length) a1 a2 a3 a4 a5 a6 a7 a8 a9 a10 a11 a12 := by
      intro es
      induction es with
      | nil =>
        intro d x L a8 a9 a10 a11 a12 hd h8 h11 h12 g11 g12 hls hx hL
        have hdl : d.length = ly_n (a1 b) := by
          have hz : (ly_ne a1 b).length = ly_n (a1 b) := by unfold ly_ne; rw [List.length_map, ly_csL]
          rw [← hz, hd, List.append_nil]
        rw [hdl] at g12
        obtain ⟨n, hn⟩ := ih' (x + 1) L a8 a9 a10 (upd a11 1 (a2 b)) (upd a12 1 0) h8 (by rw [pk_un (by omega)]; exact h11) (by rw [pk_un (by omega)]; exact h12) (by rw [pk_us]; exact hch.2.1) pk_us hls (by have : x + 0 + 1 + (ly_en a1 r).length + r.length + 1 ≤ X := hx; omega) hL
        exact ⟨n + 1, ly_liN (y := 1) (by omega) (by have : x + 0 + 1 + (ly_en a1 r).length + r.length + 1 ≤ X := hx; omega) hb g11 g12 hn⟩
      | cons e es' ihe =>
        intro d x L a8 a9 a10 a11 a12 hd h8 h11 h12 g11 g12 hls hx hL
        have ⟨hdl, hee⟩ := ly_neI hd
        rw [List.length_cons] at hx
        have hd' : ly_ne a1 b = (d ++ [e]) ++ es' := by rw [hd, List.append_assoc]; rfl
        have hdl' : (d ++ [e]).length = d.length + 1 := by rw [List.length_append]; rfl
        have hmem : e ∈ ly_en a1 (b :: r) := by
          rw [ly_enC, hd]
          exact List.mem_append_left _ (List.mem_append_right _ List.mem_cons_self)
        have ⟨s1, s2, s3, s6⟩ := hent e hmem
        have hE : e < 488 := by
          have ⟨k4, k5, _⟩ := ly_okN hokb
          have := k5 d.length (by omega)
          omega
        have hLl := ly_lenA hL
        by_cases h5 : a5 e = 0
        · rw [List.cons_append, ly_q1z h5] at hL
          obtain ⟨n, hn⟩ := ihe (d ++ [e]) (x + 1) L (upd a8 1 (nI e)) a9 a10 a11 (upd a12 1 (nI (d.length + 1))) hd' (by rw [pk_un (by omega)]; exact h8) h11 (by rw [pk_un (by omega)]; exact h12) g11 (by rw [hdl']; exact pk_us) hls (by omega) hL
          subst hee
          exact ⟨n + 1, ly_liC (y := 1) (by omega) (by omega) hb hokb g11 g12 hdl h5 (ly_l197a hE s6 hn)⟩
        · rw [List.cons_append, ly_q1h h5] at hL
          have hL2 : (L ++ [(ly_wa k (ly_sl a3 e), a4 e)]) ++ ly_q1 a3 a4 a5 k (es' ++ ly_en a1 r) = T := by rw [List.append_assoc]; exact hL
          have hll : (L ++ [(ly_wa k (ly_sl a3 e), a4 e)]).length = L.length + 1 := by rw [List.length_append]; rfl
          obtain ⟨n, hn⟩ := ihe (d ++ [e]) (x + 1) (L ++ [(ly_wa k (ly_sl a3 e), a4 e)]) (upd a8 1 (nI e)) (upd a9 L.length (nI (ly_wa k (ly_sl a3 e)))) (upd a10 L.length (a4 e)) a11 (upd a12 1 (nI (d.length + 1))) hd' (by rw [pk_un (by omega)]; exact h8) h11 (by rw [pk_un (by omega)]; exact h12) g11 (by rw [hdl']; exact pk_us) (ly_lsA hls) (by omega) hL2
          rw [hll] at hn
          subst hee
          refine ⟨n + 1, ly_liH (y := 1) (ln := L.length) (by omega) (by omega) hb hokb g11 g12 hdl h5 (by omega) rfl (fun P hP => ?_) (ly_l197a hE s6 hn)⟩
          exact ly_wo1 (by rw [pk_un (by omega)]; exact h8) he0 hs0 hk9 hk81 pk_us hE s1 s2 s3 hP
    rw [ly_enC, List.length_append] at hx
    rw [ly_enC] at hL
    rw [List.length_cons] at hx
    exact inner (ly_ne a1 b) [] x L a8 a9 a10 a11 a12 rfl h8 h11 h12 g11 g12 hls (by omega) hL
theorem ly_li0 {post : St2 → Prop} {T : List (Nat × Int32)} (hT : T.length ≤ 39) (hTr : ly_tr t a1 a2 a3 a4 a5 a6 N) (hB : ∀ s, s ≠ 0 → (ly_en a1 (N s)).length ≤ 6 ∧ (N s).length ≤ 6)
    (H : ∀ a8 a9 a10 a11 a12, ly_ls9 T a9 a10 → post (t, f, c, nI T.length, q, a1, a2, a3, a4, a5, a6, a7, a8, a9, a10, a11, a12)) :
    ∀ ns, ly_ch a2 ns → (∀ b ∈ ns, ly_ok (a1 b)) → (∀ e ∈ ly_en a1 ns, e ∈ ly_en a1 (N 0)) → ∀ x L a8 a9 a10 a11 a12, a11 0 = ly_lk ns → a12 0 = 0 → ly_ls9 L a9 a10 → x + 14 * (ly_en a1 ns).length + ns.length + 1 ≤ 400 → L ++ ly_q0 a1 a3 a4 a5 N (ly_en a1 ns) = T → ∃ n, wX_list_51 post t f c q n (nI 0) (nI x) (nI L.length) a1 a2 a3 a4 a5 a6 a7 a8 a9 a10 a11 a12 := by
  obtain ⟨g0, tt, cn, dj, z0, nn, ff⟩ := hTr
  intro ns
  induction ns with
  | nil =>
    intro _ _ _ x L a8 a9 a10 a11 a12 g11 g12 hls hx hL
    have hL' : L = T := by
      rw [← hL]
      exact (List.append_nil L).symm
    have hx' : x + 14 * 0 + 0 + 1 ≤ 400 := hx
    rw [hL'] at hls ⊢
    have e1 : nI 0 + (-1) = (-1 : Int32) := by decide
    have fin := H a8 a9 a10 a11 a12 hls
    exact ⟨2, ly_liE (y := 0) (by omega) (by omega) g11 (by rw [e1]; exact ⟨fun _ => fin, fun _ => br_t (by decide) fin⟩)⟩
  | cons b r ih =>
    intro hch hok hent x L a8 a9 a10 a11 a12 g11 g12 hls hx hL
    have hb := hch.1
    have hokb := hok b List.mem_cons_self
    have ih' := ih hch.2.2 (fun y hy => hok y (List.mem_cons_of_mem _ hy)) (fun e he => hent e (List.mem_append_right _ he))
    have inner : ∀ es d x L a8 a9 a10 a11 a12, ly_ne a1 b = d ++ es → a11 0 = nI b → a12 0 = nI d.length → ly_ls9 L a9 a10 → x + 14 * es.length + 1 + 14 * (ly_en a1 r).length + r.length + 1 ≤ 400 → L ++ ly_q0 a1 a3 a4 a5 N (es ++ ly_en a1 r) = T → ∃ n, wX_list_51 post t f c q n (nI 0) (nI x) (nI L.length) a1 a2 a3 a4 a5 a6 a7 a8 a9 a10 a11 a12 := by
      intro es
      induction es with
      | nil =>
        intro d x L a8 a9 a10 a11 a12 hd g11 g12 hls hx hL
        have hdl : d.length = ly_n (a1 b) := by
          have hz : (ly_ne a1 b).length = ly_n (a1 b) := by unfold ly_ne; rw [List.length_map, ly_csL]
          rw [← hz, hd, List.append_nil]
        rw [hdl] at g12
        have hx' : x + 14 * 0 + 1 + 14 * (ly_en a1 r).length + r.length + 1 ≤ 400 := hx
        obtain ⟨n, hn⟩ := ih' (x + 1) L a8 a9 a10 (upd a11 0 (a2 b)) (upd a12 0 0) (by rw [pk_us]; exact hch.2.1) pk_us hls (by omega) hL
        exact ⟨n + 1, ly_liN (y := 0) (by omega) (by omega) hb g11 g12 hn⟩
      | cons e es' ihe =>
        intro d x L a8 a9 a10 a11 a12 hd g11 g12 hls hx hL
        have ⟨hdl, hee⟩ := ly_neI hd
        rw [List.length_cons] at hx
        have hd' : ly_ne a1 b = (d ++ [e]) ++ es' := by rw [hd, List.append_assoc]; rfl
        have hdl' : (d ++ [e]).length = d.length + 1 := by rw [List.length_append]; rfl
        have hmem : e ∈ ly_en a1 (N 0) := by
          refine hent e ?_
          rw [ly_enC, hd]
          exact List.mem_append_left _ (List.mem_append_right _ List.mem_cons_self)
        have ⟨zS, z6⟩ := z0 e hmem
        have s1 := (g0 e).1
        have s2 := zS.1
        have s3 := (g0 e).2.1
        have hE : e < 488 := by
          have ⟨k4, k5, _⟩ := ly_okN hokb
          have := k5 d.length (by omega)
          omega
        have ⟨B1, B2⟩ := hB (ly_sl a3 e) (by omega)
        /- what follows the entry's own word -/
        have rest : ∀ L a8 a9 a10 (a12 : Nat → Int32), a8 0 = nI e → a12 0 = nI (d.length + 1) → ly_ls9 L a9 a10 → L ++ (ly_q1 a3 a4 a5 (ly_sl a3 e) (ly_en a1 (N (ly_sl a3 e))) ++ ly_q0 a1 a3 a4 a5 N (es' ++ ly_en a1 r)) = T → ∃ n, wX_list_197 post (wX_list_51 post t f c q n) (nI 0) (nI x) (nI e) t f c (nI L.length) q a1 a2 a3 a4 a5 a6 a7 a8 a9 a10 a11 a12 := by
          intro L a8 a9 a10 a12 h8 h12 hls hL
          by_cases h6 : a6 e = -1
          · have hN : N (ly_sl a3 e) = [] := by
              rw [z6] at h6
              exact ly_lk0 (cn _).1.1 h6
            rw [hN] at hL
            have hL2 : L ++ ly_q0 a1 a3 a4 a5 N (es' ++ ly_en a1 r) = T := hL
            obtain ⟨n, hn⟩ := ihe (d ++ [e]) (x + 1) L a8 a9 a10 a11 a12 hd' g11 (by rw [hdl']; exact h12) hls (by omega) hL2
            exact ⟨n, ly_l197a hE h6 hn⟩
          · rw [← List.append_assoc] at hL
            have hT1 := ly_lenA hL
            obtain ⟨n, hn⟩ := ly_li1 (post := post) (t := t) (f := f) (c := c) (q := q) (a1 := a1) (a2 := a2) (a3 := a3) (a4 := a4) (a5 := a5) (a6 := a6) (a7 := a7) (k := ly_sl a3 e) (e0 := e) (X := x + 14) (T := L ++ ly_q1 a3 a4 a5 (ly_sl a3 e) (ly_en a1 (N (ly_sl a3 e)))) (y11 := nI b) (y12 := nI (d.length + 1)) (by omega) (by omega) hE s1 s2 s3
              (fun x' c8 c9 c10 c11 c12 hx' k11 k12 kls => ihe (d ++ [e]) x' _ c8 c9 c10 c11 c12 hd' k11 (by rw [hdl']; exact k12) kls (by omega) hL)
              (N (ly_sl a3 e)) (cn _).1.1 (cn _).1.2.1 (fun y hy => by
                have ⟨w1, w2⟩ := ff (ly_sl a3 e) (by omega) y hy
                exact ⟨(g0 y).1, w1.1, (g0 y).2.1, w2⟩)
              (x + 1) L a8 a9 a10 (upd a11 1 (a6 e)) (upd a12 1 0) h8 (by rw [pk_un (by omega)]; exact g11) (by rw [pk_un (by omega)]; exact h12) (by rw [pk_us]; exact z6) pk_us hls (by omega) rfl
            exact ⟨n, ly_l197b hE h6 hn⟩
        have hLl := ly_lenA hL
        by_cases h5 : a5 e = 0
        · rw [List.cons_append, ly_q0z h5] at hL
          obtain ⟨n, hn⟩ := rest L (upd a8 0 (nI e)) a9 a10 (upd a12 0 (nI (d.length + 1))) pk_us pk_us hls hL
          subst hee
          exact ⟨n + 1, ly_liC (y := 0) (by omega) (by omega) hb hokb g11 g12 hdl h5 hn⟩
        · rw [List.cons_append, ly_q0h h5] at hL
          have hL2 : (L ++ [(ly_wa 0 (ly_sl a3 e), a4 e)]) ++ (ly_q1 a3 a4 a5 (ly_sl a3 e) (ly_en a1 (N (ly_sl a3 e))) ++ ly_q0 a1 a3 a4 a5 N (es' ++ ly_en a1 r)) = T := by rw [List.append_assoc]; exact hL
          have hll : (L ++ [(ly_wa 0 (ly_sl a3 e), a4 e)]).length = L.length + 1 := by rw [List.length_append]; rfl
          obtain ⟨n, hn⟩ := rest (L ++ [(ly_wa 0 (ly_sl a3 e), a4 e)]) (upd a8 0 (nI e)) (upd a9 L.length (nI (ly_wa 0 (ly_sl a3 e)))) (upd a10 L.length (a4 e)) (upd a12 0 (nI (d.length + 1))) pk_us pk_us (ly_lsA hls) hL2
          rw [hll] at hn
          subst hee
          refine ⟨n + 1, ly_liH (y := 0) (ln := L.length) (by omega) (by omega) hb hokb g11 g12 hdl h5 (by omega) rfl (fun P hP => ?_) hn⟩
          exact ly_wo0 pk_us hE s1 s2 s3 hP
    rw [ly_enC, List.length_append] at hx
    rw [ly_enC] at hL
    rw [List.length_cons] at hx
    exact inner (ly_ne a1 b) [] x L a8 a9 a10 a11 a12 rfl g11 g12 hls (by omega) hL
end
/-! how many entries a chain may have -/
theorem ly_ndL : ∀ (l B : List Nat), l.Nodup → (∀ x ∈ l, x ∈ B) → l.length ≤ B.length := by
  intro l
  induction l with
  | nil => intro B _ _; exact Nat.zero_le _
  | cons a r ih =>
    intro B hn hs
    have ⟨n1, n2⟩ := List.nodup_cons.mp hn
    have ha : a ∈ B := hs a List.mem_cons_self
    have h1 := ih (B.erase a) n2 (fun x hx => (List.mem_erase_of_ne (fun z => n1 (by rw [← z]; exact hx))).mpr (hs x (List.mem_cons_of_mem _ hx)))
    rw [List.length_erase_of_mem ha] at h1
    have h2 := List.length_pos_of_mem ha
    rw [List.length_cons]
    omega
theorem ly_soL {a3 : Nat → Int32} {es B : List Nat} (hs : ly_so a3 es) (h : ∀ e ∈ es, ly_sl a3 e ∈ B) : es.length ≤ B.length := by
  rw [← List.length_map (ly_sl a3)]
  refine ly_ndL _ B (List.Pairwise.imp (fun h => Nat.ne_of_lt h) hs) (fun x hx => ?_)
  obtain ⟨e, he, rfl⟩ := List.mem_map.mp hx
  exact h e he
theorem ly_S0L : ∀ s, s < 45 → (9 ≤ s ∧ s % 9 ≤ 4) → s ∈ [9, 10, 11, 12, 13, 18, 19, 20, 21, 22, 27, 28, 29, 30, 31, 36, 37, 38, 39, 40] := by decide
theorem ly_S1L : ∀ s, s < 27 → (9 ≤ s ∧ s % 9 ≤ 2) → s ∈ [9, 10, 11, 18, 19, 20] := by decide
theorem ly_enL {a1 : Nat → Int32} {ns : List Nat} (h : ∀ b ∈ ns, ly_cs (a1 b) ≠ []) : ns.length ≤ (ly_en a1 ns).length := by
  induction ns with
  | nil => exact Nat.zero_le _
  | cons b r ih =>
    have h1 := ih (fun x hx => h x (List.mem_cons_of_mem _ hx))
    have h2 : 0 < (ly_ne a1 b).length := by
      unfold ly_ne
      rw [List.length_map]
      exact List.length_pos_iff.mpr (h b List.mem_cons_self)
    rw [ly_enC, List.length_append, List.length_cons]
    omega
section
variable {t f c l q : Int32} {a1 a2 a3 a4 a5 a6 a7 a8 a9 a10 a11 a12 : Nat → Int32} {N : Nat → List Nat}
theorem ly_trL (hT : ly_tr t a1 a2 a3 a4 a5 a6 N) : ((ly_en a1 (N 0)).length ≤ 20 ∧ (N 0).length ≤ 20) ∧ ∀ s, s ≠ 0 → (ly_en a1 (N s)).length ≤ 6 ∧ (N s).length ≤ 6 := by
  obtain ⟨g0, tt, cn, dj, z0, nn, ff⟩ := hT
  constructor
  · have h1 := ly_soL (cn 0).1.2.2.2.2 (fun e he => ly_S0L _ (z0 e he).1.2.1 ⟨(z0 e he).1.1, (z0 e he).1.2.2⟩)
    have h2 := ly_enL (cn 0).2
    have h3 : (ly_en a1 (N 0)).length ≤ 20 := h1
    exact ⟨h3, by omega⟩
  · intro s hs
    have h1 := ly_soL (cn s).1.2.2.2.2 (fun e he => ly_S1L _ (ff s hs e he).1.2.1 ⟨(ff s hs e he).1.1, (ff s hs e he).1.2.2⟩)
    have h2 := ly_enL (cn s).2
    have h3 : (ly_en a1 (N s)).length ≤ 6 := h1
    exact ⟨h3, by omega⟩
/-- what the fields 'listed' and 'current' and the arrays of the listing say -/
def ly_shown (Q : List (Nat × Int32)) (l q : Int32) (a9 a10 : Nat → Int32) : Prop := q = 0 ∨ (q = 1 ∧ l = nI Q.length ∧ ly_ls9 Q a9 a10)
theorem ly_list {post : St2 → Prop} {Q : List (Nat × Int32)} (hT : ly_tr t a1 a2 a3 a4 a5 a6 N) (hQ : ly_q0 a1 a3 a4 a5 N (ly_en a1 (N 0)) = Q) (hl : Q.length ≤ 39) (hs : ly_shown Q l q a9 a10)
    (H : ∀ b8 b9 b10 b11 b12, ly_ls9 Q b9 b10 → post (t, f, c, nI Q.length, 1, a1, a2, a3, a4, a5, a6, a7, b8, b9, b10, b11, b12)) :
    wpX_list post (t, f, c, l, q, a1, a2, a3, a4, a5, a6, a7, a8, a9, a10, a11, a12) := by
  have ⟨⟨n1, n2⟩, n3⟩ := ly_trL hT
  have hc0 := (hT.2.2.1 0)
  have tt := hT.2.1
  rcases hs with h | ⟨h, h2, h3⟩
  · subst h
    refine br_t rfl ?_
    have ls0 : ly_ls9 [] a9 a10 := fun j w v hj => by rw [List.getElem?_nil] at hj; exact absurd hj.symm (Option.some_ne_none _)
    by_cases h0 : t = -1
    · refine br_t h0 (nm_e (nm_e ⟨1, ?_⟩))
      have hN : N 0 = [] := by
        rw [tt] at h0
        exact ly_lk0 hc0.1.1 h0
      have hQ' : Q = [] := by
        rw [← hQ, hN]
        rfl
      rw [hQ'] at H
      exact ⟨fun _ => H _ _ _ _ _ ls0, fun _ => br_t (by decide) (H _ _ _ _ _ ls0)⟩
    · refine br_f h0 (nm_e (nm_e ?_))
      exact ly_li0 (T := Q) hl hT n3 H (N 0) hc0.1.1 hc0.1.2.1 (fun e he => he) 0 [] a8 a9 a10 (upd a11 0 t) (upd a12 0 0) (by rw [pk_us]; exact tt) pk_us ls0 (by omega) hQ
  · subst h
    rw [h2]
    exact br_f (by decide) (H a8 a9 a10 a11 a12 h3)
end
end
section
/-! the listing is sorted by key and holds the content -/
theorem ly_kyE {w : Nat} (hw : ly_W w) : (ly_ka w = 0 ∧ ly_ky w = 81 * ly_ta w) ∨ (ly_ka w ≠ 0 ∧ ly_ky w = 81 * ly_ka w + ly_ta w) := by
  have h0 := (ly_WS0 hw).1
  unfold ly_ka ly_ta ly_ky ly_s1
  rcases ly_WS1 hw with h | ⟨h, h1⟩
  · rw [if_pos h, if_pos h, if_pos h]
    exact Or.inl ⟨rfl, by omega⟩
  · rw [if_neg (by omega), if_neg (by omega), if_neg (by omega)]
    exact Or.inr ⟨by omega, rfl⟩
theorem ly_kyI {w w' : Nat} (hw : ly_W w) (hw' : ly_W w') (h : ly_ky w = ly_ky w') : w = w' := by
  have b1 := (ly_taB hw).1
  have b2 := (ly_taB hw').1
  have b3 := (ly_taB hw).2
  have b4 := (ly_taB hw').2
  have s1 : ly_ka w ≠ 0 → 9 ≤ ly_ta w := fun z => (b3.2 z).1
  have s2 : ly_ka w' ≠ 0 → 9 ≤ ly_ta w' := fun z => (b4.2 z).1
  have e1 := ly_kyE hw
  have e2 := ly_kyE hw'
  refine ly_Winj hw hw' ?_ ?_
  · omega
  · omega
theorem ly_kyB {w : Nat} (hw : ly_W w) : ly_ky w < 100000 ∧ 0 < ly_ky w := by
  have h0 := ly_WS0 hw
  have h1 := h0.1
  have h2 := h0.2.1
  have h3 := (ly_taB hw).1
  have e : ly_ky w = 81 * ly_sc w 0 + ly_s1 w := rfl
  have e1 : ly_s1 w < 81 := by
    unfold ly_s1
    rcases ly_WS1 hw with h | ⟨h, h1⟩
    · rw [if_pos h]; omega
    · rw [if_neg (by omega)]; have := h1.2.1; omega
  omega
theorem ly_q1M {a3 a4 a5 : Nat → Int32} {k : Nat} {x : Nat × Int32} {es : List Nat} : x ∈ ly_q1 a3 a4 a5 k es ↔ ∃ e ∈ es, a5 e ≠ 0 ∧ x = (ly_wa k (ly_sl a3 e), a4 e) := by
  induction es with
  | nil => exact ⟨fun h => absurd h List.not_mem_nil, fun ⟨e, h, _⟩ => absurd h List.not_mem_nil⟩
  | cons e r ih =>
    by_cases h : a5 e = 0
    · rw [ly_q1z h, ih]
      constructor
      · rintro ⟨y, hy, h2⟩
        exact ⟨y, List.mem_cons_of_mem _ hy, h2⟩
      · rintro ⟨y, hy, h2⟩
        rcases List.mem_cons.mp hy with z | z
        · rw [z] at h2
          exact absurd h h2.1
        · exact ⟨y, z, h2⟩
    · rw [ly_q1h h, List.mem_cons, ih]
      constructor
      · rintro (z | ⟨y, hy, h2⟩)
        · exact ⟨e, List.mem_cons_self, h, z⟩
        · exact ⟨y, List.mem_cons_of_mem _ hy, h2⟩
      · rintro ⟨y, hy, h2⟩
        rcases List.mem_cons.mp hy with z | z
        · rw [z] at h2
          exact Or.inl h2.2
        · exact Or.inr ⟨y, z, h2⟩
theorem ly_q0M {a1 a3 a4 a5 : Nat → Int32} {N : Nat → List Nat} {x : Nat × Int32} {es : List Nat} : x ∈ ly_q0 a1 a3 a4 a5 N es ↔ ∃ e ∈ es, (a5 e ≠ 0 ∧ x = (ly_wa 0 (ly_sl a3 e), a4 e)) ∨ x ∈ ly_q1 a3 a4 a5 (ly_sl a3 e) (ly_en a1 (N (ly_sl a3 e))) := by
  induction es with
  | nil => exact ⟨fun h => absurd h List.not_mem_nil, fun ⟨e, h, _⟩ => absurd h List.not_mem_nil⟩
  | cons e r ih =>
    by_cases h : a5 e = 0
    · rw [ly_q0z h, List.mem_append, ih]
      constructor
      · rintro (z | ⟨y, hy, h2⟩)
        · exact ⟨e, List.mem_cons_self, Or.inr z⟩
        · exact ⟨y, List.mem_cons_of_mem _ hy, h2⟩
      · rintro ⟨y, hy, h2⟩
        rcases List.mem_cons.mp hy with z | z
        · rw [z] at h2
          rcases h2 with h2 | h2
          · exact absurd h h2.1
          · exact Or.inl h2
        · exact Or.inr ⟨y, z, h2⟩
    · rw [ly_q0h h, List.mem_cons, List.mem_append, ih]
      constructor
      · rintro (z | z | ⟨y, hy, h2⟩)
        · exact ⟨e, List.mem_cons_self, Or.inl ⟨h, z⟩⟩
        · exact ⟨e, List.mem_cons_self, Or.inr z⟩
        · exact ⟨y, List.mem_cons_of_mem _ hy, h2⟩
      · rintro ⟨y, hy, h2⟩
        rcases List.mem_cons.mp hy with z | z
        · rw [z] at h2
          rcases h2 with h2 | h2
          · exact Or.inl h2.2
          · exact Or.inr (Or.inl h2)
        · exact Or.inr (Or.inr ⟨y, z, h2⟩)
theorem ly_q1S {a3 a4 a5 : Nat → Int32} {k : Nat} {es : List Nat} (hs : ly_so a3 es) (hk : ∀ e ∈ es, a5 e ≠ 0 → ly_ky (ly_wa k (ly_sl a3 e)) = 81 * k + ly_sl a3 e) : (ly_q1 a3 a4 a5 k es).Pairwise (fun x y => ly_ky x.1 < ly_ky y.1) := by
  induction es with
  | nil => exact List.Pairwise.nil
  | cons e r ih =>
    have hs' : (ly_sl a3 e :: r.map (ly_sl a3)).Pairwise (· < ·) := hs
    have ⟨p1, p2⟩ := List.pairwise_cons.mp hs'
    have ih' := ih p2 (fun y hy => hk y (List.mem_cons_of_mem _ hy))
    by_cases h : a5 e = 0
    · rw [ly_q1z h]
      exact ih'
    · rw [ly_q1h h, List.pairwise_cons]
      refine ⟨fun x hx => ?_, ih'⟩
      obtain ⟨y, hy, h5, rfl⟩ := ly_q1M.mp hx
      have h1 := hk e List.mem_cons_self h
      have h2 := hk y (List.mem_cons_of_mem _ hy) h5
      have h3 := p1 _ (List.mem_map_of_mem hy)
      show ly_ky (ly_wa k (ly_sl a3 e)) < ly_ky (ly_wa k (ly_sl a3 y))
      omega
theorem ly_q0S {a1 a3 a4 a5 : Nat → Int32} {N : Nat → List Nat} {es : List Nat} (hs : ly_so a3 es) (h0 : ∀ e ∈ es, a5 e ≠ 0 → ly_ky (ly_wa 0 (ly_sl a3 e)) = 81 * ly_sl a3 e) (h1 : ∀ e ∈ es, ∀ y ∈ ly_en a1 (N (ly_sl a3 e)), a5 y ≠ 0 → ly_ky (ly_wa (ly_sl a3 e) (ly_sl a3 y)) = 81 * ly_sl a3 e + ly_sl a3 y) (h2 : ∀ e ∈ es, ly_so a3 (ly_en a1 (N (ly_sl a3 e)))) (h3 : ∀ e ∈ es, ∀ y ∈ ly_en a1 (N (ly_sl a3 e)), 0 < ly_sl a3 y ∧ ly_sl a3 y < 81) : (ly_q0 a1 a3 a4 a5 N es).Pairwise (fun x y => ly_ky x.1 < ly_ky y.1) := by
  induction es with
  | nil => exact List.Pairwise.nil
  | cons e r ih =>
    have hs' : (ly_sl a3 e :: r.map (ly_sl a3)).Pairwise (· < ·) := hs
    have ⟨p1, p2⟩ := List.pairwise_cons.mp hs'
    have ih' := ih p2 (fun y hy => h0 y (List.mem_cons_of_mem _ hy)) (fun y hy => h1 y (List.mem_cons_of_mem _ hy)) (fun y hy => h2 y (List.mem_cons_of_mem _ hy)) (fun y hy => h3 y (List.mem_cons_of_mem _ hy))
    have low : ∀ x ∈ ly_q0 a1 a3 a4 a5 N r, 81 * ly_sl a3 e + 81 ≤ ly_ky x.1 := by
      intro x hx
      obtain ⟨y, hy, h⟩ := ly_q0M.mp hx
      have h4 := p1 _ (List.mem_map_of_mem hy)
      rcases h with ⟨h5, rfl⟩ | h
      · have := h0 y (List.mem_cons_of_mem _ hy) h5
        show _ ≤ ly_ky (ly_wa 0 (ly_sl a3 y))
        omega
      · obtain ⟨z, hz, h5, rfl⟩ := ly_q1M.mp h
        have := h1 y (List.mem_cons_of_mem _ hy) z hz h5
        show _ ≤ ly_ky (ly_wa (ly_sl a3 y) (ly_sl a3 z))
        omega
    have mid : ∀ x ∈ ly_q1 a3 a4 a5 (ly_sl a3 e) (ly_en a1 (N (ly_sl a3 e))), 81 * ly_sl a3 e < ly_ky x.1 ∧ ly_ky x.1 < 81 * ly_sl a3 e + 81 := by
      intro x hx
      obtain ⟨z, hz, h5, rfl⟩ := ly_q1M.mp hx
      have h6 := h1 e List.mem_cons_self z hz h5
      have h7 := h3 e List.mem_cons_self z hz
      show 81 * ly_sl a3 e < ly_ky (ly_wa (ly_sl a3 e) (ly_sl a3 z)) ∧ ly_ky (ly_wa (ly_sl a3 e) (ly_sl a3 z)) < 81 * ly_sl a3 e + 81
      omega
    have tail : (ly_q1 a3 a4 a5 (ly_sl a3 e) (ly_en a1 (N (ly_sl a3 e))) ++ ly_q0 a1 a3 a4 a5 N r).Pairwise (fun x y => ly_ky x.1 < ly_ky y.1) := by
      rw [List.pairwise_append]
      refine ⟨ly_q1S (h2 e List.mem_cons_self) (h1 e List.mem_cons_self), ih', fun x hx y hy => ?_⟩
      have := (mid x hx).2
      have := low y hy
      omega
    by_cases h : a5 e = 0
    · rw [ly_q0z h]
      exact tail
    · rw [ly_q0h h, List.pairwise_cons]
      refine ⟨fun x hx => ?_, tail⟩
      have h6 := h0 e List.mem_cons_self h
      show ly_ky (ly_wa 0 (ly_sl a3 e)) < ly_ky x.1
      rcases List.mem_append.mp hx with hx | hx
      · have := (mid x hx).1
        omega
      · have := low x hx
        omega
/-- a sorted list that holds the content -/
def ly_QQ (Q : List (Nat × Int32)) (m : Nat → Option Int32) : Prop := Q.Pairwise (fun x y => ly_ky x.1 < ly_ky y.1) ∧ (∀ w v, (w, v) ∈ Q ↔ m w = some v)
theorem ly_QT {t : Int32} {a1 a2 a3 a4 a5 a6 : Nat → Int32} {N : Nat → List Nat} {m : Nat → Option Int32} (hT : ly_tr t a1 a2 a3 a4 a5 a6 N) (hct : ly_ct a1 a3 a4 a5 N m) (hdom : ∀ w, m w ≠ none → ly_W w) : ly_QQ (ly_q0 a1 a3 a4 a5 N (ly_en a1 (N 0))) m := by
  obtain ⟨g0, tt, cn, dj, z0, nn, ff⟩ := hT
  have h1of : ∀ e, a5 e ≠ 0 → a5 e = 1 := fun e h => by
    rcases (g0 e).2.2 with z | z
    · exact absurd z h
    · exact z
  have word : ∀ k e, e ∈ ly_en a1 (N k) → a5 e ≠ 0 → ∃ w, ly_W w ∧ ly_ka w = k ∧ ly_ta w = ly_sl a3 e ∧ m w = some (a4 e) ∧ ly_wa k (ly_sl a3 e) = w := by
    intro k e he h5
    obtain ⟨w, w1, w2, w3, w4⟩ := (hct k (ly_sl a3 e) (a4 e)).mp ⟨e, he, rfl, rfl, h1of e h5⟩
    exact ⟨w, w1, w2, w3, w4, by rw [← w2, ← w3]; exact ly_Wwa w1⟩
  constructor
  · refine ly_q0S (cn 0).1.2.2.2.2 (fun e he h5 => ?_) (fun e he y hy h5 => ?_) (fun e he => (cn _).1.2.2.2.2) (fun e he y hy => ?_)
    · obtain ⟨w, w1, w2, w3, w4, w5⟩ := word 0 e he h5
      rw [w5]
      have := ly_kyE w1
      omega
    · obtain ⟨w, w1, w2, w3, w4, w5⟩ := word _ y hy h5
      rw [w5]
      have := ly_kyE w1
      have := (z0 e he).1.1
      omega
    · have h9 := (z0 e he).1.1
      have := (ff (ly_sl a3 e) (by omega) y hy).1
      exact ⟨by have := this.1; omega, (g0 y).2.1⟩
  · intro w v
    rw [ly_q0M]
    constructor
    · rintro ⟨e, he, h | h⟩
      · obtain ⟨w', w1, w2, w3, w4, w5⟩ := word 0 e he h.1
        have q1 : w = ly_wa 0 (ly_sl a3 e) := congrArg Prod.fst h.2
        have q2 : v = a4 e := congrArg Prod.snd h.2
        rw [q1, q2, w5]
        exact w4
      · obtain ⟨y, hy, h5, h⟩ := ly_q1M.mp h
        obtain ⟨w', w1, w2, w3, w4, w5⟩ := word _ y hy h5
        have q1 : w = ly_wa (ly_sl a3 e) (ly_sl a3 y) := congrArg Prod.fst h
        have q2 : v = a4 y := congrArg Prod.snd h
        rw [q1, q2, w5]
        exact w4
    · intro hm
      have hw := hdom w (by rw [hm]; exact Option.some_ne_none v)
      obtain ⟨e, he, h2, h3, h4⟩ := (ly_ctG hct hw).mpr hm
      have h5 : a5 e ≠ 0 := by rw [h4]; decide
      have ww := ly_Wwa hw
      by_cases hk : ly_ka w = 0
      · rw [hk] at he ww
        exact ⟨e, he, Or.inl ⟨h5, by rw [h2, h3, ww]⟩⟩
      · have hne : N (ly_ka w) ≠ [] := fun z => by rw [z] at he; exact absurd he List.not_mem_nil
        obtain ⟨x, hx, hxs⟩ := nn _ hk hne
        refine ⟨x, hx, Or.inr (ly_q1M.mpr ⟨e, by rw [hxs]; exact he, h5, ?_⟩)⟩
        rw [hxs, h2, h3, ww]
theorem ly_QN {Q : List (Nat × Int32)} {m : Nat → Option Int32} (h : ly_QQ Q m) : (Q.map Prod.fst).Nodup := by
  have := h.1
  rw [List.Nodup, List.pairwise_map]
  exact List.Pairwise.imp (fun {a b} hab z => by rw [z] at hab; omega) this
theorem ly_QL {Q : List (Nat × Int32)} {m : Nat → Option Int32} {K : List Nat} (h : ly_QQ Q m) (hK : ∀ w, m w ≠ none → w ∈ K) : Q.length ≤ K.length := by
  rw [← List.length_map Prod.fst]
  refine ly_ndL _ K (ly_QN h) (fun x hx => ?_)
  obtain ⟨⟨w, v⟩, hy, rfl⟩ := List.mem_map.mp hx
  exact hK w (by rw [(h.2 w v).mp hy]; exact Option.some_ne_none v)
/-- the word at a place of the list -/
def ly_wq (Q : List (Nat × Int32)) (j : Nat) : Nat := (Q.getD j (0, 0)).1
theorem ly_wqE {Q : List (Nat × Int32)} {j : Nat} (hj : j < Q.length) : Q[j]? = some (ly_wq Q j, (Q.getD j (0, 0)).2) := by
  unfold ly_wq
  rw [List.getElem?_eq_getElem hj, List.getD_eq_getElem?_getD, List.getElem?_eq_getElem hj]
  rfl
theorem ly_wqI {Q : List (Nat × Int32)} {j : Nat} (hj : j < Q.length) : (ly_wq Q j, (Q.getD j (0, 0)).2) ∈ Q := List.mem_of_getElem? (ly_wqE hj)
theorem ly_wqM {Q : List (Nat × Int32)} {m : Nat → Option Int32} (h : ly_QQ Q m) {i j : Nat} (hij : i < j) (hj : j < Q.length) : ly_ky (ly_wq Q i) < ly_ky (ly_wq Q j) := by
  have := List.pairwise_iff_getElem.mp h.1 i j (by omega) hj hij
  have e1 := ly_wqE (Q := Q) (j := i) (by omega)
  have e2 := ly_wqE hj
  rw [List.getElem?_eq_getElem (by omega)] at e1
  rw [List.getElem?_eq_getElem hj] at e2
  rw [Option.some.inj e1, Option.some.inj e2] at this
  exact this
theorem ly_a9 {Q : List (Nat × Int32)} {a9 a10 : Nat → Int32} (h : ly_ls9 Q a9 a10) {j : Nat} (hj : j < Q.length) : a9 j = nI (ly_wq Q j) ∧ a10 j = (Q.getD j (0, 0)).2 := h j _ _ (ly_wqE hj)
end
section
/-! the questions -/
def ly_bb (r m : Nat) : Bool := decide (ly_sz r ≤ ly_sz m ∧ m / 8 ^ (ly_sz m - ly_sz r) = r)
theorem ly_bbI {r m : Nat} : ly_bb r m = true ↔ ly_bg r m := decide_eq_true_iff
theorem ly_bbN {r m : Nat} (h : ¬ ly_bg r m) : ly_bb r m = false := by
  cases e : ly_bb r m with
  | false => rfl
  | true => exact absurd (ly_bbI.mp e) h
theorem ly_bgR (m : Nat) : ly_bg m m := ⟨Nat.le_refl _, by rw [Nat.sub_self, Nat.pow_zero, Nat.div_one]⟩
theorem ly_bgT {a b c : Nat} (h1 : ly_bg a b) (h2 : ly_bg b c) : ly_bg a c := by
  have k1 := h1.1
  have k2 := h2.1
  refine ⟨by omega, ?_⟩
  rw [show ly_sz c - ly_sz a = (ly_sz c - ly_sz b) + (ly_sz b - ly_sz a) by omega, Nat.pow_add, ← Nat.div_div_eq_div_mul, h2.2]
  exact h1.2
theorem ly_bgP {r k : Nat} (hr : ly_R r) (hk : k ≤ ly_sz r) : ly_bg (r / 8 ^ (ly_sz r - k)) r := by
  have h := (ly_Rp hr hk).2
  refine ⟨by omega, ?_⟩
  rw [h]
/-- the context of a question -/
def ly_C (Q : List (Nat × Int32)) (m : Nat → Option Int32) (t : Int32) (a1 a2 a3 a4 a5 a6 : Nat → Int32) (N : Nat → List Nat) : Prop := ly_tr t a1 a2 a3 a4 a5 a6 N ∧ ly_ct a1 a3 a4 a5 N m ∧ (∀ w, m w ≠ none → ly_W w) ∧ ly_q0 a1 a3 a4 a5 N (ly_en a1 (N 0)) = Q ∧ Q.length ≤ 8
section
variable {t f c l q : Int32} {a1 a2 a3 a4 a5 a6 a7 a8 a9 a10 a11 a12 : Nat → Int32} {N : Nat → List Nat} {Q : List (Nat × Int32)} {m : Nat → Option Int32}
theorem ly_CQ (hC : ly_C Q m t a1 a2 a3 a4 a5 a6 N) : ly_QQ Q m := by
  have := ly_QT hC.1 hC.2.1 hC.2.2.1
  rw [hC.2.2.2.1] at this
  exact this
theorem ly_CW (hC : ly_C Q m t a1 a2 a3 a4 a5 a6 N) {x : Nat × Int32} (hx : x ∈ Q) : ly_W x.1 := by
  have := ((ly_CQ hC).2 x.1 x.2).mp hx
  exact hC.2.2.1 _ (by rw [this]; exact Option.some_ne_none _)
theorem ly_CWq (hC : ly_C Q m t a1 a2 a3 a4 a5 a6 N) {j : Nat} (hj : j < Q.length) : ly_W (ly_wq Q j) := ly_CW hC (ly_wqI hj)
theorem ly_listC {post : St2 → Prop} (hC : ly_C Q m t a1 a2 a3 a4 a5 a6 N) (hs : ly_shown Q l q a9 a10) (H : ∀ b8 b9 b10 b11 b12, ly_ls9 Q b9 b10 → post (t, f, c, nI Q.length, 1, a1, a2, a3, a4, a5, a6, a7, b8, b9, b10, b11, b12)) : wpX_list post (t, f, c, l, q, a1, a2, a3, a4, a5, a6, a7, a8, a9, a10, a11, a12) := by
  have := hC.2.2.2.2
  exact ly_list hC.1 hC.2.2.2.1 (by omega) hs H
theorem ly_mid {lo hi : Nat} (h : lo + hi < 100) : (nI lo + nI hi) >>> ((1 : Int32) &&& 31) = nI ((lo + hi) / 2) := by
  rw [nI_add, pk_shrN (by omega) _ 1 (by decide)]
theorem ly_plL {post : Int32 → St2 → Prop} {w : Nat} (hC : ly_C Q m t a1 a2 a3 a4 a5 a6 N) (hw : ly_W w) (h9 : ly_ls9 Q a9 a10) (H : ∀ p, p ≤ Q.length → (∀ j, j < p → ly_ky (ly_wq Q j) < ly_ky w) → (∀ j, p ≤ j → j < Q.length → ly_ky w ≤ ly_ky (ly_wq Q j)) → post (nI p) (t, f, c, l, q, a1, a2, a3, a4, a5, a6, a7, a8, a9, a10, a11, a12)) :
    ∀ d x lo hi, x + d = 6 → hi - lo < 2 ^ d → lo ≤ hi → hi ≤ Q.length → (∀ j, j < lo → ly_ky (ly_wq Q j) < ly_ky w) → (∀ j, hi ≤ j → j < Q.length → ly_ky w ≤ ly_ky (ly_wq Q j)) → wX_placeOf_14 post (nI w) t f c l q a1 a2 a3 a4 a5 a6 a7 a8 a9 a10 a11 a12 (d + 1) (nI lo) (nI hi) (nI x) := by
  have h8 := hC.2.2.2.2
  have hQ := ly_CQ hC
  intro d
  induction d with
  | zero =>
    intro x lo hi hx hd h1 h2 h3 h4
    have hd' : hi - lo < 1 := hd
    exact pk_le 7 x (fun z => absurd z (by omega)) (fun _ => pk_le hi lo (fun z => H lo (by omega) h3 (fun j j1 j2 => h4 j (by omega) j2)) (fun z => absurd z (by omega)))
  | succ d ih =>
    intro x lo hi hx hd h1 h2 h3 h4
    rw [Nat.pow_succ] at hd
    refine pk_le 7 x (fun z => absurd z (by omega)) (fun _ => pk_le hi lo (fun z => H lo (by omega) h3 (fun j j1 j2 => h4 j (by omega) j2)) (fun z => nm_r (ly_mid (by omega)) ⟨pk_in ((lo + hi) / 2) 40 (by omega), ?_⟩))
    have hm : (lo + hi) / 2 < Q.length := by omega
    rw [nI_clamp (by omega), (ly_a9 h9 hm).1]
    refine ly_comesBefore (ly_CWq hC hm) hw (fun g => br_f (by decide) (nm_r (nI_1 _) (nm_r (nI_1 x) (ih (x + 1) ((lo + hi) / 2 + 1) hi (by omega) (by omega) (by omega) h2 (fun j hj => ?_) h4)))) (fun g => br_t rfl (nm_r (nI_1 x) (ih (x + 1) lo ((lo + hi) / 2) (by omega) (by omega) (by omega) (by omega) h3 (fun j j1 j2 => ?_))))
    · by_cases e : j = (lo + hi) / 2
      · rw [e]; exact g
      · have := ly_wqM hQ (show j < (lo + hi) / 2 by omega) hm
        omega
    · by_cases e : j = (lo + hi) / 2
      · rw [e]; exact g
      · have := ly_wqM hQ (show (lo + hi) / 2 < j by omega) j2
        omega
theorem ly_placeOf {post : Int32 → St2 → Prop} {w : Nat} (hC : ly_C Q m t a1 a2 a3 a4 a5 a6 N) (hs : ly_shown Q l q a9 a10) (hw : ly_W w)
    (H : ∀ p b8 b9 b10 b11 b12, p ≤ Q.length → (∀ j, j < p → ly_ky (ly_wq Q j) < ly_ky w) → (∀ j, p ≤ j → j < Q.length → ly_ky w ≤ ly_ky (ly_wq Q j)) → ly_ls9 Q b9 b10 → post (nI p) (t, f, c, nI Q.length, 1, a1, a2, a3, a4, a5, a6, a7, b8, b9, b10, b11, b12)) :
    wpX_placeOf post (t, f, c, l, q, a1, a2, a3, a4, a5, a6, a7, a8, a9, a10, a11, a12) (nI w) := by
  have h8 := hC.2.2.2.2
  unfold wpX_placeOf
  refine ly_listC hC hs (fun b8 b9 b10 b11 b12 h9 => ⟨7, ?_⟩)
  have h64 : Q.length - 0 < 2 ^ 6 := by
    have : (2 : Nat) ^ 6 = 64 := by decide
    omega
  exact ly_plL hC hw h9 (fun p p1 p2 p3 => H p b8 b9 b10 b11 b12 p1 p2 p3 h9) 6 0 0 Q.length (by omega) h64 (by omega) (by omega) (fun j hj => absurd hj (by omega)) (fun j j1 j2 => absurd j2 (by omega))
theorem ly_rank {post : Int32 → St2 → Prop} {w : Nat} (hC : ly_C Q m t a1 a2 a3 a4 a5 a6 N) (hs : ly_shown Q l q a9 a10) (hw : ly_W w)
    (H : ∀ p b8 b9 b10 b11 b12, p ≤ Q.length → (∀ j, j < p → ly_ky (ly_wq Q j) < ly_ky w) → (∀ j, p ≤ j → j < Q.length → ly_ky w ≤ ly_ky (ly_wq Q j)) → ly_ls9 Q b9 b10 → post (nI p) (t, f, c, nI Q.length, 1, a1, a2, a3, a4, a5, a6, a7, b8, b9, b10, b11, b12)) :
    wpX_rank post (t, f, c, l, q, a1, a2, a3, a4, a5, a6, a7, a8, a9, a10, a11, a12) (nI w) := by
  unfold wpX_rank
  exact ly_isWord hw (br_f (by decide) (ly_placeOf hC hs hw H))
theorem ly_nx36 {post : Int32 → St2 → Prop} {p : Nat} (h9 : ly_ls9 Q a9 a10) (hl : Q.length ≤ 8) (hp : p ≤ Q.length) (H1 : p < Q.length → post (nI (ly_wq Q p)) (t, f, c, nI Q.length, q, a1, a2, a3, a4, a5, a6, a7, a8, a9, a10, a11, a12)) (H2 : p = Q.length → post (-2) (t, f, c, nI Q.length, q, a1, a2, a3, a4, a5, a6, a7, a8, a9, a10, a11, a12)) : wX_next_36 post (nI p) t f c (nI Q.length) q a1 a2 a3 a4 a5 a6 a7 a8 a9 a10 a11 a12 := by
  refine pk_le Q.length p (fun z => H2 (by omega)) (fun z => ⟨pk_in p 40 (by omega), ?_⟩)
  rw [nI_clamp (by omega), (ly_a9 h9 z).1]
  exact H1 z
theorem ly_next {post : Int32 → St2 → Prop} {w : Nat} (hC : ly_C Q m t a1 a2 a3 a4 a5 a6 N) (hs : ly_shown Q l q a9 a10) (hw : ly_W w)
    (H1 : ∀ p b8 b9 b10 b11 b12, p < Q.length → ly_ky w < ly_ky (ly_wq Q p) → (∀ j, j < p → ly_ky (ly_wq Q j) ≤ ly_ky w) → ly_ls9 Q b9 b10 → post (nI (ly_wq Q p)) (t, f, c, nI Q.length, 1, a1, a2, a3, a4, a5, a6, a7, b8, b9, b10, b11, b12))
    (H2 : ∀ b8 b9 b10 b11 b12, (∀ j, j < Q.length → ly_ky (ly_wq Q j) ≤ ly_ky w) → ly_ls9 Q b9 b10 → post (-2) (t, f, c, nI Q.length, 1, a1, a2, a3, a4, a5, a6, a7, b8, b9, b10, b11, b12)) :
    wpX_next post (t, f, c, l, q, a1, a2, a3, a4, a5, a6, a7, a8, a9, a10, a11, a12) (nI w) := by
  have h8 := hC.2.2.2.2
  have hQ := ly_CQ hC
  have ⟨w1, w2, _⟩ := ly_W1 hw
  unfold wpX_next
  refine ly_isWord hw (br_f (by decide) (ly_placeOf hC hs hw (fun p b8 b9 b10 b11 b12 p1 p2 p3 h9 => ?_)))
  refine pk_le Q.length p (fun z => ?_) (fun z => ⟨pk_in p 40 (by omega), ?_⟩)
  · exact ly_nx36 h9 h8 p1 (fun y => absurd y (by omega)) (fun _ => H2 b8 b9 b10 b11 b12 (fun j hj => Nat.le_of_lt (p2 j (by omega))) h9)
  · rw [nI_clamp (by omega), (ly_a9 h9 z).1]
    have hwq := ly_CWq hC z
    have ⟨y1, y2, _⟩ := ly_W1 hwq
    refine pk_eq (ly_wq Q p) w (fun g => nm_r (nI_1 p) ?_) (fun g => ?_)
    · have lower : ∀ j, j < p + 1 → ly_ky (ly_wq Q j) ≤ ly_ky w := by
        intro j hj
        by_cases e : j = p
        · rw [e, g]; exact Nat.le_refl _
        · exact Nat.le_of_lt (p2 j (by omega))
      refine ly_nx36 h9 h8 (by omega) (fun y => H1 (p + 1) b8 b9 b10 b11 b12 y ?_ lower h9) (fun y => H2 b8 b9 b10 b11 b12 (fun j hj => lower j (by omega)) h9)
      have := ly_wqM hQ (show p < p + 1 by omega) y
      rw [g] at this
      exact this
    · refine ly_nx36 h9 h8 p1 (fun y => H1 p b8 b9 b10 b11 b12 y ?_ (fun j hj => Nat.le_of_lt (p2 j hj)) h9) (fun y => absurd y (by omega))
      have h1 := p3 p (by omega) y
      have h2 : ly_ky w ≠ ly_ky (ly_wq Q p) := fun e => g (ly_kyI hw hwq e).symm
      omega
theorem ly_previous {post : Int32 → St2 → Prop} {k : Nat} (hC : ly_C Q m t a1 a2 a3 a4 a5 a6 N) (hs : ly_shown Q l q a9 a10) (hk : k < Q.length)
    (H1 : ∀ b8 b9 b10 b11 b12, k ≠ 0 → ly_ls9 Q b9 b10 → post (nI (ly_wq Q (k - 1))) (t, f, c, nI Q.length, 1, a1, a2, a3, a4, a5, a6, a7, b8, b9, b10, b11, b12))
    (H2 : ∀ b8 b9 b10 b11 b12, k = 0 → ly_ls9 Q b9 b10 → post (-2) (t, f, c, nI Q.length, 1, a1, a2, a3, a4, a5, a6, a7, b8, b9, b10, b11, b12)) :
    wpX_previous post (t, f, c, l, q, a1, a2, a3, a4, a5, a6, a7, a8, a9, a10, a11, a12) (nI (ly_wq Q k)) := by
  have h8 := hC.2.2.2.2
  have hQ := ly_CQ hC
  have hw := ly_CWq hC hk
  unfold wpX_previous
  refine ly_isWord hw (br_f (by decide) (ly_placeOf hC hs hw (fun p b8 b9 b10 b11 b12 p1 p2 p3 h9 => ?_)))
  have hpk : p = k := by
    rcases Nat.lt_trichotomy p k with z | z | z
    · have h1 := p3 p (Nat.le_refl _) (by omega)
      have h2 := ly_wqM hQ z hk
      omega
    · exact z
    · have := p2 k z
      omega
  subst hpk
  refine pk_le p 0 (fun z => H2 b8 b9 b10 b11 b12 (by omega) h9) (fun z => ?_)
  have e1 : nI p - 1 = nI (p - 1) := pk_sub (a := p) (b := 1) (by omega)
  rw [e1]
  refine ⟨pk_in (p - 1) 40 (by omega), ?_⟩
  rw [nI_clamp (by omega), (ly_a9 h9 (show p - 1 < Q.length by omega)).1]
  exact H1 b8 b9 b10 b11 b12 (by omega) h9
theorem ly_select {post : Int32 → St2 → Prop} {k : Nat} (hC : ly_C Q m t a1 a2 a3 a4 a5 a6 N) (hs : ly_shown Q l q a9 a10) (hk : k < 100)
    (H1 : ∀ b8 b9 b10 b11 b12, k < Q.length → ly_ls9 Q b9 b10 → post (nI (ly_wq Q k)) (t, f, c, nI Q.length, 1, a1, a2, a3, a4, a5, a6, a7, b8, b9, b10, b11, b12))
    (H2 : ∀ b8 b9 b10 b11 b12, Q.length ≤ k → ly_ls9 Q b9 b10 → post (-1) (t, f, c, nI Q.length, 1, a1, a2, a3, a4, a5, a6, a7, b8, b9, b10, b11, b12)) :
    wpX_select post (t, f, c, l, q, a1, a2, a3, a4, a5, a6, a7, a8, a9, a10, a11, a12) (nI k) := by
  have h8 := hC.2.2.2.2
  unfold wpX_select
  refine ly_listC hC hs (fun b8 b9 b10 b11 b12 h9 => br_f (nI_pos (by omega)) (pk_le Q.length k (fun z => H2 b8 b9 b10 b11 b12 z h9) (fun z => ⟨pk_in k 40 (by omega), ?_⟩)))
  rw [nI_clamp (by omega), (ly_a9 h9 z).1]
  exact H1 b8 b9 b10 b11 b12 z h9
theorem ly_sufI {α : Type} {Q D R : List α} {x : α} (h : Q = D ++ x :: R) : Q[D.length]? = some x ∧ D.length < Q.length ∧ x ∈ Q ∧ Q = (D ++ [x]) ++ R ∧ (D ++ [x]).length = D.length + 1 := by
  refine ⟨?_, ?_, ?_, ?_, ?_⟩
  · rw [h, List.getElem?_append_right (Nat.le_refl _), Nat.sub_self]
    rfl
  · rw [h, List.length_append, List.length_cons]
    omega
  · rw [h]
    exact List.mem_append_right _ List.mem_cons_self
  · rw [h, List.append_assoc]
    rfl
  · rw [List.length_append]
    rfl
theorem ly_cntL {post : Int32 → St2 → Prop} {row : Nat} (hC : ly_C Q m t a1 a2 a3 a4 a5 a6 N) (hr : ly_R row) (h9 : ly_ls9 Q a9 a10) (H : post (nI (Q.countP (fun x => ly_bb row x.1))) (t, f, c, nI Q.length, q, a1, a2, a3, a4, a5, a6, a7, a8, a9, a10, a11, a12)) :
    ∀ R D, Q = D ++ R → ∃ n, wX_count_17 post (nI row) t f c (nI Q.length) q a1 a2 a3 a4 a5 a6 a7 a8 a9 a10 a11 a12 n (nI (D.countP (fun x => ly_bb row x.1))) (nI D.length) := by
  have h8 := hC.2.2.2.2
  have ⟨r1, r2, _⟩ := ly_R1 hr
  intro R
  induction R with
  | nil =>
    intro D hD
    rw [List.append_nil] at hD
    subst hD
    exact ⟨1, pk_le Q.length Q.length (fun _ => H) (fun z => absurd z (by omega))⟩
  | cons x R ih =>
    intro D hD
    have ⟨d1, d2, d3, d4, d5⟩ := ly_sufI hD
    have hw := ly_CW hC d3
    have ⟨w1, w2, _⟩ := ly_W1 hw
    obtain ⟨n, hn⟩ := ih (D ++ [x]) d4
    rw [d5, List.countP_append, List.countP_singleton] at hn
    refine ⟨n + 1, pk_le Q.length D.length (fun z => absurd z (by omega)) (fun _ => ⟨pk_in D.length 40 (by omega), ?_⟩)⟩
    rw [nI_clamp (by omega), (h9 D.length x.1 x.2 d1).1]
    refine ly_begins (by omega) (by omega) (fun g => br_f (by decide) (nm_r (nI_1 _) (nm_r (nI_1 _) ?_))) (fun g => br_t rfl (nm_r (nI_add _ 0) (nm_r (nI_1 _) ?_)))
    · rw [if_pos (ly_bbI.mpr g)] at hn
      exact hn
    · rw [ly_bbN g, if_neg (by decide)] at hn
      exact hn
theorem ly_count {post : Int32 → St2 → Prop} {row : Nat} (hC : ly_C Q m t a1 a2 a3 a4 a5 a6 N) (hs : ly_shown Q l q a9 a10) (hr : ly_R row)
    (H : ∀ b8 b9 b10 b11 b12, ly_ls9 Q b9 b10 → post (nI (Q.countP (fun x => ly_bb row x.1))) (t, f, c, nI Q.length, 1, a1, a2, a3, a4, a5, a6, a7, b8, b9, b10, b11, b12)) :
    wpX_count post (t, f, c, l, q, a1, a2, a3, a4, a5, a6, a7, a8, a9, a10, a11, a12) (nI row) := by
  unfold wpX_count
  exact ly_isRow hr (br_f (by decide) (ly_listC hC hs (fun b8 b9 b10 b11 b12 h9 => ly_cntL hC hr h9 (H b8 b9 b10 b11 b12 h9) Q [] rfl)))
def ly_sm (row : Nat) (L : List (Nat × Int32)) : Int32 := L.foldl (fun s x => s + (if ly_bb row x.1 = true then x.2 else 0)) 0
theorem ly_smA {row : Nat} {L : List (Nat × Int32)} {x : Nat × Int32} : ly_sm row (L ++ [x]) = ly_sm row L + (if ly_bb row x.1 = true then x.2 else 0) := by
  unfold ly_sm
  rw [List.foldl_append]
  rfl
theorem ly_sumL {post : Int32 → St2 → Prop} {row : Nat} (hC : ly_C Q m t a1 a2 a3 a4 a5 a6 N) (hr : ly_R row) (h9 : ly_ls9 Q a9 a10) (H : post (ly_sm row Q) (t, f, c, nI Q.length, q, a1, a2, a3, a4, a5, a6, a7, a8, a9, a10, a11, a12)) :
    ∀ R D, Q = D ++ R → ∃ n, wX_sum_17 post (nI row) t f c (nI Q.length) q a1 a2 a3 a4 a5 a6 a7 a8 a9 a10 a11 a12 n (ly_sm row D) (nI D.length) := by
  have h8 := hC.2.2.2.2
  have ⟨r1, r2, _⟩ := ly_R1 hr
  intro R
  induction R with
  | nil =>
    intro D hD
    rw [List.append_nil] at hD
    subst hD
    exact ⟨1, pk_le Q.length Q.length (fun _ => H) (fun z => absurd z (by omega))⟩
  | cons x R ih =>
    intro D hD
    have ⟨d1, d2, d3, d4, d5⟩ := ly_sufI hD
    have hw := ly_CW hC d3
    have ⟨w1, w2, _⟩ := ly_W1 hw
    obtain ⟨n, hn⟩ := ih (D ++ [x]) d4
    rw [d5, ly_smA] at hn
    refine ⟨n + 1, pk_le Q.length D.length (fun z => absurd z (by omega)) (fun _ => ⟨pk_in D.length 40 (by omega), ?_⟩)⟩
    rw [nI_clamp (by omega), (h9 D.length x.1 x.2 d1).1, (h9 D.length x.1 x.2 d1).2]
    refine ly_begins (by omega) (by omega) (fun g => br_f (by decide) ⟨pk_in D.length 40 (by omega), nm_e (nm_r (nI_1 _) ?_)⟩) (fun g => br_t rfl (nm_e (nm_r (nI_1 _) ?_)))
    · rw [if_pos (ly_bbI.mpr g)] at hn
      exact hn
    · rw [ly_bbN g, if_neg (by decide)] at hn
      exact hn
theorem ly_sum {post : Int32 → St2 → Prop} {row : Nat} (hC : ly_C Q m t a1 a2 a3 a4 a5 a6 N) (hs : ly_shown Q l q a9 a10) (hr : ly_R row)
    (H : ∀ b8 b9 b10 b11 b12, ly_ls9 Q b9 b10 → post (ly_sm row Q) (t, f, c, nI Q.length, 1, a1, a2, a3, a4, a5, a6, a7, b8, b9, b10, b11, b12)) :
    wpX_sum post (t, f, c, l, q, a1, a2, a3, a4, a5, a6, a7, a8, a9, a10, a11, a12) (nI row) := by
  unfold wpX_sum
  exact ly_isRow hr (br_f (by decide) (ly_listC hC hs (fun b8 b9 b10 b11 b12 h9 => ly_sumL hC hr h9 (H b8 b9 b10 b11 b12 h9) Q [] rfl)))
theorem ly_findM {post : Int32 → Prop} {w : Nat} (hC : ly_C Q m t a1 a2 a3 a4 a5 a6 N) (hw : ly_W w) (A : m w ≠ none → ∀ e, e < 488 → a5 e = 1 → post (nI e)) (B : m w = none → ∀ e, e < 488 → a5 e = 0 → post (nI e)) (D : m w = none → post (-1)) : wpX_find post (t, f, c, l, q, a1, a2, a3, a4, a5, a6, a7, a8, a9, a10, a11, a12) (nI w) := by
  obtain ⟨hT, hct, hdom, hq, _⟩ := hC
  have cn := hT.2.2.1
  have none_of : (∀ e ∈ ly_en a1 (N (ly_ka w)), ly_sl a3 e = ly_ta w → a5 e ≠ 1) → m w = none := by
    intro h
    cases hm : m w with
    | none => rfl
    | some u =>
      obtain ⟨e, h1, h2, h3, h4⟩ := (ly_ctG hct hw).mpr hm
      exact absurd h4 (h e h1 h2)
  refine ly_find hw hT (fun e he hs => ?_) (fun hno => D (none_of (fun e he hs => absurd hs (hno e he))))
  have hB := ly_trB hT he
  rcases (hT.1 e).2.2 with g5 | g5
  · refine B (none_of (fun e' he' hs' => ?_)) e hB g5
    rw [ly_soU (cn _).1.2.2.2.2 he' he (hs'.trans hs.symm), g5]
    decide
  · have hm := (ly_ctG hct hw).mp ⟨e, he, hs, rfl, g5⟩
    exact A (by rw [hm]; exact Option.some_ne_none _) e hB g5
theorem ly_has {post : Int32 → Prop} {w : Nat} (hC : ly_C Q m t a1 a2 a3 a4 a5 a6 N) (hw : ly_W w) (A : m w ≠ none → post 1) (B : m w = none → post 0) : wpX_has post (t, f, c, l, q, a1, a2, a3, a4, a5, a6, a7, a8, a9, a10, a11, a12) (nI w) := by
  unfold wpX_has
  refine ly_isWord hw (br_f (by decide) (ly_findM hC hw (fun g e he h5 => br_f (nI_pos (by omega)) ⟨pk_in e 488 he, br_f ?_ (A g)⟩) (fun g e he h5 => br_f (nI_pos (by omega)) ⟨pk_in e 488 he, br_t ?_ (B g)⟩) (fun g => br_t (by decide) (B g))))
  · rw [nI_clamp (by omega), h5]
    decide
  · rw [nI_clamp (by omega), h5]
theorem ly_longest {post : Int32 → Prop} {w : Nat} (hC : ly_C Q m t a1 a2 a3 a4 a5 a6 N) (hw : ly_W w)
    (H1 : ∀ k, 1 ≤ k → k ≤ ly_sz w → m (w / 8 ^ (ly_sz w - k)) ≠ none → (∀ j, k < j → j ≤ ly_sz w → m (w / 8 ^ (ly_sz w - j)) = none) → post (nI (w / 8 ^ (ly_sz w - k))))
    (H2 : (∀ j, 1 ≤ j → j ≤ ly_sz w → m (w / 8 ^ (ly_sz w - j)) = none) → post (-2)) : wpX_longest post (t, f, c, l, q, a1, a2, a3, a4, a5, a6, a7, a8, a9, a10, a11, a12) (nI w) := by
  have ⟨w1, w2, w3, w4, _⟩ := ly_W1 hw
  have loop : ∀ k, k ≤ ly_sz w → (∀ j, k < j → j ≤ ly_sz w → m (w / 8 ^ (ly_sz w - j)) = none) → wX_longest_16 post (nI w) (nI (ly_sz w)) t f c l q a1 a2 a3 a4 a5 a6 a7 a8 a9 a10 a11 a12 (k + 1) (nI k) := by
    intro k
    induction k with
    | zero =>
      intro hk hj
      exact pk_lt 0 1 (fun _ => H2 (fun j j1 j2 => hj j (by omega) j2)) (fun z => absurd z (by omega))
    | succ k ih =>
      intro hk hj
      have ⟨hwp, _⟩ := ly_Wp hw (show 1 ≤ k + 1 by omega) hk
      have go : m (w / 8 ^ (ly_sz w - (k + 1))) = none → wX_longest_16 post (nI w) (nI (ly_sz w)) t f c l q a1 a2 a3 a4 a5 a6 a7 a8 a9 a10 a11 a12 (k + 1) (nI k) := by
        intro hn
        refine ih (by omega) (fun j j1 j2 => ?_)
        by_cases e : j = k + 1
        · rw [e]; exact hn
        · exact hj j (by omega) j2
      refine pk_lt (k + 1) 1 (fun z => absurd z (by omega)) (fun _ => nm_r (e' := nI (w / 8 ^ (ly_sz w - (k + 1)))) ?_ (ly_findM hC hwp (fun g e he h5 => br_f (nI_pos (by omega)) ⟨pk_in e 488 he, br_f ?_ (H1 (k + 1) (by omega) hk g hj)⟩) (fun g e he h5 => br_f (nI_pos (by omega)) ⟨pk_in e 488 he, br_t ?_ (nm_r (pk_m1 k) (go g))⟩) (fun g => br_t (by decide) (nm_r (pk_m1 k) (go g)))))
      · rw [pk_sub hk, ly_sh (by omega) (by omega)]
      · rw [nI_clamp (by omega), h5]
        decide
      · rw [nI_clamp (by omega), h5]
  unfold wpX_longest
  exact ly_isWord hw (br_f (by decide) (ly_sizeOf (by omega) ⟨_, loop _ (Nat.le_refl _) (fun j j1 j2 => absurd j2 (by omega))⟩))
/-- the shared beginning of those that begin with the row -/
def ly_cm (row : Nat) (D : List (Nat × Int32)) (x : Int32) : Prop := (x = -2 ∧ ∀ y ∈ D, ¬ ly_bg row y.1) ∨ (∃ r, x = nI r ∧ ly_R r ∧ ly_bg row r ∧ (∃ y ∈ D, ly_bg row y.1) ∧ ∀ y ∈ D, ly_bg row y.1 → ly_bg r y.1)
theorem ly_comL {post : Int32 → St2 → Prop} {row : Nat} (hC : ly_C Q m t a1 a2 a3 a4 a5 a6 N) (hr : ly_R row) (h9 : ly_ls9 Q a9 a10) (H : ∀ x, ly_cm row Q x → post x (t, f, c, nI Q.length, q, a1, a2, a3, a4, a5, a6, a7, a8, a9, a10, a11, a12)) :
    ∀ R D z, Q = D ++ R → ly_cm row D z → ∃ n, wX_common_18 post (nI row) t f c (nI Q.length) q a1 a2 a3 a4 a5 a6 a7 a8 a9 a10 a11 a12 n z (nI D.length) := by
  have h8 := hC.2.2.2.2
  have ⟨r1, r2, _⟩ := ly_R1 hr
  intro R
  induction R with
  | nil =>
    intro D z hD hz
    rw [List.append_nil] at hD
    subst hD
    exact ⟨1, pk_le Q.length Q.length (fun _ => H z hz) (fun z => absurd z (by omega))⟩
  | cons x R ih =>
    intro D z hD hz
    have ⟨d1, d2, d3, d4, d5⟩ := ly_sufI hD
    have hw := ly_CW hC d3
    have ⟨w1, w2, _⟩ := ly_W1 hw
    have go : ∀ z', ly_cm row (D ++ [x]) z' → ∃ n, wX_common_18 post (nI row) t f c (nI Q.length) q a1 a2 a3 a4 a5 a6 a7 a8 a9 a10 a11 a12 n z' (nI (D.length + 1)) := by
      intro z' h
      have := ih (D ++ [x]) z' d4 h
      rw [d5] at this
      exact this
    by_cases g : ly_bg row x.1
    · have memx : x ∈ D ++ [x] := List.mem_append_right _ List.mem_cons_self
      rcases hz with ⟨rfl, hz⟩ | ⟨r, rfl, q1, q2, q3, q4⟩
      · obtain ⟨n, hn⟩ := go (nI x.1) (Or.inr ⟨x.1, rfl, Or.inr hw, g, ⟨x, memx, g⟩, fun y hy hb => by
          rcases List.mem_append.mp hy with h | h
          · exact absurd hb (hz y h)
          · rw [List.mem_singleton.mp h]
            exact ly_bgR _⟩)
        refine ⟨n + 1, pk_le Q.length D.length (fun z => absurd z (by omega)) (fun _ => ⟨pk_in D.length 40 (by omega), ?_⟩)⟩
        rw [nI_clamp (by omega), (h9 D.length x.1 x.2 d1).1]
        exact ly_begins (by omega) (by omega) (fun _ => br_f (by decide) (br_f (by decide) ⟨pk_in D.length 40 (by omega), nm_e (nm_r (nI_1 _) hn)⟩)) (fun y => absurd g y)
      · have ⟨v1, v2, _⟩ := ly_R1 q1
        have sh : ∀ k, k ≤ ly_sz r → ly_bg (r / 8 ^ (ly_sz r - k)) x.1 → (∀ j, k < j → j ≤ ly_sz r → ¬ ly_bg (r / 8 ^ (ly_sz r - j)) x.1) → ly_cm row (D ++ [x]) (nI (r / 8 ^ (ly_sz r - k))) := by
          intro k hk hb hmax
          have hrow : row = r / 8 ^ (ly_sz r - ly_sz row) := q2.2.symm
          have hle : ly_sz row ≤ k := by
            apply Classical.byContradiction
            intro hlt
            refine hmax (ly_sz row) (by omega) q2.1 ?_
            rw [← hrow]
            exact g
          have ⟨p1, p2⟩ := ly_Rp q1 hk
          refine Or.inr ⟨_, rfl, p1, ⟨by omega, ?_⟩, ⟨x, memx, g⟩, fun y hy hby => ?_⟩
          · rw [p2, Nat.div_div_eq_div_mul, ← Nat.pow_add, show ly_sz r - k + (k - ly_sz row) = ly_sz r - ly_sz row by have := q2.1; omega]
            exact q2.2
          · rcases List.mem_append.mp hy with h | h
            · exact ly_bgT (ly_bgP q1 hk) (q4 y h hby)
            · rw [List.mem_singleton.mp h]
              exact hb
        have key : ∃ n, ∀ P : Prop, P → wpX_shared (fun r_52 => ∀ x3_53 : Int32, x3_53 = nI D.length + 1 → wX_common_18 post (nI row) t f c (nI Q.length) q a1 a2 a3 a4 a5 a6 a7 a8 a9 a10 a11 a12 n r_52 x3_53) () (nI r) (nI x.1) := by
          /- the shared beginning is one definite number -/
          have ex : ∃ k, k ≤ ly_sz r ∧ ly_bg (r / 8 ^ (ly_sz r - k)) x.1 ∧ (∀ j, k < j → j ≤ ly_sz r → ¬ ly_bg (r / 8 ^ (ly_sz r - j)) x.1) := by
            have h0 : ly_bg (r / 8 ^ (ly_sz r - 0)) x.1 := by
              rw [Nat.sub_zero, ly_R8 q1]
              exact ⟨by rw [ly_sz1]; omega, by rw [ly_sz1, Nat.sub_zero]; exact ly_W8 hw⟩
            have : ∀ d, d ≤ ly_sz r → (∃ k, k ≤ ly_sz r ∧ ly_bg (r / 8 ^ (ly_sz r - k)) x.1 ∧ (∀ j, k < j → j ≤ ly_sz r → ¬ ly_bg (r / 8 ^ (ly_sz r - j)) x.1)) ∨ (∀ j, ly_sz r - d ≤ j → j ≤ ly_sz r → ¬ ly_bg (r / 8 ^ (ly_sz r - j)) x.1) := by
              intro d
              induction d with
              | zero =>
                intro _
                by_cases hb : ly_bg (r / 8 ^ (ly_sz r - ly_sz r)) x.1
                · exact Or.inl ⟨ly_sz r, Nat.le_refl _, hb, fun j j1 j2 => absurd j2 (by omega)⟩
                · refine Or.inr (fun j j1 j2 => ?_)
                  rw [show j = ly_sz r by omega]
                  exact hb
              | succ d ihd =>
                intro hd
                rcases ihd (by omega) with h | h
                · exact Or.inl h
                · by_cases hb : ly_bg (r / 8 ^ (ly_sz r - (ly_sz r - (d + 1)))) x.1
                  · exact Or.inl ⟨ly_sz r - (d + 1), by omega, hb, fun j j1 j2 => h j (by omega) j2⟩
                  · refine Or.inr (fun j j1 j2 => ?_)
                    by_cases e : j = ly_sz r - (d + 1)
                    · rw [e]; exact hb
                    · exact h j (by omega) j2
            rcases this (ly_sz r) (Nat.le_refl _) with h | h
            · exact h
            · exact absurd h0 (h 0 (by omega) (by omega))
          obtain ⟨k, k1, k2, k3⟩ := ex
          obtain ⟨n, hn⟩ := go _ (sh k k1 k2 k3)
          refine ⟨n, fun _ _ => ly_shared q1 hw (fun k' k1' k2' k3' => nm_r (nI_1 _) ?_)⟩
          have hkk : k' = k := by
            rcases Nat.lt_trichotomy k' k with z | z | z
            · exact absurd k2 (k3' k z k1)
            · exact z
            · exact absurd k2' (k3 k' z k1')
          rw [hkk]
          exact hn
        obtain ⟨n, hn⟩ := key
        refine ⟨n + 1, pk_le Q.length D.length (fun z => absurd z (by omega)) (fun _ => ⟨pk_in D.length 40 (by omega), ?_⟩)⟩
        rw [nI_clamp (by omega), (h9 D.length x.1 x.2 d1).1]
        exact ly_begins (by omega) (by omega) (fun _ => br_f (by decide) (br_t (nI_pos' (by omega)) ⟨pk_in D.length 40 (by omega), hn True trivial⟩)) (fun y => absurd g y)
    · obtain ⟨n, hn⟩ := go z (by
        rcases hz with ⟨h1, h2⟩ | ⟨r, q0, q1, q2, ⟨y, hy, hb⟩, q4⟩
        · refine Or.inl ⟨h1, fun y hy => ?_⟩
          rcases List.mem_append.mp hy with h | h
          · exact h2 y h
          · rw [List.mem_singleton.mp h]
            exact g
        · refine Or.inr ⟨r, q0, q1, q2, ⟨y, List.mem_append_left _ hy, hb⟩, fun y hy hb => ?_⟩
          rcases List.mem_append.mp hy with h | h
          · exact q4 y h hb
          · rw [List.mem_singleton.mp h] at hb
            exact absurd hb g)
      refine ⟨n + 1, pk_le Q.length D.length (fun z => absurd z (by omega)) (fun _ => ⟨pk_in D.length 40 (by omega), ?_⟩)⟩
      rw [nI_clamp (by omega), (h9 D.length x.1 x.2 d1).1]
      exact ly_begins (by omega) (by omega) (fun y => absurd y g) (fun _ => br_t rfl (nm_r (nI_1 _) hn))
theorem ly_common {post : Int32 → St2 → Prop} {row : Nat} (hC : ly_C Q m t a1 a2 a3 a4 a5 a6 N) (hs : ly_shown Q l q a9 a10) (hr : ly_R row)
    (H : ∀ x b8 b9 b10 b11 b12, ly_cm row Q x → ly_ls9 Q b9 b10 → post x (t, f, c, nI Q.length, 1, a1, a2, a3, a4, a5, a6, a7, b8, b9, b10, b11, b12)) :
    wpX_common post (t, f, c, l, q, a1, a2, a3, a4, a5, a6, a7, a8, a9, a10, a11, a12) (nI row) := by
  unfold wpX_common
  exact ly_isRow hr (br_f (by decide) (ly_listC hC hs (fun b8 b9 b10 b11 b12 h9 => ly_comL hC hr h9 (fun x hx => H x b8 b9 b10 b11 b12 hx h9) Q [] (-2) rfl (Or.inl ⟨rfl, fun y hy => absurd hy List.not_mem_nil⟩))))
end
end
section
/-! clear -/
section
variable {l : Int32} {a3 a4 a9 a10 a11 a12 : Nat → Int32} {Q : List (Nat × Int32)} {m : Nat → Option Int32}
theorem ly_clrL {post : Int32 → St2 → Prop} {row : Nat} (hW : ∀ x ∈ Q, ly_W x.1) (hQ : ly_QQ Q m) (h8 : Q.length ≤ 8) (hr : ly_R row) (h9 : ly_ls9 Q a9 a10)
    (H : ∀ t f q a1 a2 a5 a6 a7 a8 N m' U, ly_tr t a1 a2 a3 a4 a5 a6 N → ly_au U f N → ly_ct a1 a3 a4 a5 N m' → (∀ w, m' w = none ∨ m' w = m w) → (∀ x ∈ Q, ly_bg row x.1 → m' x.1 = none) → (q = 0 ∨ (q = 1 ∧ ly_q0 a1 a3 a4 a5 N (ly_en a1 (N 0)) = Q)) → post (nI (Q.countP (fun x => ly_bb row x.1))) (t, f, nI (Q.length - Q.countP (fun x => ly_bb row x.1)), l, q, a1, a2, a3, a4, a5, a6, a7, a8, a9, a10, a11, a12)) :
    ∀ R D t f q a1 a2 a5 a6 a7 a8 N m' U, Q = D ++ R → ly_tr t a1 a2 a3 a4 a5 a6 N → ly_au U f N → ly_ct a1 a3 a4 a5 N m' → (∀ w, m' w = none ∨ m' w = m w) → (∀ x ∈ R, m' x.1 = m x.1) → (∀ x ∈ D, ly_bg row x.1 → m' x.1 = none) → (q = 0 ∨ (q = 1 ∧ ly_q0 a1 a3 a4 a5 N (ly_en a1 (N 0)) = Q)) → wX_clear_23 post (nI row) (nI Q.length) (R.length + 1) (nI (D.countP (fun x => ly_bb row x.1))) (nI D.length) t f (nI (Q.length - D.countP (fun x => ly_bb row x.1))) l q a1 a2 a3 a4 a5 a6 a7 a8 a9 a10 a11 a12 := by
  have ⟨r1, r2, _⟩ := ly_R1 hr
  intro R
  induction R with
  | nil =>
    intro D t f q a1 a2 a5 a6 a7 a8 N m' U hD hT hau hct h1 h2 h3 h4
    rw [List.append_nil] at hD
    subst hD
    exact pk_le Q.length Q.length (fun _ => H t f q a1 a2 a5 a6 a7 a8 N m' U hT hau hct h1 h3 h4) (fun z => absurd z (by omega))
  | cons x R ih =>
    intro D t f q a1 a2 a5 a6 a7 a8 N m' U hD hT hau hct h1 h2 h3 h4
    have ⟨d1, d2, d3, d4, d5⟩ := ly_sufI hD
    have hw := hW x d3
    have ⟨w1, w2, _⟩ := ly_W1 hw
    have hcl : D.countP (fun x => ly_bb row x.1) ≤ D.length := List.countP_le_length
    have ih2 := ih (D ++ [x])
    rw [d5, List.countP_append, List.countP_singleton] at ih2
    refine pk_le Q.length D.length (fun z => absurd z (by omega)) (fun _ => ⟨pk_in D.length 40 (by omega), ?_⟩)
    rw [nI_clamp (by omega), (h9 D.length x.1 x.2 d1).1]
    refine ly_begins (by omega) (by omega) (fun g => br_f (by decide) ⟨pk_in D.length 40 (by omega), ?_⟩) (fun g => br_t rfl (nm_r (nI_1 _) ?_))
    · have hm : m x.1 = some x.2 := (hQ.2 x.1 x.2).mp d3
      have hm' : m' x.1 = some x.2 := by rw [h2 x List.mem_cons_self]; exact hm
      rw [if_pos (ly_bbI.mpr g)] at ih2
      refine ly_takeOut (cc := Q.length - D.countP (fun x => ly_bb row x.1) - 1) hw hT hau hct hm' (congrArg nI (by omega)) (fun U' N' t' f' b1 b2 b5 b6 b7 b8 p1 p2 p3 => nm_r (nI_1 _) (nm_r (nI_1 _) ?_))
      rw [show Q.length - D.countP (fun x => ly_bb row x.1) - 1 = Q.length - (D.countP (fun x => ly_bb row x.1) + 1) by omega]
      refine ih2 t' f' 0 b1 b2 b5 b6 b7 b8 N' _ U' d4 p1 p2 p3 (fun w => ?_) (fun y hy => ?_) (fun y hy hb => ?_) (Or.inl rfl)
      · unfold ly_mu
        by_cases e : w = x.1
        · rw [if_pos e]; exact Or.inl rfl
        · rw [if_neg e]; exact h1 w
      · have hne : y.1 ≠ x.1 := by
          have hp := hQ.1
          rw [hD, List.pairwise_append, List.pairwise_cons] at hp
          have := hp.2.1.1 y hy
          intro e
          rw [e] at this
          omega
        unfold ly_mu
        rw [if_neg hne]
        exact h2 y (List.mem_cons_of_mem _ hy)
      · unfold ly_mu
        by_cases e : y.1 = x.1
        · rw [if_pos e]
        · rw [if_neg e]
          rcases List.mem_append.mp hy with h | h
          · exact h3 y h hb
          · rw [List.mem_singleton.mp h] at e
            exact absurd rfl e
    · rw [ly_bbN g, if_neg (by decide)] at ih2
      refine ih2 t f q a1 a2 a5 a6 a7 a8 N m' U d4 hT hau hct h1 (fun y hy => h2 y (List.mem_cons_of_mem _ hy)) (fun y hy hb => ?_) h4
      rcases List.mem_append.mp hy with h | h
      · exact h3 y h hb
      · rw [List.mem_singleton.mp h] at hb
        exact absurd hb g
end
section
variable {t f c l q : Int32} {a1 a2 a3 a4 a5 a6 a7 a8 a9 a10 a11 a12 : Nat → Int32} {N : Nat → List Nat} {Q : List (Nat × Int32)} {m : Nat → Option Int32}
theorem ly_clear {post : Int32 → St2 → Prop} {row : Nat} {U : List Nat} (hC : ly_C Q m t a1 a2 a3 a4 a5 a6 N) (hs : ly_shown Q l q a9 a10) (hau : ly_au U f N) (hc : c = nI Q.length) (hr : ly_R row)
    (H : ∀ t' f' q' b1 b2 b5 b6 b7 b8 b9 b10 b11 b12 N' m' Q', ly_C Q' m' t' b1 b2 a3 a4 b5 b6 N' → ly_shown Q' (nI Q.length) q' b9 b10 → Q'.countP (fun x => ly_bb row x.1) = 0 → post (nI (Q.countP (fun x => ly_bb row x.1))) (t', f', nI (Q.length - Q.countP (fun x => ly_bb row x.1)), nI Q.length, q', b1, b2, a3, a4, b5, b6, b7, b8, b9, b10, b11, b12)) :
    wpX_clear post (t, f, c, l, q, a1, a2, a3, a4, a5, a6, a7, a8, a9, a10, a11, a12) (nI row) := by
  subst hc
  have h8 := hC.2.2.2.2
  have hQ := ly_CQ hC
  unfold wpX_clear
  refine ly_isRow hr (br_f (by decide) (ly_listC hC hs (fun b8 b9 b10 b11 b12 h9 => ⟨_, ly_clrL (fun x hx => ly_CW hC hx) hQ h8 hr h9 (fun t' f' q' c1 c2 c5 c6 c7 c8 N' m' U' p1 p2 p3 p4 p5 p6 => ?_) Q [] t f 1 a1 a2 a5 a6 a7 b8 N m U rfl hC.1 hau hC.2.1 (fun w => Or.inr rfl) (fun x hx => rfl) (fun x hx => absurd hx List.not_mem_nil) (Or.inr ⟨rfl, hC.2.2.2.1⟩)⟩)))
  have hsub : ∀ w v, m' w = some v → m w = some v := by
    intro w v h
    rcases p4 w with z | z
    · rw [z] at h
      exact absurd h.symm (Option.some_ne_none v)
    · rw [← z]; exact h
  have hdom : ∀ w, m' w ≠ none → ly_W w := by
    intro w h
    refine hC.2.2.1 w (fun z => h ?_)
    rcases p4 w with y | y
    · exact y
    · rw [y]; exact z
  have hQ' := ly_QT p1 p3 hdom
  refine H t' f' q' c1 c2 c5 c6 c7 c8 b9 b10 b11 b12 N' m' _ ⟨p1, p3, hdom, rfl, ?_⟩ ?_ ?_
  · have := ly_QL (K := Q.map Prod.fst) hQ' (fun w h => by
      cases hm : m' w with
      | none => exact absurd hm h
      | some v => exact List.mem_map.mpr ⟨(w, v), (hQ.2 w v).mpr (hsub w v hm), rfl⟩)
    rw [List.length_map] at this
    omega
  · rcases p6 with z | ⟨z1, z2⟩
    · exact Or.inl z
    · rw [z2]
      exact Or.inr ⟨z1, rfl, h9⟩
  · rw [List.countP_eq_zero]
    intro x hx hb
    have h1 := (hQ'.2 x.1 x.2).mp hx
    have h2 := (hQ.2 x.1 x.2).mpr (hsub _ _ h1)
    have h3 := p5 x h2 (ly_bbI.mp hb)
    rw [h3] at h1
    exact absurd h1.symm (Option.some_ne_none _)
end
end
section
/-! the law's own account of the eight words -/
def ly_mm (X : Nat → Nat) : Nat → Nat → Option Int32
  | 0 => fun _ => none
  | i + 1 => ly_mu (ly_mm X i) (X i) (some (nI (10 * i + 1)))
theorem ly_mmE {X : Nat → Nat} {i w : Nat} {v : Int32} : ly_mm X i w = some v ↔ ∃ j, j < i ∧ X j = w ∧ (∀ k, j < k → k < i → X k ≠ w) ∧ v = nI (10 * j + 1) := by
  induction i with
  | zero => exact ⟨fun h => absurd (show (none : Option Int32) = some v from h).symm (Option.some_ne_none v), fun ⟨j, h, _⟩ => absurd h (by omega)⟩
  | succ i ih =>
    show (if w = X i then some (nI (10 * i + 1)) else ly_mm X i w) = some v ↔ _
    by_cases e : w = X i
    · rw [if_pos e]
      constructor
      · intro h
        exact ⟨i, by omega, e.symm, fun k k1 k2 => absurd k2 (by omega), (Option.some.inj h).symm⟩
      · rintro ⟨j, j1, j2, j3, j4⟩
        by_cases hj : j = i
        · rw [j4, hj]
        · exact absurd e.symm (j3 i (by omega) (by omega))
    · rw [if_neg e, ih]
      constructor
      · rintro ⟨j, j1, j2, j3, j4⟩
        refine ⟨j, by omega, j2, fun k k1 k2 => ?_, j4⟩
        by_cases hk : k = i
        · rw [hk]; exact fun z => e z.symm
        · exact j3 k k1 (by omega)
      · rintro ⟨j, j1, j2, j3, j4⟩
        by_cases hj : j = i
        · rw [hj] at j2
          exact absurd j2.symm e
        · exact ⟨j, by omega, j2, fun k k1 k2 => j3 k k1 (by omega), j4⟩
theorem ly_mmN {X : Nat → Nat} {i w : Nat} : ly_mm X i w = none ↔ ∀ j, j < i → X j ≠ w := by
  induction i with
  | zero => exact ⟨fun _ j h => absurd h (by omega), fun _ => rfl⟩
  | succ i ih =>
    show (if w = X i then some (nI (10 * i + 1)) else ly_mm X i w) = none ↔ _
    by_cases e : w = X i
    · rw [if_pos e]
      exact ⟨fun h => absurd h (Option.some_ne_none _), fun h => absurd e.symm (h i (by omega))⟩
    · rw [if_neg e, ih]
      constructor
      · intro h j hj
        by_cases hji : j = i
        · rw [hji]; exact fun z => e z.symm
        · exact h j (by omega)
      · exact fun h j hj => h j (by omega)
def ly_la (X : Nat → Nat) (i : Nat) : Bool := (List.range 8).all (fun j => !(decide (i < j) && X j == X i))
theorem ly_laI {X : Nat → Nat} {i : Nat} : ly_la X i = true ↔ ∀ j, i < j → j < 8 → X j ≠ X i := by
  unfold ly_la
  rw [List.all_eq_true]
  constructor
  · intro h j h1 h2 h3
    have := h j (List.mem_range.mpr h2)
    rw [h3, decide_eq_true h1] at this
    simp at this
  · intro h j hj
    have h2 := List.mem_range.mp hj
    by_cases h1 : i < j
    · have h3 := h j h1 h2
      simp [h3]
    · simp [h1]
def ly_pp (X : Nat → Nat) : Nat → List (Nat × Int32)
  | 0 => []
  | i + 1 => if ly_la X i = true then ly_pp X i ++ [(X i, nI (10 * i + 1))] else ly_pp X i
theorem ly_ppS1 {X : Nat → Nat} {i : Nat} (h : ly_la X i = true) : ly_pp X (i + 1) = ly_pp X i ++ [(X i, nI (10 * i + 1))] := if_pos h
theorem ly_ppS0 {X : Nat → Nat} {i : Nat} (h : ¬ ly_la X i = true) : ly_pp X (i + 1) = ly_pp X i := if_neg h
theorem ly_ppM {X : Nat → Nat} {i : Nat} {x : Nat × Int32} : x ∈ ly_pp X i ↔ ∃ j, j < i ∧ ly_la X j = true ∧ x = (X j, nI (10 * j + 1)) := by
  induction i with
  | zero => exact ⟨fun h => absurd h List.not_mem_nil, fun ⟨j, h, _⟩ => absurd h (by omega)⟩
  | succ i ih =>
    by_cases h : ly_la X i = true
    · rw [ly_ppS1 h, List.mem_append, ih]
      constructor
      · rintro (⟨j, j1, j2, j3⟩ | z)
        · exact ⟨j, by omega, j2, j3⟩
        · exact ⟨i, by omega, h, List.mem_singleton.mp z⟩
      · rintro ⟨j, j1, j2, j3⟩
        by_cases e : j = i
        · right
          rw [j3, e]
          exact List.mem_singleton.mpr rfl
        · exact Or.inl ⟨j, by omega, j2, j3⟩
    · rw [ly_ppS0 h, ih]
      constructor
      · rintro ⟨j, j1, j2, j3⟩
        exact ⟨j, by omega, j2, j3⟩
      · rintro ⟨j, j1, j2, j3⟩
        by_cases e : j = i
        · rw [e] at j2
          exact absurd j2 h
        · exact ⟨j, by omega, j2, j3⟩
theorem ly_ppN {X : Nat → Nat} {i : Nat} (hi : i ≤ 8) : ((ly_pp X i).map Prod.fst).Nodup := by
  induction i with
  | zero => exact List.nodup_nil
  | succ i ih =>
    by_cases h : ly_la X i = true
    · rw [ly_ppS1 h, List.map_append, List.nodup_append]
      refine ⟨ih (by omega), List.nodup_cons.mpr ⟨List.not_mem_nil, List.nodup_nil⟩, fun a ha b hb => ?_⟩
      obtain ⟨x, hx, rfl⟩ := List.mem_map.mp ha
      obtain ⟨j, j1, j2, j3⟩ := ly_ppM.mp hx
      have hb' : b = X i := List.mem_singleton.mp hb
      rw [hb', j3]
      exact fun z => ly_laI.mp j2 i j1 (by omega) z.symm
    · rw [ly_ppS0 h]
      exact ih (by omega)
theorem ly_ppE {X : Nat → Nat} {w : Nat} {v : Int32} : (w, v) ∈ ly_pp X 8 ↔ ly_mm X 8 w = some v := by
  rw [ly_ppM, ly_mmE]
  constructor
  · rintro ⟨j, j1, j2, j3⟩
    have h1 : w = X j := congrArg Prod.fst j3
    have h2 : v = nI (10 * j + 1) := congrArg Prod.snd j3
    exact ⟨j, j1, h1.symm, fun k k1 k2 => by rw [h1]; exact ly_laI.mp j2 k k1 k2, h2⟩
  · rintro ⟨j, j1, j2, j3, j4⟩
    refine ⟨j, j1, ly_laI.mpr (fun k k1 k2 => by rw [j2]; exact j3 k k1 k2), by rw [j2, j4]⟩
def ly_fl (X : Nat → Nat) : Nat → List Nat
  | 0 => []
  | i + 1 => if (ly_mm X i (X i)).isNone = true then ly_fl X i ++ [X i] else ly_fl X i
theorem ly_flS1 {X : Nat → Nat} {i : Nat} (h : ly_mm X i (X i) = none) : ly_fl X (i + 1) = ly_fl X i ++ [X i] := if_pos (by rw [h]; rfl)
theorem ly_flS0 {X : Nat → Nat} {i : Nat} (h : ly_mm X i (X i) ≠ none) : ly_fl X (i + 1) = ly_fl X i := if_neg (by rw [Option.isNone_iff_eq_none]; exact h)
theorem ly_flM {X : Nat → Nat} {i w : Nat} : w ∈ ly_fl X i ↔ ∃ j, j < i ∧ X j = w := by
  induction i with
  | zero => exact ⟨fun h => absurd h List.not_mem_nil, fun ⟨j, h, _⟩ => absurd h (by omega)⟩
  | succ i ih =>
    by_cases h : ly_mm X i (X i) = none
    · rw [ly_flS1 h, List.mem_append, ih]
      constructor
      · rintro (⟨j, j1, j2⟩ | z)
        · exact ⟨j, by omega, j2⟩
        · exact ⟨i, by omega, (List.mem_singleton.mp z).symm⟩
      · rintro ⟨j, j1, j2⟩
        by_cases e : j = i
        · right
          rw [← j2, e]
          exact List.mem_singleton.mpr rfl
        · exact Or.inl ⟨j, by omega, j2⟩
    · rw [ly_flS0 h, ih]
      constructor
      · rintro ⟨j, j1, j2⟩
        exact ⟨j, by omega, j2⟩
      · rintro ⟨j, j1, j2⟩
        by_cases e : j = i
        · apply Classical.byContradiction
          intro hn
          refine h (ly_mmN.mpr (fun k hk z => hn ⟨k, hk, ?_⟩))
          rw [z, ← e]
          exact j2
        · exact ⟨j, by omega, j2⟩
theorem ly_flN {X : Nat → Nat} {i : Nat} : (ly_fl X i).Nodup := by
  induction i with
  | zero => exact List.nodup_nil
  | succ i ih =>
    by_cases h : ly_mm X i (X i) = none
    · rw [ly_flS1 h, List.nodup_append]
      refine ⟨ih, List.nodup_cons.mpr ⟨List.not_mem_nil, List.nodup_nil⟩, fun a ha b hb => ?_⟩
      obtain ⟨j, j1, j2⟩ := ly_flM.mp ha
      rw [List.mem_singleton.mp hb, ← j2]
      exact ly_mmN.mp h j j1
    · rw [ly_flS0 h]
      exact ih
theorem ly_flL {X : Nat → Nat} {i : Nat} : (ly_fl X i).length ≤ i := by
  induction i with
  | zero => exact Nat.le_refl _
  | succ i ih =>
    by_cases h : ly_mm X i (X i) = none
    · rw [ly_flS1 h, List.length_append]
      show (ly_fl X i).length + 1 ≤ i + 1
      omega
    · rw [ly_flS0 h]
      omega
theorem ly_flP {X : Nat → Nat} : (ly_fl X 8).length = (ly_pp X 8).length := by
  have h1 := ly_ndL (ly_fl X 8) ((ly_pp X 8).map Prod.fst) ly_flN (fun w hw => by
    obtain ⟨j, j1, j2⟩ := ly_flM.mp hw
    cases hm : ly_mm X 8 w with
    | none => exact absurd j2 (ly_mmN.mp hm j j1)
    | some v => exact List.mem_map.mpr ⟨(w, v), ly_ppE.mpr hm, rfl⟩)
  have h2 := ly_ndL ((ly_pp X 8).map Prod.fst) (ly_fl X 8) (ly_ppN (Nat.le_refl 8)) (fun w hw => by
    obtain ⟨x, hx, rfl⟩ := List.mem_map.mp hw
    obtain ⟨j, j1, j2, j3⟩ := ly_ppM.mp hx
    exact ly_flM.mpr ⟨j, j1, by rw [j3]⟩)
  rw [List.length_map] at h1 h2
  omega
/-! two lists of the same content -/
theorem ly_perm : ∀ (P Q : List (Nat × Int32)), P.Nodup → Q.Nodup → (∀ x, x ∈ P ↔ x ∈ Q) → P.Perm Q := by
  intro P
  induction P with
  | nil =>
    intro Q _ _ h
    cases Q with
    | nil => exact List.Perm.nil
    | cons a r => exact absurd ((h a).mpr List.mem_cons_self) List.not_mem_nil
  | cons a P ih =>
    intro Q hp hq h
    have ⟨p1, p2⟩ := List.nodup_cons.mp hp
    obtain ⟨Q1, Q2, rfl⟩ := List.append_of_mem ((h a).mp List.mem_cons_self)
    have ⟨n1, n2, n3⟩ := List.nodup_append.mp hq
    have ⟨n4, n5⟩ := List.nodup_cons.mp n2
    refine (List.Perm.cons a (ih (Q1 ++ Q2) p2 (List.nodup_append.mpr ⟨n1, n5, fun x hx y hy => n3 x hx y (List.mem_cons_of_mem _ hy)⟩) (fun x => ?_))).trans List.perm_middle.symm
    constructor
    · intro hx
      have hxa : x ≠ a := fun z => p1 (by rw [← z]; exact hx)
      rcases List.mem_append.mp ((h x).mp (List.mem_cons_of_mem _ hx)) with z | z
      · exact List.mem_append_left _ z
      · rcases List.mem_cons.mp z with z | z
        · exact absurd z hxa
        · exact List.mem_append_right _ z
    · intro hx
      have hxa : x ≠ a := by
        intro z
        rcases List.mem_append.mp hx with y | y
        · exact n3 x y a List.mem_cons_self z
        · rw [z] at y
          exact n4 y
      have : x ∈ Q1 ++ a :: Q2 := by
        rcases List.mem_append.mp hx with y | y
        · exact List.mem_append_left _ y
        · exact List.mem_append_right _ (List.mem_cons_of_mem _ y)
      rcases List.mem_cons.mp ((h x).mpr this) with z | z
      · exact absurd z hxa
      · exact z
theorem ly_ndF {L : List (Nat × Int32)} (h : (L.map Prod.fst).Nodup) : L.Nodup := by
  rw [List.Nodup, List.pairwise_map] at h
  exact List.Pairwise.imp (fun {a b} hab z => hab (by rw [z])) h
theorem ly_PQ {X : Nat → Nat} {Q : List (Nat × Int32)} (hQ : ly_QQ Q (ly_mm X 8)) : (∀ x, x ∈ ly_pp X 8 ↔ x ∈ Q) ∧ (ly_pp X 8).Perm Q := by
  have hm : ∀ x, x ∈ ly_pp X 8 ↔ x ∈ Q := by
    rintro ⟨w, v⟩
    rw [ly_ppE, hQ.2]
  exact ⟨hm, ly_perm _ _ (ly_ndF (ly_ppN (Nat.le_refl 8))) (ly_ndF (ly_QN hQ)) hm⟩
theorem ly_smG (row : Nat) (L : List (Nat × Int32)) : ∀ s : Int32, L.foldl (fun s x => s + (if ly_bb row x.1 = true then x.2 else 0)) s = s + ly_sm row L := by
  unfold ly_sm
  induction L with
  | nil => intro s; exact (Int32.add_zero s).symm
  | cons x r ih =>
    intro s
    show r.foldl _ (s + (if ly_bb row x.1 = true then x.2 else 0)) = s + r.foldl _ (0 + (if ly_bb row x.1 = true then x.2 else 0))
    rw [ih, ih (0 + _), Int32.zero_add, Int32.add_assoc]
theorem ly_smC {row : Nat} {x : Nat × Int32} {r : List (Nat × Int32)} : ly_sm row (x :: r) = (if ly_bb row x.1 = true then x.2 else 0) + ly_sm row r := by
  have := ly_smG row r (0 + (if ly_bb row x.1 = true then x.2 else 0))
  rw [Int32.zero_add] at this
  show r.foldl _ (0 + (if ly_bb row x.1 = true then x.2 else 0)) = _
  rw [Int32.zero_add]
  exact this
theorem ly_smP {row : Nat} {P Q : List (Nat × Int32)} (h : P.Perm Q) : ly_sm row P = ly_sm row Q := by
  induction h with
  | nil => rfl
  | cons x _ ih => rw [ly_smC, ly_smC, ih]
  | swap x y l => rw [ly_smC, ly_smC, ly_smC, ly_smC, ← Int32.add_assoc, ← Int32.add_assoc, Int32.add_comm (if ly_bb row y.1 = true then y.2 else 0)]
  | trans _ _ h1 h2 => exact h1.trans h2
/-! the law's own running answers -/
def ly_lg (w : Nat) (D : List (Nat × Int32)) (x : Int32) : Prop := (x = -2 ∧ ∀ y ∈ D, ¬ ly_bg y.1 w) ∨ (∃ y ∈ D, x = nI y.1 ∧ ly_bg y.1 w ∧ ∀ z ∈ D, ly_bg z.1 w → z.1 ≤ y.1)
def ly_nx (w : Nat) (D : List (Nat × Int32)) (x k : Int32) : Prop := (x = -2 ∧ k = 100000 ∧ ∀ y ∈ D, ly_ky y.1 ≤ ly_ky w) ∨ (∃ y ∈ D, x = nI y.1 ∧ k = nI (ly_ky y.1) ∧ ly_ky w < ly_ky y.1 ∧ ∀ z ∈ D, ly_ky w < ly_ky z.1 → ly_ky y.1 ≤ ly_ky z.1)
theorem ly_lgT {w : Nat} {P Q : List (Nat × Int32)} {x : Int32} (h : ly_lg w P x) (e : ∀ y, y ∈ P ↔ y ∈ Q) : ly_lg w Q x := by
  rcases h with ⟨h1, h2⟩ | ⟨y, h1, h2, h3, h4⟩
  · exact Or.inl ⟨h1, fun y hy => h2 y ((e y).mpr hy)⟩
  · exact Or.inr ⟨y, (e y).mp h1, h2, h3, fun z hz => h4 z ((e z).mpr hz)⟩
theorem ly_nxT {w : Nat} {P Q : List (Nat × Int32)} {x k : Int32} (h : ly_nx w P x k) (e : ∀ y, y ∈ P ↔ y ∈ Q) : ly_nx w Q x k := by
  rcases h with ⟨h1, h2, h3⟩ | ⟨y, h1, h2, h3, h4, h5⟩
  · exact Or.inl ⟨h1, h2, fun y hy => h3 y ((e y).mpr hy)⟩
  · exact Or.inr ⟨y, (e y).mp h1, h2, h3, h4, fun z hz => h5 z ((e z).mpr hz)⟩
theorem ly_wqX {Q : List (Nat × Int32)} {x : Nat × Int32} (hx : x ∈ Q) : ∃ j, j < Q.length ∧ ly_wq Q j = x.1 := by
  obtain ⟨j, hj, e⟩ := List.mem_iff_getElem.mp hx
  refine ⟨j, hj, ?_⟩
  have := ly_wqE hj
  rw [List.getElem?_eq_getElem hj, e] at this
  have h2 := Option.some.inj this
  rw [h2]
theorem ly_rankE {Q : List (Nat × Int32)} {w p : Nat} (hp : p ≤ Q.length) (h1 : ∀ j, j < p → ly_ky (ly_wq Q j) < ly_ky w) (h2 : ∀ j, p ≤ j → j < Q.length → ly_ky w ≤ ly_ky (ly_wq Q j)) : Q.countP (fun x => decide (ly_ky x.1 < ly_ky w)) = p := by
  have hs : Q = Q.take p ++ Q.drop p := (List.take_append_drop p Q).symm
  have e1 : (Q.take p).countP (fun x => decide (ly_ky x.1 < ly_ky w)) = (Q.take p).length := by
    rw [List.countP_eq_length]
    intro x hx
    obtain ⟨i, hi, rfl⟩ := List.mem_iff_getElem.mp hx
    have hi' := hi
    rw [List.length_take] at hi'
    rw [List.getElem_take]
    have := ly_wqE (Q := Q) (j := i) (by omega)
    rw [List.getElem?_eq_getElem (by omega)] at this
    rw [Option.some.inj this]
    exact decide_eq_true (h1 i (by omega))
  have e2 : (Q.drop p).countP (fun x => decide (ly_ky x.1 < ly_ky w)) = 0 := by
    rw [List.countP_eq_zero]
    intro x hx
    obtain ⟨i, hi, rfl⟩ := List.mem_iff_getElem.mp hx
    have hi' := hi
    rw [List.length_drop] at hi'
    rw [List.getElem_drop]
    have := ly_wqE (Q := Q) (j := p + i) (by omega)
    rw [List.getElem?_eq_getElem (by omega)] at this
    rw [Option.some.inj this]
    have h3 := h2 (p + i) (by omega) (by omega)
    intro z
    have := of_decide_eq_true z
    have z' : ly_ky (ly_wq Q (p + i)) < ly_ky w := this
    omega
  rw [hs, List.countP_append, e1, e2, List.length_take]
  omega
theorem ly_pfE {y w : Nat} (h : ly_bg y w) : w / 8 ^ (ly_sz w - ly_sz y) = y := h.2
theorem ly_pfM {w i j : Nat} (h : i ≤ j) (hj : j ≤ ly_sz w) : w / 8 ^ (ly_sz w - i) ≤ w / 8 ^ (ly_sz w - j) := by
  rw [show ly_sz w - i = (ly_sz w - j) + (j - i) by omega, Nat.pow_add, ← Nat.div_div_eq_div_mul]
  exact Nat.div_le_self _ _
section
variable {Q : List (Nat × Int32)} {m : Nat → Option Int32} {w : Nat} {x : Int32}
theorem ly_mem {y : Nat} (hQ : ly_QQ Q m) (h : m y ≠ none) : ∃ v, (y, v) ∈ Q := by
  cases hm : m y with
  | none => exact absurd hm h
  | some v => exact ⟨v, (hQ.2 y v).mpr hm⟩
theorem ly_nmem {y : Nat × Int32} (hQ : ly_QQ Q m) (h : y ∈ Q) : m y.1 ≠ none := by
  rw [(hQ.2 y.1 y.2).mp h]
  exact Option.some_ne_none _
theorem ly_lgA {k : Nat} (hQ : ly_QQ Q m) (hW : ∀ y ∈ Q, ly_W y.1) (hw : ly_W w) (h : ly_lg w Q x) (hk : k ≤ ly_sz w) (hm : m (w / 8 ^ (ly_sz w - k)) ≠ none) (hmax : ∀ j, k < j → j ≤ ly_sz w → m (w / 8 ^ (ly_sz w - j)) = none) : nI (w / 8 ^ (ly_sz w - k)) = x := by
  obtain ⟨v, hv⟩ := ly_mem hQ hm
  have hb : ly_bg (w / 8 ^ (ly_sz w - k)) w := ly_bgP (Or.inr hw) hk
  rcases h with ⟨_, h2⟩ | ⟨y, h1, h2, h3, h4⟩
  · exact absurd hb (h2 _ hv)
  · have g1 := h4 _ hv hb
    have g2 : ly_sz y.1 ≤ k := by
      apply Classical.byContradiction
      intro hlt
      have := hmax (ly_sz y.1) (by omega) h3.1
      rw [ly_pfE h3] at this
      exact ly_nmem hQ h1 this
    have g3 := ly_pfM (w := w) g2 hk
    rw [ly_pfE h3] at g3
    have g1' : w / 8 ^ (ly_sz w - k) ≤ y.1 := g1
    rw [h2, show w / 8 ^ (ly_sz w - k) = y.1 by omega]
theorem ly_lgB (hQ : ly_QQ Q m) (hW : ∀ y ∈ Q, ly_W y.1) (h : ly_lg w Q x) (hn : ∀ j, 1 ≤ j → j ≤ ly_sz w → m (w / 8 ^ (ly_sz w - j)) = none) : (-2 : Int32) = x := by
  rcases h with ⟨h1, _⟩ | ⟨y, h1, h2, h3, h4⟩
  · exact h1.symm
  · have := hn (ly_sz y.1) (ly_W1 (hW y h1)).2.2.1 h3.1
    rw [ly_pfE h3] at this
    exact absurd this (ly_nmem hQ h1)
theorem ly_lgH (hQ : ly_QQ Q m) (hW : ∀ y ∈ Q, ly_W y.1) (hw : ly_W w) (h : ly_lg w Q x) : x = nI w ↔ m w ≠ none := by
  have ⟨w1, w2, _⟩ := ly_W1 hw
  constructor
  · intro e
    rcases h with ⟨h1, _⟩ | ⟨y, h1, h2, h3, h4⟩
    · rw [h1] at e
      have := nI_pos (n := w) (by omega)
      rw [← e] at this
      exact absurd (by decide) this
    · have ⟨y1, y2, _⟩ := ly_W1 (hW y h1)
      rw [h2] at e
      have := (nI_eq (by omega) (by omega)).mp e
      rw [← this]
      exact ly_nmem hQ h1
  · intro hm
    obtain ⟨v, hv⟩ := ly_mem hQ hm
    rcases h with ⟨_, h2⟩ | ⟨y, h1, h2, h3, h4⟩
    · exact absurd (ly_bgR w) (h2 _ hv)
    · have g1 : w ≤ y.1 := h4 _ hv (ly_bgR w)
      have g2 := ly_pfE h3
      have g3 : w / 8 ^ (ly_sz w - ly_sz y.1) ≤ w := Nat.div_le_self _ _
      rw [h2, show y.1 = w by omega]
theorem ly_nxA {k : Int32} {p : Nat} (hQ : ly_QQ Q m) (hW : ∀ y ∈ Q, ly_W y.1) (h : ly_nx w Q x k) (hp : p < Q.length) (h1 : ly_ky w < ly_ky (ly_wq Q p)) (h2 : ∀ j, j < p → ly_ky (ly_wq Q j) ≤ ly_ky w) : nI (ly_wq Q p) = x := by
  have hpm := ly_wqI hp
  rcases h with ⟨_, _, h3⟩ | ⟨y, g1, g2, g3, g4, g5⟩
  · have : ly_ky (ly_wq Q p) ≤ ly_ky w := h3 _ hpm
    omega
  · obtain ⟨j, hj, e⟩ := ly_wqX g1
    have c1 : ly_ky y.1 ≤ ly_ky (ly_wq Q p) := g5 _ hpm h1
    have c2 : p ≤ j := by
      apply Classical.byContradiction
      intro hlt
      have := h2 j (by omega)
      rw [e] at this
      omega
    have c3 : ly_ky (ly_wq Q p) ≤ ly_ky y.1 := by
      by_cases z : p = j
      · rw [z, e]; exact Nat.le_refl _
      · have := ly_wqM hQ (show p < j by omega) hj
        rw [e] at this
        omega
    have hWp : ly_W (ly_wq Q p) := hW _ hpm
    rw [g2, ly_kyI hWp (hW y g1) (by omega)]
theorem ly_nxB {k : Int32} (h : ly_nx w Q x k) (h2 : ∀ j, j < Q.length → ly_ky (ly_wq Q j) ≤ ly_ky w) : (-2 : Int32) = x := by
  rcases h with ⟨h1, _, _⟩ | ⟨y, g1, g2, g3, g4, g5⟩
  · exact h1.symm
  · obtain ⟨j, hj, e⟩ := ly_wqX g1
    have := h2 j hj
    rw [e] at this
    omega
end
end
section
/-! the law behind the eight puts -/
section
variable {post : Int32 → St0 → Prop} {mc ms kc ks : Nat} {t f c l q : Int32} {a1 a2 a3 a4 a5 a6 a7 a8 a9 a10 a11 a12 : Nat → Int32} {N : Nat → List Nat} {Q : List (Nat × Int32)} {m : Nat → Option Int32} {row w : Nat} {U : List Nat}
theorem ly_shI {Q : List (Nat × Int32)} {b9 b10 : Nat → Int32} (h : ly_ls9 Q b9 b10) : ly_shown Q (nI Q.length) 1 b9 b10 := Or.inr ⟨rfl, rfl, h⟩
theorem ly_selectE {post : Int32 → St2 → Prop} {k : Nat} {x : Int32} (hx : x = nI k) (hC : ly_C Q m t a1 a2 a3 a4 a5 a6 N) (hs : ly_shown Q l q a9 a10) (hk : k < 100)
    (H1 : ∀ b8 b9 b10 b11 b12, k < Q.length → ly_ls9 Q b9 b10 → post (nI (ly_wq Q k)) (t, f, c, nI Q.length, 1, a1, a2, a3, a4, a5, a6, a7, b8, b9, b10, b11, b12))
    (H2 : ∀ b8 b9 b10 b11 b12, Q.length ≤ k → ly_ls9 Q b9 b10 → post (-1) (t, f, c, nI Q.length, 1, a1, a2, a3, a4, a5, a6, a7, b8, b9, b10, b11, b12)) :
    wpX_select post (t, f, c, l, q, a1, a2, a3, a4, a5, a6, a7, a8, a9, a10, a11, a12) x := by
  subst hx
  exact ly_select hC hs hk H1 H2
theorem ly_L578 (h1 : post 1 ()) (hC : ly_C Q m t a1 a2 a3 a4 a5 a6 N) (hs : ly_shown Q l q a9 a10) (hau : ly_au U f N) (hc : c = nI Q.length) (hr : ly_R row) : wL_lawOf_578 post mc ms (nI row) (nI Q.length) (nI (Q.countP (fun x => ly_bb row x.1))) kc ks t f c l q a1 a2 a3 a4 a5 a6 a7 a8 a9 a10 a11 a12 := by
  unfold wL_lawOf_578
  have hle : Q.countP (fun x => ly_bb row x.1) ≤ Q.length := List.countP_le_length
  refine ly_clear hC hs hau hc hr (fun t' f' q' b1 b2 b5 b6 b7 b8 b9 b10 b11 b12 N' m' Q' p1 p2 p3 => br_t rfl ?_)
  refine br_t (pk_sub hle).symm ?_
  refine ly_count p1 p2 hr (fun c8 c9 c10 c11 c12 h9 => br_t ?_ h1)
  rw [p3]
  rfl
theorem ly_L546 {x : Int32} (h1 : post 1 ()) (hC : ly_C Q m t a1 a2 a3 a4 a5 a6 N) (hs : ly_shown Q l q a9 a10) (hau : ly_au U f N) (hc : c = nI Q.length) (hr : ly_R row) (hx : ly_cm row Q x) :
    (x = (-2) → wL_lawOf_546 post mc ms (nI row) (nI Q.length) (nI (Q.countP (fun x => ly_bb row x.1))) x 1 kc ks t f c l q a1 a2 a3 a4 a5 a6 a7 a8 a9 a10 a11 a12) ∧ (¬ x = (-2) → wL_lawOf_546 post mc ms (nI row) (nI Q.length) (nI (Q.countP (fun x => ly_bb row x.1))) x 0 kc ks t f c l q a1 a2 a3 a4 a5 a6 a7 a8 a9 a10 a11 a12) := by
  have h8 := hC.2.2.2.2
  have hle : Q.countP (fun x => ly_bb row x.1) ≤ Q.length := List.countP_le_length
  have fin := ly_L578 (mc := mc) (ms := ms) (kc := kc) (ks := ks) (a7 := a7) (a8 := a8) (a11 := a11) (a12 := a12) h1 hC hs hau hc hr
  rcases hx with ⟨e, hn⟩ | ⟨r, e, r1, r2, ⟨y, hy, hyb⟩, r4⟩
  · have hz : Q.countP (fun x => ly_bb row x.1) = 0 := by
      rw [List.countP_eq_zero]
      intro y hy hb
      exact hn y hy (ly_bbI.mp hb)
    refine br_t e ?_
    refine pk_eq (Q.countP (fun x => ly_bb row x.1)) 0 (fun _ => ?_) (fun z => absurd hz z)
    refine br_t rfl (pk_le (Q.countP (fun x => ly_bb row x.1)) 0 (fun _ => fin) (fun z => absurd z (by omega)))
  · have ⟨v1, v2, _⟩ := ly_R1 r1
    have hpos : 0 < Q.countP (fun x => ly_bb row x.1) := List.countP_pos_iff.mpr ⟨y, hy, ly_bbI.mpr hyb⟩
    have hne : ¬ x = (-2) := by
      rw [e]
      intro z
      have := nI_pos (n := r) (by omega)
      rw [z] at this
      exact this (by decide)
    refine br_f hne ?_
    refine pk_eq (Q.countP (fun x => ly_bb row x.1)) 0 (fun z => absurd z (by omega)) (fun _ => ?_)
    refine br_t rfl (pk_le (Q.countP (fun x => ly_bb row x.1)) 0 (fun z => absurd z (by omega)) (fun _ => ?_))
    rw [e]
    have heq : Q.countP (fun x => ly_bb r x.1) = Q.countP (fun x => ly_bb row x.1) := by
      refine List.countP_congr (fun z hz => ?_)
      rw [ly_bbI, ly_bbI]
      exact ⟨fun h => ly_bgT r2 h, fun h => r4 z hz h⟩
    refine ly_count hC hs r1 (fun b8 b9 b10 b11 b12 h9 => br_t (by rw [heq]) ?_)
    exact ly_L578 h1 hC (ly_shI h9) hau hc hr
theorem ly_L406 (h1 : post 1 ()) (hC : ly_C Q m t a1 a2 a3 a4 a5 a6 N) (hau : ly_au U f N) (hc : c = nI Q.length) (hr : ly_R row) :
    ∀ d k x15 l q a8 a9 a10 a11 a12, k + d = 8 → ly_shown Q l q a9 a10 → ((k = 0 ∧ x15 = -1) ∨ (0 < k ∧ k ≤ Q.length ∧ x15 = nI (ly_ky (ly_wq Q (k - 1)))) ∨ Q.length < k) → wL_lawOf_406 post mc ms (nI row) (nI Q.length) (nI (Q.countP (fun x => ly_bb row x.1))) kc ks (d + 1) x15 (nI k) t f c l q a1 a2 a3 a4 a5 a6 a7 a8 a9 a10 a11 a12 := by
  have h8 := hC.2.2.2.2
  have hQ := ly_CQ hC
  intro d
  induction d with
  | zero =>
    intro k x15 l q a8 a9 a10 a11 a12 hk hs hx
    refine pk_le 8 k (fun _ => ?_) (fun z => absurd z (by omega))
    exact ly_common hC hs hr (fun x b8 b9 b10 b11 b12 hcm h9 => ly_L546 h1 hC (ly_shI h9) hau hc hr hcm)
  | succ d ih =>
    intro k x15 l q a8 a9 a10 a11 a12 hk hs hx
    refine pk_le 8 k (fun z => absurd z (by omega)) (fun _ => ?_)
    refine ly_select hC hs (by omega) (fun b8 b9 b10 b11 b12 hlt h9 => ?_) (fun b8 b9 b10 b11 b12 hge h9 => ?_)
    · have hw := ly_CWq hC hlt
      have ⟨w1, w2, _⟩ := ly_W1 hw
      have ⟨y1, y2⟩ := ly_kyB hw
      have next : ∀ l q c8 c9 c10 c11 c12, ly_shown Q l q c9 c10 → wL_lawOf_406 post mc ms (nI row) (nI Q.length) (nI (Q.countP (fun x => ly_bb row x.1))) kc ks (d + 1) (nI (ly_ky (ly_wq Q k))) (nI (k + 1)) t f c l q a1 a2 a3 a4 a5 a6 a7 c8 c9 c10 c11 c12 := by
        intro l q c8 c9 c10 c11 c12 h
        refine ih (k + 1) _ l q c8 c9 c10 c11 c12 (by omega) h (Or.inr (Or.inl ⟨by omega, by omega, ?_⟩))
        rw [show k + 1 - 1 = k by omega]
      refine br_t (nI_pos' (by omega)) ?_
      refine pk_lt k Q.length (fun _ => ?_) (fun z => absurd z (by omega))
      refine br_t rfl (br_t (nI_pos' (by omega)) (ly_key hw ?_))
      refine pk_le (ly_wq Q k) 0 (fun z => absurd z (by omega)) (fun _ => br_t ?_ ?_)
      · rcases hx with ⟨_, e⟩ | ⟨k1, k2, e⟩ | z
        · rw [e]
          exact Int32.not_le.mp (fun z => absurd (Int32.le_trans (nI_pos' (n := ly_ky (ly_wq Q k)) (by omega)) z) (by decide))
        · rw [e]
          have := ly_wqM hQ (show k - 1 < k by omega) hlt
          exact nI_lt this (by omega)
        · omega
      · refine pk_le (ly_wq Q k) 0 (fun z => absurd z (by omega)) (fun _ => ?_)
        refine ly_previous hC (ly_shI h9) hlt (fun c8 c9 c10 c11 c12 hk0 h9' => ?_) (fun c8 c9 c10 c11 c12 hk0 h9' => ?_)
        · refine pk_eq k 0 (fun z => absurd z hk0) (fun _ => ?_)
          refine ly_selectE (pk_sub (a := k) (b := 1) (by omega)) hC (ly_shI h9') (by omega) (fun e8 e9 e10 e11 e12 hlt' h9'' => ?_) (fun e8 e9 e10 e11 e12 hge' h9'' => absurd hge' (by omega))
          exact br_t rfl (nm_r (nI_1 k) (next _ _ _ _ _ _ _ (ly_shI h9'')))
        · refine pk_eq k 0 (fun _ => ?_) (fun z => absurd hk0 z)
          exact br_t rfl (nm_r (nI_1 k) (next _ _ _ _ _ _ _ (ly_shI h9')))
    · refine br_f (by decide) ?_
      refine pk_lt k Q.length (fun z => absurd z (by omega)) (fun _ => ?_)
      refine br_t rfl (br_f (by decide) (br_t (by decide) (br_t (by decide) (nm_r (nI_1 k) ?_))))
      exact ih (k + 1) _ _ _ _ _ _ _ _ (by omega) (ly_shI h9) (Or.inr (Or.inr (by omega)))
theorem ly_Lend {x0 x1 x12 x13 x14 : Int32} {n : Nat} (h1 : post 1 ()) (hC : ly_C Q m t a1 a2 a3 a4 a5 a6 N) (hs : ly_shown Q l q a9 a10) (hau : ly_au U f N) (hc : c = nI Q.length) (hr : ly_R row) (hw : ly_W w) (hlg : ly_lg w Q x12) (hnx : ly_nx w Q x13 x14) :
    wL_lawOf_71 post mc ms x0 x1 (nI row) (nI w) (nI (ly_ky w)) kc ks (n + 1) (nI Q.length) (nI (Q.countP (fun x => decide (ly_ky x.1 < ly_ky w)))) (nI (Q.countP (fun x => ly_bb row x.1))) (ly_sm row Q) x12 x13 x14 (nI 8) t f c l q a1 a2 a3 a4 a5 a6 a7 a8 a9 a10 a11 a12 := by
  have hQ := ly_CQ hC
  have hW : ∀ y ∈ Q, ly_W y.1 := fun y hy => ly_CW hC hy
  refine pk_le 8 8 (fun _ => ?_) (fun z => absurd z (by omega))
  refine br_t hc ?_
  refine ly_rank hC hs hw (fun p b8 b9 b10 b11 b12 p1 p2 p3 h9 => br_t (by rw [ly_rankE p1 p2 p3]) ?_)
  refine ly_count hC (ly_shI h9) hr (fun b8 b9 b10 b11 b12 h9 => br_t rfl ?_)
  refine ly_sum hC (ly_shI h9) hr (fun b8 b9 b10 b11 b12 h9 => br_t rfl ?_)
  have rest : wpX_next (fun r_188 u => match u with | (fm0_top_189, fm0_freeCount_190, fm0_count_191, fm0_listed_192, fm0_current_193, am3681_196, am3682_199, am3683_202, am3684_205, am3685_208, am3686_211, am3687_214, am3688_217, am3689_220, am36810_223, am36811_226, am36812_229) => (((r_188 = x13 → (wpX_has (fun r_231 => (((x12 = (nI w) → (wL_lawOf_395 post mc ms (nI row) (nI Q.length) (nI (Q.countP (fun x => ly_bb row x.1))) 1 r_231 kc ks fm0_top_189 fm0_freeCount_190 fm0_count_191 fm0_listed_192 fm0_current_193 am3681_196 am3682_199 am3683_202 am3684_205 am3685_208 am3686_211 am3687_214 am3688_217 am3689_220 am36810_223 am36811_226 am36812_229)) ∧ (¬ x12 = (nI w) → (wL_lawOf_395 post mc ms (nI row) (nI Q.length) (nI (Q.countP (fun x => ly_bb row x.1))) 0 r_231 kc ks fm0_top_189 fm0_freeCount_190 fm0_count_191 fm0_listed_192 fm0_current_193 am3681_196 am3682_199 am3683_202 am3684_205 am3685_208 am3686_211 am3687_214 am3688_217 am3689_220 am36810_223 am36811_226 am36812_229))))) (fm0_top_189, fm0_freeCount_190, fm0_count_191, fm0_listed_192, fm0_current_193, am3681_196, am3682_199, am3683_202, am3684_205, am3685_208, am3686_211, am3687_214, am3688_217, am3689_220, am36810_223, am36811_226, am36812_229) (nI w))) ∧ (¬ r_188 = x13 → (post 0 ()))))) (t, f, c, nI Q.length, 1, a1, a2, a3, a4, a5, a6, a7, b8, b9, b10, b11, b12) (nI w) := by
    have tail : ∀ c8 c9 c10 c11 c12, ly_ls9 Q c9 c10 → wpX_has (fun r_231 => (((x12 = (nI w) → (wL_lawOf_395 post mc ms (nI row) (nI Q.length) (nI (Q.countP (fun x => ly_bb row x.1))) 1 r_231 kc ks t f c (nI Q.length) 1 a1 a2 a3 a4 a5 a6 a7 c8 c9 c10 c11 c12)) ∧ (¬ x12 = (nI w) → (wL_lawOf_395 post mc ms (nI row) (nI Q.length) (nI (Q.countP (fun x => ly_bb row x.1))) 0 r_231 kc ks t f c (nI Q.length) 1 a1 a2 a3 a4 a5 a6 a7 c8 c9 c10 c11 c12))))) (t, f, c, nI Q.length, 1, a1, a2, a3, a4, a5, a6, a7, c8, c9, c10, c11, c12) (nI w) := by
      intro c8 c9 c10 c11 c12 h9
      have go := ly_L406 (mc := mc) (ms := ms) (kc := kc) (ks := ks) (a7 := a7) h1 hC hau hc hr 8 0 (-1) (nI Q.length) 1 c8 c9 c10 c11 c12 (by omega) (ly_shI h9) (Or.inl ⟨rfl, rfl⟩)
      refine ly_has hC hw (fun hm => ?_) (fun hm => ?_)
      · refine br_t ((ly_lgH hQ hW hw hlg).mpr hm) (br_t rfl ⟨9, go⟩)
      · refine br_f (fun z => (ly_lgH hQ hW hw hlg).mp z hm) (br_t rfl ⟨9, go⟩)
    refine ly_next hC (ly_shI h9) hw (fun p c8 c9 c10 c11 c12 p1 p2 p3 h9' => br_t (ly_nxA hQ hW hnx p1 p2 p3) (tail c8 c9 c10 c11 c12 h9')) (fun c8 c9 c10 c11 c12 p1 h9' => br_t (ly_nxB hnx p1) (tail c8 c9 c10 c11 c12 h9'))
  exact ly_longest hC hw (fun k k1 k2 k3 k4 => br_t (ly_lgA hQ hW hw hlg k2 k3 k4) rest) (fun k1 => br_t (ly_lgB hQ hW hlg k1) rest)
end
end
section
/-! the law's loop over the eight words -/
section
variable {post : Int32 → St0 → Prop} {mc ms kc ks : Nat} {t f c l q : Int32} {a1 a2 a3 a4 a5 a6 a7 a8 a9 a10 a11 a12 : Nat → Int32} {J : Int32 → Int32 → Int32 → Int32 → Int32 → Int32 → Int32 → Int32 → Int32 → Int32 → Int32 → Int32 → Int32 → (Nat → Int32) → (Nat → Int32) → (Nat → Int32) → (Nat → Int32) → (Nat → Int32) → (Nat → Int32) → (Nat → Int32) → (Nat → Int32) → (Nat → Int32) → (Nat → Int32) → (Nat → Int32) → (Nat → Int32) → Prop} {x0 x1 x8 x9 x10 x11 x12 x13 x14 : Int32} {row w x i : Nat} {y : Nat × Int32} {D : List (Nat × Int32)}
theorem ly_L277 (hw : ly_W w) (hx : ly_W x) (hy : y.1 = x) (hDW : ∀ z ∈ D, ly_W z.1) (hlg : ly_lg w D x12) (K : ∀ x12', ly_lg w (D ++ [y]) x12' → J x8 x9 x10 x11 x12' x13 x14 (nI (i + 1)) t f c l q a1 a2 a3 a4 a5 a6 a7 a8 a9 a10 a11 a12) : wL_lawOf_277 post mc ms J x0 x1 (nI row) (nI w) (nI (ly_ky w)) x8 x9 x10 x11 x12 x13 x14 (nI i) (nI x) kc ks t f c l q a1 a2 a3 a4 a5 a6 a7 a8 a9 a10 a11 a12 := by
  have ⟨w1, w2, _⟩ := ly_W1 hx
  have memy : y ∈ D ++ [y] := List.mem_append_right _ List.mem_cons_self
  unfold wL_lawOf_277
  refine ly_Lbegins (Or.inr hx) hw (fun g => br_f (by decide) ?_) (fun g => br_t rfl (nm_r (nI_1 i) (K x12 ?_)))
  · rcases hlg with ⟨e, h2⟩ | ⟨z, z1, z2, z3, z4⟩
    · refine br_f ?_ (nm_r (nI_1 i) (K (nI x) (Or.inr ⟨y, memy, by rw [hy], by rw [hy]; exact g, fun v hv hb => ?_⟩)))
      · rw [e]
        intro z
        exact absurd (Int32.le_trans (nI_pos' (n := x) (by omega)) z) (by decide)
      · rcases List.mem_append.mp hv with h | h
        · exact absurd hb (h2 v h)
        · rw [List.mem_singleton.mp h]
          exact Nat.le_refl _
    · have ⟨v1, v2, _⟩ := ly_W1 (hDW z z1)
      rw [z2]
      refine pk_le x z.1 (fun h => nm_r (nI_1 i) (K (nI z.1) (Or.inr ⟨z, List.mem_append_left _ z1, rfl, z3, fun v hv hb => ?_⟩))) (fun h => nm_r (nI_1 i) (K (nI x) (Or.inr ⟨y, memy, by rw [hy], by rw [hy]; exact g, fun v hv hb => ?_⟩)))
      · rcases List.mem_append.mp hv with h' | h'
        · exact z4 v h' hb
        · rw [List.mem_singleton.mp h', hy]
          exact h
      · rcases List.mem_append.mp hv with h' | h'
        · have := z4 v h' hb
          rw [hy]
          omega
        · rw [List.mem_singleton.mp h']
          exact Nat.le_refl _
  · rcases hlg with ⟨e, h2⟩ | ⟨z, z1, z2, z3, z4⟩
    · refine Or.inl ⟨e, fun v hv => ?_⟩
      rcases List.mem_append.mp hv with h | h
      · exact h2 v h
      · rw [List.mem_singleton.mp h, hy]
        exact g
    · refine Or.inr ⟨z, List.mem_append_left _ z1, z2, z3, fun v hv hb => ?_⟩
      rcases List.mem_append.mp hv with h | h
      · exact z4 v h hb
      · rw [List.mem_singleton.mp h, hy] at hb
        exact absurd hb g
theorem ly_L255 (hr : ly_R row) (hw : ly_W w) (hx : ly_W x) (hy : y = (x, nI (10 * i + 1))) (hDW : ∀ z ∈ D, ly_W z.1) (hlg : ly_lg w D x12) (K : ∀ x12', ly_lg w (D ++ [y]) x12' → J x8 x9 x10 (ly_sm row (D ++ [y])) x12' x13 x14 (nI (i + 1)) t f c l q a1 a2 a3 a4 a5 a6 a7 a8 a9 a10 a11 a12) : wL_lawOf_255 post mc ms J x0 x1 (nI row) (nI w) (nI (ly_ky w)) x8 x9 x10 (ly_sm row D) x12 x13 x14 (nI i) (nI x) kc ks t f c l q a1 a2 a3 a4 a5 a6 a7 a8 a9 a10 a11 a12 := by
  have hy1 : y.1 = x := by rw [hy]
  have hy2 : y.2 = nI (10 * i + 1) := by rw [hy]
  have e10 : 10 * nI i + 1 = nI (10 * i + 1) := by
    rw [show (10 : Int32) * nI i = nI (10 * i) from pk_mul 10 i, nI_1]
  rw [ly_smA] at K
  unfold wL_lawOf_255
  refine ly_Lbegins hr hx (fun g => br_f (by decide) (nm_r (e' := ly_sm row D + y.2) (by rw [hy2, e10]) ?_)) (fun g => br_t rfl ?_)
  · rw [if_pos (ly_bbI.mpr (by rw [hy1]; exact g))] at K
    exact ly_L277 hw hx hy1 hDW hlg K
  · rw [if_neg (by rw [ly_bbN (by rw [hy1]; exact g)]; decide), Int32.add_zero] at K
    exact ly_L277 hw hx hy1 hDW hlg K
theorem ly_L242 (hr : ly_R row) (hw : ly_W w) (hx : ly_W x) (hy : y = (x, nI (10 * i + 1))) (hDW : ∀ z ∈ D, ly_W z.1) (hlg : ly_lg w D x12) (K : ∀ x12', ly_lg w (D ++ [y]) x12' → J x8 x9 (nI ((D ++ [y]).countP (fun x => ly_bb row x.1))) (ly_sm row (D ++ [y])) x12' x13 x14 (nI (i + 1)) t f c l q a1 a2 a3 a4 a5 a6 a7 a8 a9 a10 a11 a12) : wL_lawOf_242 post mc ms J x0 x1 (nI row) (nI w) (nI (ly_ky w)) x8 x9 (nI (D.countP (fun x => ly_bb row x.1))) (ly_sm row D) x12 x13 x14 (nI i) (nI x) kc ks t f c l q a1 a2 a3 a4 a5 a6 a7 a8 a9 a10 a11 a12 := by
  have hy1 : y.1 = x := by rw [hy]
  rw [List.countP_append, List.countP_singleton] at K
  unfold wL_lawOf_242
  refine ly_Lbegins hr hx (fun g => br_f (by decide) (nm_r (nI_1 _) ?_)) (fun g => br_t rfl ?_)
  · rw [if_pos (ly_bbI.mpr (by rw [hy1]; exact g))] at K
    exact ly_L255 hr hw hx hy hDW hlg K
  · rw [if_neg (by rw [ly_bbN (by rw [hy1]; exact g)]; decide)] at K
    exact ly_L255 hr hw hx hy hDW hlg K
theorem ly_L206 (hr : ly_R row) (hw : ly_W w) (hx : ly_W x) (hy : y = (x, nI (10 * i + 1))) (hDW : ∀ z ∈ D, ly_W z.1) (hlg : ly_lg w D x12) (hnx : ly_nx w D x13 x14) (K : ∀ x12' x13' x14', ly_lg w (D ++ [y]) x12' → ly_nx w (D ++ [y]) x13' x14' → J x8 x9 (nI ((D ++ [y]).countP (fun x => ly_bb row x.1))) (ly_sm row (D ++ [y])) x12' x13' x14' (nI (i + 1)) t f c l q a1 a2 a3 a4 a5 a6 a7 a8 a9 a10 a11 a12) : wL_lawOf_206 post mc ms J x0 x1 (nI row) (nI w) (nI (ly_ky w)) x8 x9 (nI (D.countP (fun x => ly_bb row x.1))) (ly_sm row D) x12 x13 x14 (nI i) (nI x) (nI (ly_ky x)) kc ks t f c l q a1 a2 a3 a4 a5 a6 a7 a8 a9 a10 a11 a12 := by
  have hy1 : y.1 = x := by rw [hy]
  have memy : y ∈ D ++ [y] := List.mem_append_right _ List.mem_cons_self
  have ⟨b1, b2⟩ := ly_kyB hw
  have ⟨b3, b4⟩ := ly_kyB hx
  have go : ∀ x13' x14', ly_nx w (D ++ [y]) x13' x14' → wL_lawOf_242 post mc ms J x0 x1 (nI row) (nI w) (nI (ly_ky w)) x8 x9 (nI (D.countP (fun x => ly_bb row x.1))) (ly_sm row D) x12 x13' x14' (nI i) (nI x) kc ks t f c l q a1 a2 a3 a4 a5 a6 a7 a8 a9 a10 a11 a12 :=
    fun x13' x14' h => ly_L242 hr hw hx hy hDW hlg (fun x12' h' => K x12' x13' x14' h' h)
  by_cases h : ly_ky x ≤ ly_ky w
  · have same : ly_nx w (D ++ [y]) x13 x14 := by
      rcases hnx with ⟨e1, e2, e3⟩ | ⟨z, z1, z2, z3, z4, z5⟩
      · refine Or.inl ⟨e1, e2, fun v hv => ?_⟩
        rcases List.mem_append.mp hv with g | g
        · exact e3 v g
        · rw [List.mem_singleton.mp g, hy1]
          exact h
      · refine Or.inr ⟨z, List.mem_append_left _ z1, z2, z3, z4, fun v hv hb => ?_⟩
        rcases List.mem_append.mp hv with g | g
        · exact z5 v g hb
        · rw [List.mem_singleton.mp g, hy1] at hb
          omega
    exact br_t (nI_le h (by omega)) (br_t (nI_le h (by omega)) (go _ _ same))
  · have hk : ∃ kk, x14 = nI kk ∧ kk ≤ 100000 ∧ ((kk ≤ ly_ky x → ly_nx w (D ++ [y]) x13 x14) ∧ (ly_ky x < kk → ly_nx w (D ++ [y]) (nI x) (nI (ly_ky x)))) := by
      rcases hnx with ⟨e1, e2, e3⟩ | ⟨z, z1, z2, z3, z4, z5⟩
      · refine ⟨100000, e2, Nat.le_refl _, fun z => absurd z (by omega), fun _ => Or.inr ⟨y, memy, by rw [hy1], by rw [hy1], by rw [hy1]; omega, fun v hv hb => ?_⟩⟩
        rcases List.mem_append.mp hv with g | g
        · have := e3 v g
          omega
        · rw [List.mem_singleton.mp g]
          exact Nat.le_refl _
      · have ⟨c1, c2⟩ := ly_kyB (hDW z z1)
        refine ⟨ly_ky z.1, z3, by omega, fun hle => Or.inr ⟨z, List.mem_append_left _ z1, z2, z3, z4, fun v hv hb => ?_⟩, fun hlt => Or.inr ⟨y, memy, by rw [hy1], by rw [hy1], by rw [hy1]; omega, fun v hv hb => ?_⟩⟩
        · rcases List.mem_append.mp hv with g | g
          · exact z5 v g hb
          · rw [List.mem_singleton.mp g, hy1]
            exact hle
        · rcases List.mem_append.mp hv with g | g
          · have := z5 v g hb
            rw [hy1]
            omega
          · rw [List.mem_singleton.mp g]
            exact Nat.le_refl _
    obtain ⟨kk, e, k1, k2, k3⟩ := hk
    have nle : ¬ nI (ly_ky x) ≤ nI (ly_ky w) := nI_ge (by omega) (by omega)
    by_cases h2 : kk ≤ ly_ky x
    · have c1 : x14 ≤ nI (ly_ky x) := by rw [e]; exact nI_le h2 (by omega)
      exact br_f nle (br_t c1 (br_f nle (br_t c1 (go _ _ (k2 h2)))))
    · have c1 : ¬ x14 ≤ nI (ly_ky x) := by rw [e]; exact nI_ge (by omega) (by omega)
      exact br_f nle (br_f c1 (br_f nle (br_f c1 (go _ _ (k3 (by omega))))))
theorem ly_L176 {z0 z1 x18 : Int32} (hz : z1 = z0) (h18 : x18 ≠ 0) (hr : ly_R row) (hw : ly_W w) (hx : ly_W x) (hy : y = (x, nI (10 * i + 1))) (hDW : ∀ z ∈ D, ly_W z.1) (hlg : ly_lg w D x12) (hnx : ly_nx w D x13 x14) (K : ∀ x12' x13' x14', ly_lg w (D ++ [y]) x12' → ly_nx w (D ++ [y]) x13' x14' → J (nI (D ++ [y]).length) (nI ((D ++ [y]).countP (fun x => decide (ly_ky x.1 < ly_ky w)))) (nI ((D ++ [y]).countP (fun x => ly_bb row x.1))) (ly_sm row (D ++ [y])) x12' x13' x14' (nI (i + 1)) t f c l q a1 a2 a3 a4 a5 a6 a7 a8 a9 a10 a11 a12) : wL_lawOf_176 post mc ms J x0 x1 (nI row) (nI w) (nI (ly_ky w)) (nI D.length) (nI (D.countP (fun x => decide (ly_ky x.1 < ly_ky w)))) (nI (D.countP (fun x => ly_bb row x.1))) (ly_sm row D) x12 x13 x14 (nI i) (nI x) x18 z0 z1 kc ks t f c l q a1 a2 a3 a4 a5 a6 a7 a8 a9 a10 a11 a12 := by
  have hy1 : y.1 = x := by rw [hy]
  have ⟨b1, b2⟩ := ly_kyB hw
  have ⟨b3, b4⟩ := ly_kyB hx
  have hlen : (D ++ [y]).length = D.length + 1 := by rw [List.length_append]; rfl
  have hcp : (D ++ [y]).countP (fun x => decide (ly_ky x.1 < ly_ky w)) = D.countP (fun x => decide (ly_ky x.1 < ly_ky w)) + (if decide (ly_ky y.1 < ly_ky w) = true then 1 else 0) := by rw [List.countP_append, List.countP_singleton]
  rw [hlen, hcp, hy1] at K
  refine br_t hz (br_f h18 (nm_r (nI_1 _) (ly_key hx ?_)))
  refine pk_le (ly_ky w) (ly_ky x) (fun h => ?_) (fun h => nm_r (nI_1 _) ?_)
  · rw [if_neg (by rw [decide_eq_true_iff]; omega)] at K
    exact ly_L206 hr hw hx hy hDW hlg hnx K
  · rw [if_pos (decide_eq_true h)] at K
    exact ly_L206 hr hw hx hy hDW hlg hnx K
end
section
variable {post : Int32 → St0 → Prop} {mc ms kc ks : Nat} {u v : Int32} {row w : Nat}
def ly_X (u v : Int32) (i : Nat) : Nat := ly_wd (ly_by u v i)
theorem ly_XW (u v : Int32) (i : Nat) : ly_W (ly_X u v i) := ⟨_, ly_byB u v i, rfl⟩
theorem ly_ppW {u v : Int32} {i : Nat} : ∀ z ∈ ly_pp (ly_X u v) i, ly_W z.1 := by
  intro z hz
  obtain ⟨j, j1, j2, rfl⟩ := ly_ppM.mp hz
  exact ly_XW u v j
theorem ly_wordX {P : Int32 → Prop} {i : Nat} (hi : i < 8) (h : P (nI (ly_X u v i))) : wpL_word P () u v (nI i) := ly_word hi h
theorem ly_L96 {J : Int32 → Int32 → Int32 → Int32 → Int32 → Int32 → Int32 → Int32 → Int32 → Int32 → Int32 → Int32 → Int32 → (Nat → Int32) → (Nat → Int32) → (Nat → Int32) → (Nat → Int32) → (Nat → Int32) → (Nat → Int32) → (Nat → Int32) → (Nat → Int32) → (Nat → Int32) → (Nat → Int32) → (Nat → Int32) → (Nat → Int32) → Prop} {t f c l q x8 x9 x10 x11 x12 x13 x14 : Int32} {a1 a2 a3 a4 a5 a6 a7 a8 a9 a10 a11 a12 : Nat → Int32} {i : Nat} (hi : i < 8)
    (H : ∀ x17 x18 n, ((x17 = 1 ∧ ∀ a, a < 8 → a < i → ly_X u v a ≠ ly_X u v i) ∨ (x17 = 0 ∧ ∃ a, a < 8 ∧ a < i ∧ ly_X u v a = ly_X u v i)) → ((x18 = 1 ∧ ∀ a, i < a → a < 8 → ly_X u v a ≠ ly_X u v i) ∨ (x18 = 0 ∧ ∃ a, i < a ∧ a < 8 ∧ ly_X u v a = ly_X u v i)) → wL_lawOf_96 post mc ms J u v (nI row) (nI w) (nI (ly_ky w)) x8 x9 x10 x11 x12 x13 x14 (nI i) (nI (ly_X u v i)) kc ks t f c l q a1 a2 a3 a4 a5 a6 a7 a8 a9 a10 a11 a12 (n + 1) x17 x18 (nI 8)) :
    ∃ n, wL_lawOf_96 post mc ms J u v (nI row) (nI w) (nI (ly_ky w)) x8 x9 x10 x11 x12 x13 x14 (nI i) (nI (ly_X u v i)) kc ks t f c l q a1 a2 a3 a4 a5 a6 a7 a8 a9 a10 a11 a12 n 1 1 (nI 0) := by
  have ⟨wx1, wx2, _⟩ := ly_W1 (ly_XW u v i)
  refine pk_loop (fun n j s => wL_lawOf_96 post mc ms J u v (nI row) (nI w) (nI (ly_ky w)) x8 x9 x10 x11 x12 x13 x14 (nI i) (nI (ly_X u v i)) kc ks t f c l q a1 a2 a3 a4 a5 a6 a7 a8 a9 a10 a11 a12 n s.1 s.2 (nI j)) (fun j s => ((s.1 = 1 ∧ ∀ a, a < j → a < i → ly_X u v a ≠ ly_X u v i) ∨ (s.1 = 0 ∧ ∃ a, a < j ∧ a < i ∧ ly_X u v a = ly_X u v i)) ∧ ((s.2 = 1 ∧ ∀ a, i < a → a < j → ly_X u v a ≠ ly_X u v i) ∨ (s.2 = 0 ∧ ∃ a, i < a ∧ a < j ∧ ly_X u v a = ly_X u v i))) 8 0 ((1 : Int32), (1 : Int32)) (by omega) ⟨Or.inl ⟨rfl, fun a h => absurd h (by omega)⟩, Or.inl ⟨rfl, fun a _ h => absurd h (by omega)⟩⟩ ?_ ?_
  · rintro n ⟨x17, x18⟩ ⟨h17, h18⟩
    exact H x17 x18 n h17 h18
  · rintro n j ⟨x17, x18⟩ hj ⟨h17, h18⟩ hW
    have ⟨wy1, wy2, _⟩ := ly_W1 (ly_XW u v j)
    have go : ∀ y17 y18 : Int32, ((y17 = 1 ∧ ∀ a, a < j + 1 → a < i → ly_X u v a ≠ ly_X u v i) ∨ (y17 = 0 ∧ ∃ a, a < j + 1 ∧ a < i ∧ ly_X u v a = ly_X u v i)) → ((y18 = 1 ∧ ∀ a, i < a → a < j + 1 → ly_X u v a ≠ ly_X u v i) ∨ (y18 = 0 ∧ ∃ a, i < a ∧ a < j + 1 ∧ ly_X u v a = ly_X u v i)) → wL_lawOf_96 post mc ms J u v (nI row) (nI w) (nI (ly_ky w)) x8 x9 x10 x11 x12 x13 x14 (nI i) (nI (ly_X u v i)) kc ks t f c l q a1 a2 a3 a4 a5 a6 a7 a8 a9 a10 a11 a12 n y17 y18 (nI (j + 1)) := fun y17 y18 g1 g2 => hW (y17, y18) ⟨g1, g2⟩
    have keep17 : (j < i → ly_X u v j ≠ ly_X u v i) → ((x17 = 1 ∧ ∀ a, a < j + 1 → a < i → ly_X u v a ≠ ly_X u v i) ∨ (x17 = 0 ∧ ∃ a, a < j + 1 ∧ a < i ∧ ly_X u v a = ly_X u v i)) := by
      intro hne
      rcases h17 with ⟨e, h⟩ | ⟨e, a, q1, q2, q3⟩
      · refine Or.inl ⟨e, fun a a1 a2 => ?_⟩
        by_cases z : a = j
        · rw [z]; exact hne (by omega)
        · exact h a (by omega) a2
      · exact Or.inr ⟨e, a, by omega, q2, q3⟩
    have keep18 : (i < j → ly_X u v j ≠ ly_X u v i) → ((x18 = 1 ∧ ∀ a, i < a → a < j + 1 → ly_X u v a ≠ ly_X u v i) ∨ (x18 = 0 ∧ ∃ a, i < a ∧ a < j + 1 ∧ ly_X u v a = ly_X u v i)) := by
      intro hne
      rcases h18 with ⟨e, h⟩ | ⟨e, a, q1, q2, q3⟩
      · refine Or.inl ⟨e, fun a a1 a2 => ?_⟩
        by_cases z : a = j
        · rw [z]; exact hne (by omega)
        · exact h a a1 (by omega)
      · exact Or.inr ⟨e, a, q1, by omega, q3⟩
    refine pk_le 8 j (fun z => absurd z (by omega)) (fun _ => ly_wordX hj ?_)
    refine pk_eq (ly_X u v j) (ly_X u v i) (fun e => ?_) (fun e => ?_)
    · refine pk_le i j (fun hij => ?_) (fun hij => ?_)
      · refine pk_eq (ly_X u v j) (ly_X u v i) (fun _ => pk_le j i (fun hji => nm_r (nI_1 j) (go x17 x18 (keep17 (fun z => absurd z (by omega))) (keep18 (fun z => absurd z (by omega))))) (fun hji => nm_r (nI_1 j) (go x17 0 (keep17 (fun z => absurd z (by omega))) (Or.inr ⟨rfl, j, hji, by omega, e⟩)))) (fun z => absurd e z)
      · refine pk_eq (ly_X u v j) (ly_X u v i) (fun _ => pk_le j i (fun hji => nm_r (nI_1 j) (go 0 x18 (Or.inr ⟨rfl, j, by omega, hij, e⟩) (keep18 (fun z => absurd z (by omega))))) (fun hji => absurd hji (by omega))) (fun z => absurd e z)
    · exact pk_eq (ly_X u v j) (ly_X u v i) (fun z => absurd z e) (fun _ => nm_r (nI_1 j) (go x17 x18 (keep17 (fun _ => e)) (keep18 (fun _ => e))))
theorem ly_L71 (h1 : post 1 ()) (hr : ly_R row) (hw : ly_W w) :
    ∀ d i x12 x13 x14 g N t f l a1 a2 a3 a4 a5 a6 a7 a8 a9 a10 a11 a12, i + d = 8 → ly_tr t a1 a2 a3 a4 a5 a6 N → ly_al g f a7 N → g ≤ 4 * i → ly_ct a1 a3 a4 a5 N (ly_mm (ly_X u v) i) → ly_lg w (ly_pp (ly_X u v) i) x12 → ly_nx w (ly_pp (ly_X u v) i) x13 x14 →
      wL_lawOf_71 post mc ms u v (nI row) (nI w) (nI (ly_ky w)) kc ks (d + 1) (nI (ly_pp (ly_X u v) i).length) (nI ((ly_pp (ly_X u v) i).countP (fun x => decide (ly_ky x.1 < ly_ky w)))) (nI ((ly_pp (ly_X u v) i).countP (fun x => ly_bb row x.1))) (ly_sm row (ly_pp (ly_X u v) i)) x12 x13 x14 (nI i) t f (nI (ly_fl (ly_X u v) i).length) l 0 a1 a2 a3 a4 a5 a6 a7 a8 a9 a10 a11 a12 := by
  intro d
  induction d with
  | zero =>
    intro i x12 x13 x14 g N t f l a1 a2 a3 a4 a5 a6 a7 a8 a9 a10 a11 a12 hi hT hal hg hct hlg hnx
    have hi8 : i = 8 := by omega
    subst hi8
    have hdom : ∀ x, ly_mm (ly_X u v) 8 x ≠ none → ly_W x := by
      intro x hx
      apply Classical.byContradiction
      intro hn
      refine hx (ly_mmN.mpr (fun j hj e => hn ?_))
      rw [← e]
      exact ly_XW u v j
    have hQ := ly_QT hT hct hdom
    have ⟨hm, hp⟩ := ly_PQ hQ
    have hl : (ly_fl (ly_X u v) 8).length = (ly_q0 a1 a3 a4 a5 N (ly_en a1 (N 0))).length := by rw [ly_flP, hp.length_eq]
    have hl8 := ly_flL (X := ly_X u v) (i := 8)
    rw [hl] at hl8 ⊢
    rw [hp.length_eq, hp.countP_eq, hp.countP_eq, ly_smP hp]
    obtain ⟨l1, l2, l3⟩ := hal
    exact ly_Lend (U := List.range g) h1 ⟨hT, hct, hdom, rfl, hl8⟩ (Or.inl rfl) ⟨by rw [List.length_range]; exact l1, by rw [List.length_range]; omega, fun k b hb => List.mem_range.mpr (l3 k b hb)⟩ rfl hr hw (ly_lgT hlg hm) (ly_nxT hnx hm)
  | succ d ih =>
    intro i x12 x13 x14 g N t f l a1 a2 a3 a4 a5 a6 a7 a8 a9 a10 a11 a12 hi hT hal hg hct hlg hnx
    have hX := ly_XW u v i
    have ⟨wx1, wx2, _⟩ := ly_W1 hX
    have hfl := ly_flL (X := ly_X u v) (i := i)
    refine pk_le 8 i (fun z => absurd z (by omega)) (fun _ => ly_wordX (by omega) ?_)
    refine ly_L96 (by omega) (fun x17 x18 n h17 h18 => ?_)
    · skip
      have h17' : (x17 = 1 ∧ ly_mm (ly_X u v) i (ly_X u v i) = none) ∨ (x17 = 0 ∧ ly_mm (ly_X u v) i (ly_X u v i) ≠ none) := by
        rcases h17 with ⟨e, h⟩ | ⟨e, a, q1, q2, q3⟩
        · exact Or.inl ⟨e, ly_mmN.mpr (fun j hj => h j (by omega) hj)⟩
        · exact Or.inr ⟨e, fun z => ly_mmN.mp z a q2 q3⟩
      have h18' : (x18 = 1 ∧ ly_la (ly_X u v) i = true) ∨ (x18 = 0 ∧ ¬ ly_la (ly_X u v) i = true) := by
        rcases h18 with ⟨e, h⟩ | ⟨e, a, q1, q2, q3⟩
        · exact Or.inl ⟨e, ly_laI.mpr h⟩
        · exact Or.inr ⟨e, fun z => ly_laI.mp z a q1 q2 q3⟩
      have e10 : 10 * nI i + 1 = nI (10 * i + 1) := by
        rw [show (10 : Int32) * nI i = nI (10 * i) from pk_mul 10 i, nI_1]
      have after : ∀ (z0 : Int32) g' N' t' f' b1 b2 b3 b4 b5 b6, g' ≤ g + 4 → ly_tr t' b1 b2 b3 b4 b5 b6 N' → ly_al g' f' a7 N' → ly_ct b1 b3 b4 b5 N' (ly_mu (ly_mm (ly_X u v) i) (ly_X u v i) (some (nI (10 * i + 1)))) → wL_lawOf_176 post mc ms (wL_lawOf_71 post mc ms u v (nI row) (nI w) (nI (ly_ky w)) kc ks (d + 1)) u v (nI row) (nI w) (nI (ly_ky w)) (nI (ly_pp (ly_X u v) i).length) (nI ((ly_pp (ly_X u v) i).countP (fun x => decide (ly_ky x.1 < ly_ky w)))) (nI ((ly_pp (ly_X u v) i).countP (fun x => ly_bb row x.1))) (ly_sm row (ly_pp (ly_X u v) i)) x12 x13 x14 (nI i) (nI (ly_X u v i)) x18 z0 z0 kc ks t' f' (nI (ly_fl (ly_X u v) (i + 1)).length) l 0 b1 b2 b3 b4 b5 b6 a7 a8 a9 a10 a11 a12 := by
        intro z0 g' N' t' f' b1 b2 b3 b4 b5 b6 p1 p2 p3 p4
        have nxt := ih (i + 1)
        rcases h18' with ⟨e, hl⟩ | ⟨e, hl⟩
        · rw [ly_ppS1 hl] at nxt
          refine ly_L176 rfl (by rw [e]; decide) hr hw hX rfl ly_ppW hlg hnx (fun x12' x13' x14' q1 q2 => ?_)
          exact nxt x12' x13' x14' g' N' t' f' l b1 b2 b3 b4 b5 b6 a7 a8 a9 a10 a11 a12 (by omega) p2 p3 (by omega) p4 q1 q2
        · rw [ly_ppS0 hl] at nxt
          refine br_t rfl (br_t e (nm_r (nI_1 i) ?_))
          exact nxt x12 x13 x14 g' N' t' f' l b1 b2 b3 b4 b5 b6 a7 a8 a9 a10 a11 a12 (by omega) p2 p3 (by omega) p4 hlg hnx
      refine pk_le 8 8 (fun _ => ?_) (fun z => absurd z (by omega))
      rw [e10]
      refine ly_put hX hT hal (by omega) hct rfl (by omega) (fun hm g' N' t' b1 b2 b3 b4 b5 b6 p1 p2 p3 p4 => ?_) (fun hm g' N' t' b1 b2 b3 b4 b5 b6 p1 p2 p3 p4 => ?_)
      · rcases h17' with ⟨e, h⟩ | ⟨e, h⟩
        · exact absurd h hm
        · refine br_t e ?_
          have := after 0 g' N' t' (nI (122 - g')) b1 b2 b3 b4 b5 b6 p1 p2 p3 p4
          rw [ly_flS0 hm] at this
          exact this
      · rcases h17' with ⟨e, h⟩ | ⟨e, h⟩
        · refine br_f (by show ¬ x17 = 0; rw [e]; decide) ?_
          have := after 1 g' N' t' (nI (122 - g')) b1 b2 b3 b4 b5 b6 p1 p2 p3 p4
          rw [ly_flS1 hm, List.length_append] at this
          exact this
        · exact absurd hm h
end
end
section
/-! the maker, and the law from its first row -/
theorem ly_tr0 : ly_tr (-1) (fun _ => 0) (fun _ => 0) (fun _ => 0) (fun _ => 0) (fun _ => 0) (fun _ => 0) (fun _ => []) := by
  refine ⟨fun e => ⟨rfl, by show (0 : Int32).toNatClampNeg < 81; rw [sb_cl0]; omega, Or.inl rfl⟩, rfl, fun k => ⟨⟨trivial, fun b hb => absurd hb List.not_mem_nil, fun b hb => absurd hb List.not_mem_nil, List.nodup_nil, List.Pairwise.nil⟩, fun b hb => absurd hb List.not_mem_nil⟩, fun k k' b hb => absurd hb List.not_mem_nil, fun e he => absurd he List.not_mem_nil, fun k hk hne => absurd rfl hne, fun k hk e he => absurd he List.not_mem_nil⟩
theorem ly_ct0 {X : Nat → Nat} : ly_ct (fun _ => 0) (fun _ => 0) (fun _ => 0) (fun _ => 0) (fun _ => []) (ly_mm X 0) := by
  intro k s v
  constructor
  · rintro ⟨e, he, _⟩
    exact absurd he List.not_mem_nil
  · rintro ⟨w, _, _, _, h⟩
    exact absurd (show (none : Option Int32) = some v from h).symm (Option.some_ne_none v)
theorem ly_init {post : St2 → Prop} (H : ∀ a7, (∀ j, j < 122 → a7 j = nI (121 - j)) → post (-1, 122, 0, 0, 0, (fun _ => 0), (fun _ => 0), (fun _ => 0), (fun _ => 0), (fun _ => 0), (fun _ => 0), a7, (fun _ => 0), (fun _ => 0), (fun _ => 0), (fun _ => 0), (fun _ => 0))) : wpX_init post 12 2407 (0, 0, 0, 0, 0) := by
  refine ⟨by omega, by omega, by omega, by omega, by omega, by omega, by omega, by omega, by omega, by omega, by omega, by omega, by omega, by omega, by omega, by omega, by omega, by omega, by omega, by omega, by omega, by omega, by omega, by omega, ?_⟩
  refine pk_loop (fun n i s => wX_init_108 post 12 2407 12 2407 (-1) 0 0 0 0 n (nI i) (fun _ => 0) (fun _ => 0) (fun _ => 0) (fun _ => 0) (fun _ => 0) (fun _ => 0) s (fun _ => 0) (fun _ => 0) (fun _ => 0) (fun _ => 0) (fun _ => 0)) (fun i s => ∀ j, j < i → s j = nI (121 - j)) 122 0 (fun _ => 0) (by omega) (fun j hj => absurd hj (by omega)) ?_ ?_
  · intro n s hs
    exact pk_le 122 122 (fun _ => H s hs) (fun z => absurd z (by omega))
  · intro n i s hi hs hw
    refine pk_le 122 i (fun z => absurd z (by omega)) (fun _ => ⟨pk_in i 122 hi, nm_r (e' := upd s i (nI (121 - i))) ?_ (nm_r (nI_1 i) (hw _ (fun j hj => ?_)))⟩)
    · rw [nI_clamp (by omega), show (121 : Int32) - nI i = nI (121 - i) from pk_sub (a := 121) (b := i) (by omega)]
    · by_cases e : j = i
      · rw [e]; exact pk_us
      · rw [pk_un e]; exact hs j (by omega)
theorem ly_L27 {post : Int32 → St0 → Prop} {mc ms kc ks row : Nat} {u v x : Int32} {a7 : Nat → Int32} (h1 : post 1 ()) (hr : ly_R row) (h7 : ∀ j, j < 122 → a7 j = nI (121 - j)) : wL_lawOf_27 post mc ms u v x (nI row) kc ks (-1) 122 0 0 0 (fun _ => 0) (fun _ => 0) (fun _ => 0) (fun _ => 0) (fun _ => 0) (fun _ => 0) a7 (fun _ => 0) (fun _ => 0) (fun _ => 0) (fun _ => 0) (fun _ => 0) := by
  unfold wL_lawOf_27
  have hw : ly_W (ly_wd (ly_by x 0 0)) := ⟨_, ly_byB x 0 0, rfl⟩
  refine ly_word (i := 0) (by omega) (ly_key hw ⟨9, ?_⟩)
  exact ly_L71 (u := u) (v := v) h1 hr hw 8 0 (-2) (-2) 100000 0 (fun _ => []) (-1) 122 0 (fun _ => 0) (fun _ => 0) (fun _ => 0) (fun _ => 0) (fun _ => 0) (fun _ => 0) a7 (fun _ => 0) (fun _ => 0) (fun _ => 0) (fun _ => 0) (fun _ => 0) (by omega) ly_tr0 ⟨rfl, h7, fun k b hb => absurd hb List.not_mem_nil⟩ (by omega) ly_ct0 (Or.inl ⟨rfl, fun y hy => absurd hy List.not_mem_nil⟩) (Or.inl ⟨rfl, rfl, fun y hy => absurd hy List.not_mem_nil⟩)
theorem ly_lawOf {post : Int32 → St0 → Prop} {u v x z : Int32} (h1 : post 1 ()) : wpL_lawOf post 13 2424 () u v x z := by
  refine ⟨by omega, by omega, 12, 2407, by omega, by omega, ly_init (fun a7 h7 => br_c (fun _ => ly_L27 (row := 1) h1 (Or.inl rfl) h7) (fun _ => ly_word (i := 0) (by omega) (ly_L27 h1 (Or.inr ⟨_, ly_byB _ _ _, rfl⟩) h7)))⟩
theorem ly_cell {P : Int32 → Prop} {xs : Nat → Int32} {L k : Nat} (hL : L ≤ 4) (hk : k < 4) (h : ∀ x, P x) : wpL_cellAt P L xs () (nI k) :=
  pk_le L k (fun _ => h 0) (fun z => ⟨pk_in k L z, h _⟩)
theorem i_vc (xs : Nat → Int32) (L : Nat) (hL : L ≤ 4) : wpL_law (fun r => r = 1) L xs := by
  unfold wpL_law
  exact ly_cell (k := 0) hL (by omega) (fun r1 => ly_cell (k := 1) hL (by omega) (fun r2 => ly_cell (k := 2) hL (by omega) (fun r3 => ly_cell (k := 3) hL (by omega) (fun r4 => ⟨13, 2424, by omega, by omega, ly_lawOf rfl⟩))))
end
