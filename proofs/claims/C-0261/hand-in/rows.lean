section
-- rows pasted from kit/rows (starting texts)
theorem pk_us {f : Nat → Int32} {k : Nat} {x : Int32} : upd f k x k = x := if_pos rfl
theorem pk_un {f : Nat → Int32} {k j : Nat} {x : Int32} (h : j ≠ k) : upd f k x j = f j := if_neg h
theorem pk_sub {a b : Nat} (h : b ≤ a) : nI a - nI b = nI (a - b) := by
  obtain ⟨c, rfl⟩ : ∃ c, a = c + b := ⟨a - b, by omega⟩
  rw [← nI_add, Int32.add_sub_cancel, Nat.add_sub_cancel]
theorem pk_m1 (n : Nat) : nI (n + 1) + (-1) = nI n := by
  rw [← nI_1, Int32.add_assoc, show (1 : Int32) + (-1) = 0 from rfl, Int32.add_zero]
theorem pk_mul (a b : Nat) : nI a * nI b = nI (a * b) := (Int32.ofNat_mul a b).symm
theorem pk_div {a d : Nat} (ha : a < 2 ^ 31) (h0 : 0 < d) (hd : d < 2 ^ 31) : nI a / nI d = nI (a / d) := by
  apply Int32.toInt_inj.mp
  rw [lg_idiv_nonneg (by rw [nI_toInt ha]; omega) (by rw [nI_toInt hd]; omega), nI_toInt ha, nI_toInt hd, nI_toInt (Nat.lt_of_le_of_lt (Nat.div_le_self a d) ha)]
  first | rfl | exact (Int.natCast_ediv _ _).symm
theorem pk_rem {a d : Nat} (ha : a < 2 ^ 31) (h0 : 0 < d) (hd : d < 2 ^ 31) : nI a - nI a / nI d * nI d = nI (a % d) := by
  rw [pk_div ha h0 hd, pk_mul, pk_sub (Nat.div_mul_le_self a d)]
  exact congrArg nI (by have := Nat.div_add_mod' a d; omega)
theorem pk_ix (x : Int32) {n : Nat} (hn : n < 2 ^ 31) : x < 0 ∨ nI n ≤ x ∨ ∃ j : Nat, j < n ∧ x = nI j := by
  by_cases h : x < 0
  · exact Or.inl h
  · obtain ⟨j, hj, rfl⟩ := nI_of h
    by_cases h2 : j < n
    · exact Or.inr (Or.inr ⟨j, h2, rfl⟩)
    · exact Or.inr (Or.inl (nI_le (by omega) hj))
theorem pk_le {x y : Int32} {A B : Prop} (a b : Nat) (f : a ≤ b → A) (g : b < a → B) (hx : x = nI a := by rfl) (hy : y = nI b := by rfl) (ha : a < 2 ^ 31 := by omega) (hb : b < 2 ^ 31 := by omega) : (x ≤ y → A) ∧ (¬ x ≤ y → B) := by
  subst hx hy
  rw [nI_leI ha hb]
  exact ⟨f, fun z => g (by omega)⟩
theorem pk_lt {x y : Int32} {A B : Prop} (a b : Nat) (f : a < b → A) (g : b ≤ a → B) (hx : x = nI a := by rfl) (hy : y = nI b := by rfl) (ha : a < 2 ^ 31 := by omega) (hb : b < 2 ^ 31 := by omega) : (x < y → A) ∧ (¬ x < y → B) := by
  subst hx hy
  rw [nI_ltI ha hb]
  exact ⟨f, fun z => g (by omega)⟩
theorem pk_eq {x y : Int32} {A B : Prop} (a b : Nat) (f : a = b → A) (g : a ≠ b → B) (hx : x = nI a := by rfl) (hy : y = nI b := by rfl) (ha : a < 2 ^ 31 := by omega) (hb : b < 2 ^ 31 := by omega) : (x = y → A) ∧ (¬ x = y → B) := by
  subst hx hy
  rw [nI_eq ha hb]
  exact ⟨f, g⟩
theorem pk_in {x : Int32} (n N : Nat) (h : n < N) (hx : x = nI n := by rfl) (hN : N < 2 ^ 31 := by omega) : vp_in x N := by
  subst hx
  exact vp_in_nI h hN
theorem pk_cl {x : Int32} (n : Nat) (hx : x = nI n := by rfl) (h : n < 2 ^ 31 := by omega) : x.toNatClampNeg = n := by
  subst hx
  exact nI_clamp h
theorem pk_tn {n : Nat} (h : n < 2 ^ 32) : (nI n).toBitVec.toNat = n := Nat.mod_eq_of_lt h
theorem pk_and (x : Int32) {m : Int32} (k : Nat) (hm : m.toBitVec.toNat = 2 ^ k - 1) : x &&& m = nI (x.toBitVec.toNat % 2 ^ k) := by
  apply Int32.toBitVec_inj.mp
  apply BitVec.eq_of_toNat_eq
  rw [Int32.toBitVec_and, BitVec.toNat_and, hm, Nat.and_two_pow_sub_one_eq_mod]
  show _ = (BitVec.ofNat 32 _).toNat
  rw [BitVec.toNat_ofNat]
  exact (Nat.mod_eq_of_lt (Nat.lt_of_le_of_lt (Nat.mod_le _ _) x.toBitVec.isLt)).symm
theorem pk_andN {n : Nat} (h : n < 2 ^ 32) {m : Int32} (k : Nat) (hm : m.toBitVec.toNat = 2 ^ k - 1) : nI n &&& m = nI (n % 2 ^ k) := by
  rw [pk_and _ k hm, pk_tn h]
theorem pk_shl (a s : Int32) (k : Nat) (hs : (s.toBitVec.smod 32).toNat = k) : (a <<< s).toBitVec.toNat = a.toBitVec.toNat * 2 ^ k % 2 ^ 32 := by
  show (a.toBitVec <<< (s.toBitVec.smod 32).toNat).toNat = _
  rw [hs, BitVec.toNat_shiftLeft, Nat.shiftLeft_eq]
theorem pk_shlN {n : Nat} (s : Int32) (k : Nat) (hs : (s.toBitVec.smod 32).toNat = k) (h : n * 2 ^ k < 2 ^ 32) : nI n <<< s = nI (n * 2 ^ k) := by
  apply Int32.toBitVec_inj.mp
  apply BitVec.eq_of_toNat_eq
  have hn : n < 2 ^ 32 := Nat.lt_of_le_of_lt (Nat.le_mul_of_pos_right n (Nat.two_pow_pos k)) h
  rw [pk_shl _ _ k hs, pk_tn hn, pk_tn h, Nat.mod_eq_of_lt h]
theorem pk_shr (a s : Int32) (k : Nat) (hs : (s.toBitVec.smod 32).toNat = k) : (a >>> s).toInt = a.toInt >>> k := by
  show (a.toBitVec.sshiftRight (s.toBitVec.smod 32).toNat).toInt = _
  rw [hs, BitVec.toInt_sshiftRight]
  rfl
theorem pk_shrN {n : Nat} (h : n < 2 ^ 31) (s : Int32) (k : Nat) (hs : (s.toBitVec.smod 32).toNat = k) : nI n >>> s = nI (n / 2 ^ k) := by
  apply Int32.toInt_inj.mp
  have h2 : n / 2 ^ k ≤ n := Nat.div_le_self _ _
  rw [pk_shr _ _ k hs, nI_toInt h, nI_toInt (by omega), Int.shiftRight_eq_div_pow]
  rfl
theorem pk_vb (z : Int32) : vp_nar .byte z.toInt8.toInt32 = z.toInt8.toInt32 := by rw [vp_nar_byte]; simp
theorem sb_m1 {p : Nat} (h : 0 < p) : nI p + (-1) = nI (p - 1) := by
  obtain ⟨q, rfl⟩ : ∃ q, p = q + 1 := ⟨p - 1, by omega⟩
  exact pk_m1 q
theorem sb_negT {w : Nat} (h : w < 2 ^ 31) : (-nI w).toInt = -(w : Int) := by
  rw [Int32.toInt_neg, nI_toInt h]
  exact Int.bmod_eq_of_le (by omega) (by omega)
theorem s_l : ∀ n, n < 32 → ((nI n &&& 31).toBitVec.smod 32).toNat = n := by decide +kernel
end
section
-- base: byte narrowing, letters, the fill loop
theorem bk_s1 {a : Nat} (h : 1 ≤ a) : nI a - 1 = nI (a - 1) := pk_sub (b := 1) h
theorem bk_b8 : ∀ n, n < 128 → (nI n).toInt8.toInt32 = nI n := by decide +kernel
theorem bk_nb {n : Nat} (h : n < 128) : vp_nar .byte (nI n) = nI n := by rw [vp_nar_byte]; exact bk_b8 n h
theorem bk_nbb {n : Nat} (h : n < 128) : vp_nar .byte (nI n).toInt8.toInt32 = nI n := by rw [bk_b8 n h]; exact bk_nb h
theorem bk_n0 : vp_nar .boolean 0 = 0 := rfl
theorem bk_n1 : vp_nar .boolean 1 = 1 := rfl
theorem bk_ix (a k i : Nat) : nI a * nI k + nI i = nI (a * k + i) := by rw [pk_mul, nI_add]
/-- a valid letter of a braid on n strands -/
def bk_L (n : Nat) (x : Int32) : Prop := ∃ p : Nat, 1 ≤ p ∧ p < n ∧ (x = nI p ∨ x = -nI p)
def bk_p (x : Int32) : Nat := if 0 ≤ x then x.toNatClampNeg else (-x).toNatClampNeg
def bk_g (x : Int32) : Int := if 0 ≤ x then 1 else -1
theorem bk_L6 {n : Nat} {x : Int32} (h : bk_L n x) (hn : n ≤ 4) : (0 ≤ x ∧ ¬ x ≤ 0 ∧ x = nI (bk_p x) ∧ bk_g x = 1) ∨ (¬ 0 ≤ x ∧ x ≤ 0 ∧ -x = nI (bk_p x) ∧ bk_g x = -1) := by
  obtain ⟨p, h1, h2, rfl | rfl⟩ := h
  · have : p = 1 ∨ p = 2 ∨ p = 3 := by omega
    rcases this with rfl | rfl | rfl <;> exact Or.inl (by decide)
  · have : p = 1 ∨ p = 2 ∨ p = 3 := by omega
    rcases this with rfl | rfl | rfl <;> exact Or.inr (by decide)
theorem bk_Lp {n : Nat} {x : Int32} (h : bk_L n x) (hn : n ≤ 4) : 1 ≤ bk_p x ∧ bk_p x < n := by
  obtain ⟨p, h1, h2, rfl | rfl⟩ := h
  · have : p = 1 ∨ p = 2 ∨ p = 3 := by omega
    have e : bk_p (nI p) = p := by rcases this with rfl | rfl | rfl <;> decide
    rw [e]; exact ⟨h1, h2⟩
  · have : p = 1 ∨ p = 2 ∨ p = 3 := by omega
    have e : bk_p (-nI p) = p := by rcases this with rfl | rfl | rfl <;> decide
    rw [e]; exact ⟨h1, h2⟩
theorem bk_Lb {n : Nat} {x : Int32} (h : bk_L n x) (hn : n ≤ 4) : vp_nar .byte x = x := by
  rw [vp_nar_byte]
  obtain ⟨p, h1, h2, rfl | rfl⟩ := h
  · have : p = 1 ∨ p = 2 ∨ p = 3 := by omega
    rcases this with rfl | rfl | rfl <;> decide
  · have : p = 1 ∨ p = 2 ∨ p = 3 := by omega
    rcases this with rfl | rfl | rfl <;> decide
theorem bk_Lbb {n : Nat} {x : Int32} (h : bk_L n x) (hn : n ≤ 4) : vp_nar .byte x.toInt8.toInt32 = x := by
  have e := bk_Lb h hn
  rw [pk_vb]
  rw [vp_nar_byte] at e
  exact e
theorem bk_Ln {n : Nat} {x : Int32} (h : bk_L n x) : bk_L n (-x) := by
  obtain ⟨p, h1, h2, rfl | rfl⟩ := h
  · exact ⟨p, h1, h2, Or.inr rfl⟩
  · exact ⟨p, h1, h2, Or.inl Int32.neg_neg⟩
theorem bk_Lr {n : Nat} {x : Int32} (h : bk_L n x) (hn : n ≤ 4) : ¬ x = 0 ∧ ¬ nI n ≤ x ∧ -nI n < x ∧ ¬ x ≤ -nI n ∧ x < nI n := by
  have hT : (nI n).toInt = (n : Int) := nI_toInt (by omega)
  have hN : (-nI n).toInt = -(n : Int) := sb_negT (by omega)
  have h0 : (0 : Int32).toInt = 0 := by decide
  obtain ⟨p, h1, h2, hx⟩ := h
  have hx2 : x.toInt = p ∨ x.toInt = -(p : Int) := by
    rcases hx with rfl | rfl
    · exact Or.inl (nI_toInt (by omega))
    · exact Or.inr (sb_negT (by omega))
  refine ⟨?_, ?_, ?_, ?_, ?_⟩
  · intro e
    rw [e, h0] at hx2
    omega
  · rw [Int32.le_iff_toInt_le, hT]; omega
  · rw [Int32.lt_iff_toInt_lt, hN]; omega
  · rw [Int32.le_iff_toInt_le, hN]; omega
  · rw [Int32.lt_iff_toInt_lt, hT]; omega
theorem bk_Lof {n : Nat} {x : Int32} (hn : n ≤ 4) (h0 : ¬ x = 0) (h1 : ¬ nI n ≤ x) (h2 : -nI n < x) : bk_L n x := by
  have hT : (nI n).toInt = (n : Int) := nI_toInt (by omega)
  have hN : (-nI n).toInt = -(n : Int) := sb_negT (by omega)
  rw [Int32.le_iff_toInt_le, hT] at h1
  rw [Int32.lt_iff_toInt_lt, hN] at h2
  have h3 : x.toInt ≠ 0 := fun e => h0 (Int32.toInt_inj.mp (by rw [e]; decide))
  refine ⟨x.toInt.natAbs, by omega, by omega, ?_⟩
  rcases Int.lt_or_le x.toInt 0 with h | h
  · refine Or.inr (Int32.toInt_inj.mp ?_)
    rw [sb_negT (by omega)]; omega
  · refine Or.inl (Int32.toInt_inj.mp ?_)
    rw [nI_toInt (by omega)]; omega
/-- an array with the cells k .. N - 1 as g -/
def bk_ff (k N : Nat) (g a0 : Nat → Int32) : Nat → Int32 := fun j => if k ≤ j ∧ j < N then g j else a0 j
theorem bk_ff_in {k N : Nat} {g a0 : Nat → Int32} {j : Nat} (h1 : k ≤ j) (h2 : j < N) : bk_ff k N g a0 j = g j := if_pos ⟨h1, h2⟩
theorem bk_ff_out {k N : Nat} {g a0 : Nat → Int32} {j : Nat} (h : N ≤ j ∨ j < k) : bk_ff k N g a0 j = a0 j := if_neg (by omega)
theorem bk_ff_0 {k : Nat} {g a0 : Nat → Int32} : bk_ff k k g a0 = a0 := funext fun j => if_neg (by omega)
theorem bk_ff_s {k N : Nat} {g a0 : Nat → Int32} (h : k ≤ N) : upd (bk_ff k N g a0) N (g N) = bk_ff k (N + 1) g a0 := by
  funext j
  by_cases e : j = N
  · subst e
    rw [pk_us, bk_ff_in h (by omega)]
  · rw [pk_un e]
    by_cases h2 : k ≤ j ∧ j < N
    · rw [bk_ff_in h2.1 h2.2, bk_ff_in h2.1 (by omega)]
    · rw [bk_ff_out (by omega), bk_ff_out (by omega)]
theorem bk_fill {W : Nat → Int32 → (Nat → Int32) → Prop} (k N : Nat) (hk : k ≤ N) (g a0 : Nat → Int32)
    (hx : ∀ n, W (n + 1) (nI N) (bk_ff k N g a0))
    (hs : ∀ n i a, k ≤ i → i < N → (∀ j, i ≤ j → a j = a0 j) → W n (nI (i + 1)) (upd a i (g i)) → W (n + 1) (nI i) a) : W (N - k + 1) (nI k) a0 := by
  have H : ∀ d i, i + d = N → k ≤ i → W (d + 1) (nI i) (bk_ff k i g a0) := by
    intro d
    induction d with
    | zero => intro i h1 h2; have : i = N := by omega
              subst this; exact hx 0
    | succ d ih =>
      intro i h1 h2
      refine hs (d + 1) i _ h2 (by omega) (fun j hj => bk_ff_out (Or.inl hj)) ?_
      rw [bk_ff_s h2]
      exact ih (i + 1) (by omega) (by omega)
  have := H (N - k) k (by omega) (Nat.le_refl _)
  rw [bk_ff_0] at this
  exact this
/-- two branches that fall at one Bool -/
theorem bk_br {c A B : Prop} (b : Bool) (h : c ↔ b = true) (f : b = true → A) (g : b = false → B) : (c → A) ∧ (¬ c → B) := by
  refine ⟨fun hc => f (h.mp hc), fun hc => g ?_⟩
  cases b with
  | false => rfl
  | true => exact absurd (h.mpr rfl) hc
section
variable {f_strands f_count f_joinings f_known : Int32} {a_word a_partner a_work a_shut a_closes a_closed a_seen a_power a_next a_result a_scaled a_many a_later a_tally a_matrix a_track a_component : Nat → Int32}
theorem bk_posX {post : Int32 → Prop} {n : Nat} {x : Int32} (h : bk_L n x) (hn : n ≤ 4) (P : post (nI (bk_p x))) : wpX_positionOf post (f_strands, f_count, f_joinings, f_known, a_word, a_partner, a_work, a_shut, a_closes, a_closed, a_seen, a_power, a_next, a_result, a_scaled, a_many, a_later, a_tally, a_matrix, a_track, a_component) x := by
  rcases bk_L6 h hn with ⟨h0, -, e, -⟩ | ⟨h0, -, e, -⟩
  · exact br_t h0 (by rw [e]; exact P)
  · exact br_f h0 (by rw [e]; exact P)
end
section
variable {g_n g_len g_known : Int32} {b_word b_joined b_many b_coefficients b_colours b_component : Nat → Int32}
theorem bk_sizeY {post : Int32 → Prop} {n : Nat} {x : Int32} (h : bk_L n x) (hn : n ≤ 4) (P : post (nI (bk_p x))) : wpY_size post (g_n, g_len, g_known, b_word, b_joined, b_many, b_coefficients, b_colours, b_component) x := by
  rcases bk_L6 h hn with ⟨h0, -, e, -⟩ | ⟨h0, -, e, -⟩
  · exact br_t h0 (by rw [e]; exact P)
  · exact br_f h0 (by rw [e]; exact P)
theorem bk_signY {post : Int32 → Prop} {x : Int32} (P : post (Int32.ofInt (bk_g x))) : wpY_sign post (g_n, g_len, g_known, b_word, b_joined, b_many, b_coefficients, b_colours, b_component) x := by
  by_cases h0 : 0 ≤ x
  · refine br_t h0 ?_
    have e : bk_g x = 1 := if_pos h0
    rw [e] at P; exact P
  · refine br_f h0 ?_
    have e : bk_g x = -1 := if_neg h0
    rw [e] at P; exact P
end
end
section
-- the word: add, drop, mirror, reverse, letter, writhe
section
variable {f_strands f_count f_joinings f_known : Int32} {a_word a_partner a_work a_shut a_closes a_closed a_seen a_power a_next a_result a_scaled a_many a_later a_tally a_matrix a_track a_component : Nat → Int32}
theorem wd_addX {post : Int32 → SX → Prop} {n c : Nat} {x : Int32} (hn : n ≤ 4) (hc : c < 10) (hx : bk_L n x)
    (P : post (nI (c + 1)) (nI n, nI (c + 1), f_joinings, 0, upd a_word c x, a_partner, a_work, a_shut, a_closes, a_closed, a_seen, a_power, a_next, a_result, a_scaled, a_many, a_later, a_tally, a_matrix, a_track, a_component)) : wpX_add post (nI n, nI c, f_joinings, f_known, a_word, a_partner, a_work, a_shut, a_closes, a_closed, a_seen, a_power, a_next, a_result, a_scaled, a_many, a_later, a_tally, a_matrix, a_track, a_component) x := by
  obtain ⟨h0, h1, h2, -, -⟩ := bk_Lr hx hn
  refine br_f h0 (br_f h1 (br_t h2 (br_f (fun e => ?_) ⟨vp_in_nI hc (by omega), nm_r (e' := upd a_word c x) ?_ (nm_r (nI_1 c) P)⟩)))
  · have := (nI_eq (a := c) (b := 10) (by omega) (by omega)).mp e
    omega
  · rw [nI_clamp (by omega), bk_Lbb hx hn]
theorem wd_dropX {post : Int32 → SX → Prop} {n c k : Nat} (hn : n ≤ 4) (hc : c ≤ 10) (hk : k < c) (hw : ∀ i, i < c → bk_L n (a_word i))
    (P : post (a_word k) (f_strands, nI (c - 1), f_joinings, 0, bk_ff k (c - 1) (fun j => a_word (j + 1)) a_word, a_partner, a_work, a_shut, a_closes, a_closed, a_seen, a_power, a_next, a_result, a_scaled, a_many, a_later, a_tally, a_matrix, a_track, a_component)) : wpX_drop post (f_strands, nI c, f_joinings, f_known, a_word, a_partner, a_work, a_shut, a_closes, a_closed, a_seen, a_power, a_next, a_result, a_scaled, a_many, a_later, a_tally, a_matrix, a_track, a_component) (nI k) := by
  refine br_f (nI_pos (by omega)) (br_t (nI_lt hk (by omega)) ⟨vp_in_nI (by omega) (by omega), nm_r (e' := a_word k) (by rw [nI_clamp (by omega)]) (nm_r (e' := nI (c - 1)) (bk_s1 (by omega)) ⟨c - 1 - k + 1, ?_⟩)⟩)
  refine bk_fill (W := fun n x a => wX_drop_35 post (a_word k) f_strands (nI (c - 1)) f_joinings f_known n x a a_partner a_work a_shut a_closes a_closed a_seen a_power a_next a_result a_scaled a_many a_later a_tally a_matrix a_track a_component) k (c - 1) (by omega) (fun j => a_word (j + 1)) a_word (fun n => br_t (nI_le (Nat.le_refl _) (by omega)) P) ?_
  intro m i a h1 h2 h3 h4
  refine br_f (nI_ge h2 (by omega)) ⟨pk_in (i + 1) 10 (by omega) (nI_1 i), vp_in_nI (by omega) (by omega), nm_r (e' := upd a i (a_word (i + 1))) ?_ (nm_r (nI_1 i) h4)⟩
  rw [nI_1, nI_clamp (by omega), nI_clamp (by omega), h3 (i + 1) (by omega), bk_Lb (hw (i + 1) (by omega)) hn]
theorem wd_mirrorX {post : Int32 → SX → Prop} {n c : Nat} (hn : n ≤ 4) (hc : c ≤ 10) (hw : ∀ i, i < c → bk_L n (a_word i))
    (P : post (nI c) (f_strands, nI c, f_joinings, 0, bk_ff 0 c (fun j => -a_word j) a_word, a_partner, a_work, a_shut, a_closes, a_closed, a_seen, a_power, a_next, a_result, a_scaled, a_many, a_later, a_tally, a_matrix, a_track, a_component)) : wpX_mirror post (f_strands, nI c, f_joinings, f_known, a_word, a_partner, a_work, a_shut, a_closes, a_closed, a_seen, a_power, a_next, a_result, a_scaled, a_many, a_later, a_tally, a_matrix, a_track, a_component) := by
  refine ⟨c - 0 + 1, ?_⟩
  refine bk_fill (W := fun n x a => wX_mirror_2 post f_strands (nI c) f_joinings f_known n x a a_partner a_work a_shut a_closes a_closed a_seen a_power a_next a_result a_scaled a_many a_later a_tally a_matrix a_track a_component) 0 c (by omega) (fun j => -a_word j) a_word (fun n => br_t (nI_le (Nat.le_refl _) (by omega)) P) ?_
  intro m i a h1 h2 h3 h4
  refine br_f (nI_ge h2 (by omega)) ⟨vp_in_nI (by omega) (by omega), vp_in_nI (by omega) (by omega), nm_r (e' := upd a i (-a_word i)) ?_ (nm_r (nI_1 i) h4)⟩
  rw [nI_clamp (by omega), h3 i (by omega), bk_Lbb (bk_Ln (hw i h2)) hn]
end
/-- the first i and the last i of c cells, reversed -/
def wd_rv (c i : Nat) (w : Nat → Int32) : Nat → Int32 := fun j => if j < c ∧ (j < i ∨ c - 1 - j < i) then w (c - 1 - j) else w j
theorem wd_rv_0 {c : Nat} {w : Nat → Int32} : wd_rv c 0 w = w := funext fun j => if_neg (by omega)
theorem wd_rv_s {c i : Nat} {w : Nat → Int32} (h : 2 * i < c - 1) : upd (upd (wd_rv c i w) i (wd_rv c i w (c - 1 - i))) (c - 1 - i) (wd_rv c i w i) = wd_rv c (i + 1) w := by
  have e1 : wd_rv c i w i = w i := if_neg (by omega)
  have e2 : wd_rv c i w (c - 1 - i) = w (c - 1 - i) := if_neg (by omega)
  rw [e1, e2]
  funext j
  by_cases h1 : j = c - 1 - i
  · subst h1
    rw [pk_us]
    have : wd_rv c (i + 1) w (c - 1 - i) = w (c - 1 - (c - 1 - i)) := if_pos (by omega)
    rw [this]
    congr 1; omega
  · rw [pk_un h1]
    by_cases h2 : j = i
    · subst h2
      rw [pk_us]
      exact (if_pos (by omega)).symm
    · rw [pk_un h2]
      by_cases h3 : j < c ∧ (j < i ∨ c - 1 - j < i)
      · exact (if_pos h3).trans (if_pos (by omega)).symm
      · exact (if_neg h3).trans (if_neg (by omega)).symm
theorem wd_rv_e {c i : Nat} {w : Nat → Int32} (h : c - 1 ≤ 2 * i) : wd_rv c i w = bk_ff 0 c (fun j => w (c - 1 - j)) w := by
  funext j
  by_cases h1 : j < c
  · rw [bk_ff_in (by omega) h1]
    by_cases h2 : j < i ∨ c - 1 - j < i
    · exact if_pos ⟨h1, h2⟩
    · have : c - 1 - j = j := by omega
      rw [this]
      exact if_neg (by omega)
  · rw [bk_ff_out (by omega)]
    exact if_neg (by omega)
section
variable {f_strands f_count f_joinings f_known : Int32} {a_word a_partner a_work a_shut a_closes a_closed a_seen a_power a_next a_result a_scaled a_many a_later a_tally a_matrix a_track a_component : Nat → Int32}
theorem wd_revX {post : Int32 → SX → Prop} {n c : Nat} (hn : n ≤ 4) (hc : c ≤ 10) (hw : ∀ i, i < c → bk_L n (a_word i))
    (P : post (nI c) (f_strands, nI c, f_joinings, 0, bk_ff 0 c (fun j => a_word (c - 1 - j)) a_word, a_partner, a_work, a_shut, a_closes, a_closed, a_seen, a_power, a_next, a_result, a_scaled, a_many, a_later, a_tally, a_matrix, a_track, a_component)) : wpX_reverse post (f_strands, nI c, f_joinings, f_known, a_word, a_partner, a_work, a_shut, a_closes, a_closed, a_seen, a_power, a_next, a_result, a_scaled, a_many, a_later, a_tally, a_matrix, a_track, a_component) := by
  have H : ∀ d i, i + d = c → wX_reverse_2 post f_strands (nI c) f_joinings f_known (d + 1) (nI i) (wd_rv c i a_word) a_partner a_work a_shut a_closes a_closed a_seen a_power a_next a_result a_scaled a_many a_later a_tally a_matrix a_track a_component := by
    intro d
    induction d with
    | zero =>
      intro i h
      rcases Nat.eq_zero_or_pos c with h0 | h0
      · subst h0
        have : i = 0 := by omega
        subst this
        refine br_t (by decide) ?_
        rw [wd_rv_e (by omega)]
        exact P
      · refine br_t ?_ ?_
        · have e : nI c - 1 ≤ nI 2 * nI i := by rw [bk_s1 h0, pk_mul]; exact nI_le (by omega) (by omega)
          exact e
        · rw [wd_rv_e (by omega)]
          exact P
    | succ d ih =>
      intro i h
      by_cases h1 : c - 1 ≤ 2 * i
      · refine br_t ?_ ?_
        · have e : nI c - 1 ≤ nI 2 * nI i := by rw [bk_s1 (by omega), pk_mul]; exact nI_le (by omega) (by omega)
          exact e
        · rw [wd_rv_e h1]
          exact P
      · refine br_f ?_ ?_
        · have e : ¬ nI c - 1 ≤ nI 2 * nI i := by rw [bk_s1 (by omega), pk_mul]; exact nI_ge (by omega) (by omega)
          exact e
        · have e1 : nI c - 1 - nI i = nI (c - 1 - i) := by rw [bk_s1 (by omega), pk_sub (by omega)]
          have e2 : wd_rv c i a_word i = a_word i := if_neg (by omega)
          have e3 : wd_rv c i a_word (c - 1 - i) = a_word (c - 1 - i) := if_neg (by omega)
          refine ⟨vp_in_nI (by omega) (by omega), nm_r (e' := wd_rv c i a_word i) (by rw [nI_clamp (by omega)]) ⟨pk_in (c - 1 - i) 10 (by omega) e1, vp_in_nI (by omega) (by omega), nm_r (e' := upd (wd_rv c i a_word) i (wd_rv c i a_word (c - 1 - i))) ?_ ⟨pk_in (c - 1 - i) 10 (by omega) e1, nm_r (e' := wd_rv c (i + 1) a_word) ?_ (nm_r (nI_1 i) (ih (i + 1) (by omega)))⟩⟩⟩
          · rw [e1, nI_clamp (by omega), nI_clamp (by omega), e3, bk_Lb (hw _ (by omega)) hn]
          · rw [e1, nI_clamp (by omega), e2, bk_Lb (hw _ (by omega)) hn, ← wd_rv_s (by omega), e2]
  have := H c 0 (by omega)
  rw [wd_rv_0] at this
  exact ⟨_, this⟩
def wd_wr (w : Nat → Int32) : Nat → Int
  | 0 => 0
  | i + 1 => wd_wr w i + bk_g (w i)
theorem wd_wrX {post : Int32 → Prop} {n c : Nat} (hn : n ≤ 4) (hc : c ≤ 10) (hw : ∀ i, i < c → bk_L n (a_word i)) (P : post (Int32.ofInt (wd_wr a_word c))) : wpX_writhe post (f_strands, nI c, f_joinings, f_known, a_word, a_partner, a_work, a_shut, a_closes, a_closed, a_seen, a_power, a_next, a_result, a_scaled, a_many, a_later, a_tally, a_matrix, a_track, a_component) := by
  have H : ∀ d i, i + d = c → wX_writhe_4 post f_strands (nI c) f_joinings f_known a_word a_partner a_work a_shut a_closes a_closed a_seen a_power a_next a_result a_scaled a_many a_later a_tally a_matrix a_track a_component (d + 1) (Int32.ofInt (wd_wr a_word i)) (nI i) := by
    intro d
    induction d with
    | zero =>
      intro i h
      have : i = c := by omega
      subst this
      exact br_t (nI_le (Nat.le_refl _) (by omega)) P
    | succ d ih =>
      intro i h
      refine br_f (nI_ge (by omega) (by omega)) ⟨vp_in_nI (by omega) (by omega), ?_⟩
      rw [nI_clamp (by omega)]
      rcases bk_L6 (hw i (by omega)) hn with ⟨-, h0, -, e⟩ | ⟨-, h0, -, e⟩
      · refine br_f h0 (nm_r (e' := Int32.ofInt (wd_wr a_word (i + 1))) ?_ (nm_r (nI_1 i) (ih (i + 1) (by omega))))
        rw [wd_wr, e, Int32.ofInt_add]; rfl
      · refine br_t h0 (nm_r (e' := Int32.ofInt (wd_wr a_word (i + 1))) ?_ (nm_r (nI_1 i) (ih (i + 1) (by omega))))
        rw [wd_wr, e, ← Int.sub_eq_add_neg, Int32.ofInt_sub]; rfl
  exact ⟨_, H c 0 (by omega)⟩
end
section
variable {g_n g_len g_known : Int32} {b_word b_joined b_many b_coefficients b_colours b_component : Nat → Int32}
theorem wd_addY {post : Int32 → SY → Prop} {n c : Nat} {x : Int32} (hn : n ≤ 4) (hc : c < 10) (hx : bk_L n x)
    (P : post (nI (c + 1)) (nI n, nI (c + 1), 0, upd b_word c x, b_joined, b_many, b_coefficients, b_colours, b_component)) : wpY_add post (nI n, nI c, g_known, b_word, b_joined, b_many, b_coefficients, b_colours, b_component) x := by
  obtain ⟨h0, -, -, h3, h4⟩ := bk_Lr hx hn
  refine br_f h0 (br_f h3 (br_t h4 (br_f (fun e => ?_) ⟨vp_in_nI hc (by omega), nm_r (e' := upd b_word c x) ?_ (nm_r (nI_1 c) P)⟩)))
  · have := (nI_eq (a := c) (b := 10) (by omega) (by omega)).mp e
    omega
  · rw [nI_clamp (by omega)]
theorem wd_isY {post : Int32 → Prop} {c k : Nat} (hc : c ≤ 10) (hk : k < c) (P : post 1) : wpY_is post (g_n, nI c, g_known, b_word, b_joined, b_many, b_coefficients, b_colours, b_component) (nI k) :=
  br_f (nI_pos (by omega)) (br_f (nI_ge hk (by omega)) P)
theorem wd_isY0 {post : Int32 → Prop} {c : Nat} {x : Int32} (hx : x < 0 ∨ nI c ≤ x) (P : post 0) : wpY_is post (g_n, nI c, g_known, b_word, b_joined, b_many, b_coefficients, b_colours, b_component) x := by
  by_cases h : x < 0
  · exact br_t h P
  · exact br_f h (br_t (by rcases hx with h1 | h1; exact absurd h1 h; exact h1) P)
theorem wd_dropY {post : Int32 → SY → Prop} {c k : Nat} (hc : c ≤ 10) (hk : k < c)
    (P : post (b_word k) (g_n, nI (c - 1), 0, bk_ff k (c - 1) (fun j => b_word (j + 1)) b_word, b_joined, b_many, b_coefficients, b_colours, b_component)) : wpY_drop post (g_n, nI c, g_known, b_word, b_joined, b_many, b_coefficients, b_colours, b_component) (nI k) := by
  unfold wpY_drop
  refine wd_isY hc hk (br_f (by decide) ⟨vp_in_nI (by omega) (by omega), nm_r (e' := b_word k) (by rw [nI_clamp (by omega)]) ⟨c - 1 - k + 1, ?_⟩⟩)
  have e1 : nI c - 1 = nI (c - 1) := bk_s1 (by omega)
  refine bk_fill (W := fun n x a => wY_drop_21 post (b_word k) g_n (nI c) g_known n x a b_joined b_many b_coefficients b_colours b_component) k (c - 1) (by omega) (fun j => b_word (j + 1)) b_word (fun n => br_t (by rw [e1]; exact nI_le (Nat.le_refl _) (by omega)) (nm_r e1 P)) ?_
  intro m i a h1 h2 h3 h4
  refine br_f (by rw [e1]; exact nI_ge h2 (by omega)) ⟨pk_in (i + 1) 10 (by omega) (nI_1 i), vp_in_nI (by omega) (by omega), nm_r (e' := upd a i (b_word (i + 1))) ?_ (nm_r (nI_1 i) h4)⟩
  rw [nI_1, nI_clamp (by omega), nI_clamp (by omega), h3 (i + 1) (by omega)]
theorem wd_mirrorY {post : Int32 → SY → Prop} {c : Nat} (hc : c ≤ 10)
    (P : post (nI c) (g_n, nI c, 0, bk_ff 0 c (fun j => -b_word j) b_word, b_joined, b_many, b_coefficients, b_colours, b_component)) : wpY_mirror post (g_n, nI c, g_known, b_word, b_joined, b_many, b_coefficients, b_colours, b_component) := by
  refine ⟨c - 0 + 1, ?_⟩
  refine bk_fill (W := fun n x a => wY_mirror_2 post g_n (nI c) g_known n x a b_joined b_many b_coefficients b_colours b_component) 0 c (by omega) (fun j => -b_word j) b_word (fun n => br_t (nI_le (Nat.le_refl _) (by omega)) P) ?_
  intro m i a h1 h2 h3 h4
  refine br_f (nI_ge h2 (by omega)) ⟨vp_in_nI (by omega) (by omega), vp_in_nI (by omega) (by omega), nm_r (e' := upd a i (-b_word i)) ?_ (nm_r (nI_1 i) h4)⟩
  rw [nI_clamp (by omega), h3 i (by omega)]
theorem wd_revY {post : Int32 → SY → Prop} {c : Nat} (hc : c ≤ 10)
    (P : post (nI c) (g_n, nI c, 0, bk_ff 0 c (fun j => b_word (c - 1 - j)) b_word, b_joined, b_many, b_coefficients, b_colours, b_component)) : wpY_reverse post (g_n, nI c, g_known, b_word, b_joined, b_many, b_coefficients, b_colours, b_component) := by
  have e0 : nI c / 2 = nI (c / 2) := pk_div (d := 2) (by omega) (by omega) (by omega)
  have H : ∀ d i, i + d = c / 2 → wY_reverse_2 post g_n (nI c) g_known (d + 1) (nI i) (wd_rv c i b_word) b_joined b_many b_coefficients b_colours b_component := by
    intro d
    induction d with
    | zero =>
      intro i h
      refine ⟨by decide, br_t ?_ ?_⟩
      · rw [e0]; exact nI_le (by omega) (by omega)
      · rw [wd_rv_e (by omega)]
        exact P
    | succ d ih =>
      intro i h
      refine ⟨by decide, br_f ?_ ?_⟩
      · rw [e0]; exact nI_ge (by omega) (by omega)
      · have e1 : nI c - 1 - nI i = nI (c - 1 - i) := by rw [bk_s1 (by omega), pk_sub (by omega)]
        refine ⟨vp_in_nI (by omega) (by omega), nm_r (e' := wd_rv c i b_word i) (by rw [nI_clamp (by omega)]) ⟨pk_in (c - 1 - i) 10 (by omega) e1, vp_in_nI (by omega) (by omega), nm_r (e' := upd (wd_rv c i b_word) i (wd_rv c i b_word (c - 1 - i))) ?_ ⟨pk_in (c - 1 - i) 10 (by omega) e1, nm_r (e' := wd_rv c (i + 1) b_word) ?_ (nm_r (nI_1 i) (ih (i + 1) (by omega)))⟩⟩⟩
        · rw [e1, nI_clamp (by omega), nI_clamp (by omega)]
        · rw [e1, nI_clamp (by omega), ← wd_rv_s (by omega)]
  have := H (c / 2) 0 (by omega)
  rw [wd_rv_0] at this
  exact ⟨_, this⟩
theorem wd_wrY {post : Int32 → Prop} {c : Nat} (hc : c ≤ 10) (P : post (Int32.ofInt (wd_wr b_word c))) : wpY_writhe post (g_n, nI c, g_known, b_word, b_joined, b_many, b_coefficients, b_colours, b_component) := by
  have H : ∀ d i, i + d = c → wY_writhe_4 post g_n (nI c) g_known b_word b_joined b_many b_coefficients b_colours b_component (d + 1) (Int32.ofInt (wd_wr b_word i)) (nI i) := by
    intro d
    induction d with
    | zero =>
      intro i h
      have : i = c := by omega
      subst this
      exact br_t (nI_le (Nat.le_refl _) (by omega)) P
    | succ d ih =>
      intro i h
      refine br_f (nI_ge (by omega) (by omega)) ⟨vp_in_nI (by omega) (by omega), ?_⟩
      rw [nI_clamp (by omega)]
      refine bk_signY (nm_r (e' := Int32.ofInt (wd_wr b_word (i + 1))) ?_ (nm_r (nI_1 i) (ih (i + 1) (by omega))))
      rw [wd_wr, Int32.ofInt_add]
  exact ⟨_, H c 0 (by omega)⟩
end
end
section
-- the constructor: pure functions over lists
def cj_fa (L : List Nat) : Nat → Int32 := fun j => nI (L.getD j 0)
def cj_I (L : List Nat) (N : Nat) : Prop := L.length = N ∧ ∀ j, L.getD j 0 < 128
theorem cj_I_set {L : List Nat} {N i v : Nat} (h : cj_I L N) (hv : v < 128) : cj_I (L.set i v) N := by
  refine ⟨by rw [List.length_set]; exact h.1, fun j => ?_⟩
  rw [List.getD_eq_getElem?_getD, List.getElem?_set]
  split
  · split
    · exact hv
    · decide
  · rw [← List.getD_eq_getElem?_getD]; exact h.2 j
theorem cj_set {L : List Nat} {i v : Nat} (h : i < L.length) : upd (cj_fa L) i (nI v) = cj_fa (L.set i v) := by
  funext j
  show (if j = i then nI v else nI (L.getD j 0)) = nI ((L.set i v).getD j 0)
  rw [List.getD_eq_getElem?_getD (l := L.set i v), List.getElem?_set]
  by_cases e : j = i
  · subst e
    rw [if_pos rfl, if_pos rfl, if_pos h]; rfl
  · rw [if_neg e, if_neg (Ne.symm e), List.getD_eq_getElem?_getD]
theorem cj_big {L : List Nat} {N j : Nat} (h : L.length = N) (hj : N ≤ j) : cj_fa L j = 0 := by
  show nI (L.getD j 0) = 0
  rw [List.getD_eq_getElem?_getD, List.getElem?_eq_none (by omega)]
  rfl
theorem cj_rep (N : Nat) : cj_fa (List.replicate N 0) = fun _ => 0 := by
  funext j
  show nI ((List.replicate N 0).getD j 0) = 0
  rw [List.getD_eq_getElem?_getD, List.getElem?_replicate]
  split <;> rfl
theorem cj_Irep (N : Nat) : cj_I (List.replicate N 0) N := by
  refine ⟨List.length_replicate, fun j => ?_⟩
  rw [List.getD_eq_getElem?_getD, List.getElem?_replicate]
  split <;> decide
def cj_b (b : Bool) : Int32 := match b with | true => 1 | false => 0
def cj_eq (P W : List Nat) (k : Nat) : Nat → Bool
  | 0 => true
  | i + 1 => cj_eq P W k i && P.getD (8 * k + i) 0 == W.getD i 0
def cj_find (P W : List Nat) : Nat → Nat → Option Nat
  | 0, _ => none
  | d + 1, k => if cj_eq P W k 8 = true then some k else cj_find P W d (k + 1)
theorem cj_find_lt {P W : List Nat} : ∀ d k q, cj_find P W d k = some q → q < k + d := by
  intro d
  induction d with
  | zero => intro k q h; exact nomatch h
  | succ d ih =>
    intro k q h
    rw [cj_find] at h
    split at h
    · have := Option.some.inj h
      omega
    · have := ih _ _ h
      omega
def cj_put (P W : List Nat) (j : Nat) : Nat → List Nat
  | 0 => P
  | i + 1 => (cj_put P W j i).set (8 * j + i) (W.getD i 0)
theorem cj_putI {P W : List Nat} {j : Nat} (hP : cj_I P 112) (hW : cj_I W 8) : ∀ i, cj_I (cj_put P W j i) 112 := by
  intro i
  induction i with
  | zero => exact hP
  | succ i ih => exact cj_I_set ih (hW.2 i)
def cj_num (j : Nat) (P W : List Nat) : Option (Nat × Nat × List Nat) := match cj_find P W j 0 with
  | some k => some (k, j, P)
  | none => if j < 14 then some (j, j + 1, cj_put P W j 8) else none
def cj_row (P : List Nat) (k : Nat) : List Nat := (List.range 8).map fun q => P.getD (8 * k + q) 0
theorem cj_rowI {P : List Nat} {k : Nat} (hP : cj_I P 112) : cj_I (cj_row P k) 8 := by
  refine ⟨by rw [cj_row, List.length_map, List.length_range], fun j => ?_⟩
  rw [cj_row, List.getD_eq_getElem?_getD, List.getElem?_map]
  by_cases h : j < 8
  · rw [List.getElem?_range h]
    exact hP.2 _
  · rw [List.getElem?_eq_none (by rw [List.length_range]; omega)]
    exact (by decide : 0 < 128)
theorem cj_rowE {P W : List Nat} {k : Nat} (hW : W.length = 8) : bk_ff 0 8 (fun q => cj_fa P (8 * k + q)) (cj_fa W) = cj_fa (cj_row P k) := by
  funext j
  by_cases h : j < 8
  · rw [bk_ff_in (by omega) h]
    show nI (P.getD (8 * k + j) 0) = nI ((cj_row P k).getD j 0)
    rw [cj_row, List.getD_eq_getElem?_getD (l := List.map _ _), List.getElem?_map, List.getElem?_range h]
    rfl
  · rw [bk_ff_out (by omega), cj_big hW (by omega), cj_big (N := 8) (by rw [cj_row, List.length_map, List.length_range]) (by omega)]
def cj_sl (k i j : Nat) (P S C : List Nat) : Option (Nat × List Nat × List Nat × List Nat × List Nat) :=
  if (cj_row P k).getD (3 + i) 0 = 4 + i then
    match cj_num j P (cj_row P k) with
    | some (q, j', P') => some (j', P', cj_row P k, S.set (4 * k + i) q, C.set (4 * k + i) 1)
    | none => none
  else if (cj_row P k).getD (3 + i) 0 < 8 ∧ (cj_row P k).getD (4 + i) 0 < 8 then
    match cj_num j P (((((cj_row P k).set ((cj_row P k).getD (3 + i) 0) ((cj_row P k).getD (4 + i) 0)).set ((cj_row P k).getD (4 + i) 0) ((cj_row P k).getD (3 + i) 0)).set (3 + i) (4 + i)).set (4 + i) (3 + i)) with
    | some (q, j', P') => some (j', P', ((((cj_row P k).set ((cj_row P k).getD (3 + i) 0) ((cj_row P k).getD (4 + i) 0)).set ((cj_row P k).getD (4 + i) 0) ((cj_row P k).getD (3 + i) 0)).set (3 + i) (4 + i)).set (4 + i) (3 + i), S.set (4 * k + i) q, C.set (4 * k + i) 0)
    | none => none
  else none
def cj_fol (P : List Nat) (k : Nat) : Nat → Nat → List Nat → Option (List Nat)
  | 0, _, E => some E
  | d + 1, t, E => if t < 8 then (if E.getD t 0 = 0 then (if P.getD (8 * k + t) 0 < 8 then cj_fol P k d (P.getD (8 * k + t) 0 ^^^ 4) ((E.set t 1).set (P.getD (8 * k + t) 0) 1) else none) else some E) else none
def cj_lo (P : List Nat) (k : Nat) : Nat → Nat → Nat → List Nat → Option (Nat × List Nat)
  | 0, _, m, E => some (m, E)
  | d + 1, q, m, E => if E.getD q 0 = 0 then (match cj_fol P k 8 q E with
    | some E' => cj_lo P k d (q + 1) (m + 1) E'
    | none => none) else cj_lo P k d (q + 1) m E
section
variable {f_strands f_count f_joinings f_known : Int32} {a_word a_partner a_work a_shut a_closes a_closed a_seen a_power a_next a_result a_scaled a_many a_later a_tally a_matrix a_track a_component : Nat → Int32}
theorem cj_bel {post : Int32 → Prop} {p : Int32} (q : Nat) (e : 4 + p = nI q) (P : post (nI q)) : wpX_below post (f_strands, f_count, f_joinings, f_known, a_word, a_partner, a_work, a_shut, a_closes, a_closed, a_seen, a_power, a_next, a_result, a_scaled, a_many, a_later, a_tally, a_matrix, a_track, a_component) p := by
  show post (4 + p)
  rw [e]; exact P
theorem cj_e3 {i : Nat} (h : 1 ≤ i) : 4 + (nI i - 1) = nI (3 + i) := by
  rw [bk_s1 h, show (4 : Int32) = nI 4 from rfl, nI_add]
  exact congrArg nI (by omega)
theorem cj_e4 {i : Nat} : 4 + nI i = nI (4 + i) := nI_add 4 i
theorem cj_14 {post : Int32 → SX → Prop} {J2 : Int32 → Prop} {k : Nat} {P W : List Nat} (hP : cj_I P 112) (hW : cj_I W 8) (hk : k < 14)
    (A : cj_eq P W k 8 = true → post (nI k) (f_strands, f_count, f_joinings, f_known, a_word, cj_fa P, cj_fa W, a_shut, a_closes, a_closed, a_seen, a_power, a_next, a_result, a_scaled, a_many, a_later, a_tally, a_matrix, a_track, a_component)) (B : cj_eq P W k 8 = false → J2 (nI (k + 1))) :
    ∀ d i, i + d = 8 → wX_numberOf_14 post J2 (nI k) f_strands f_count f_joinings f_known a_word (cj_fa P) (cj_fa W) a_shut a_closes a_closed a_seen a_power a_next a_result a_scaled a_many a_later a_tally a_matrix a_track a_component (d + 1) (cj_b (cj_eq P W k i)) (nI i) := by
  intro d
  induction d with
  | zero =>
    intro i h
    have hi : i = 8 := by omega
    subst hi
    refine br_t (by decide) ?_
    cases e : cj_eq P W k 8
    · exact br_t rfl (nm_r (nI_1 k) (B e))
    · exact br_f (by decide) (A e)
  | succ d ih =>
    intro i h
    have I := ih (i + 1) (by omega)
    refine br_f (nI_ge (b := 8) (by omega) (by omega)) ?_
    cases e : cj_eq P W k i
    · rw [cj_eq, e] at I
      exact br_t rfl (nm_r (nI_1 i) I)
    · rw [cj_eq, e, Bool.true_and] at I
      have e1 : cj_fa P ((8 : Int32) * nI k + nI i).toNatClampNeg = nI (P.getD (8 * k + i) 0) := by
        rw [show (8 : Int32) * nI k + nI i = nI (8 * k + i) from bk_ix 8 k i, nI_clamp (by omega)]; rfl
      have e2 : cj_fa W (nI i).toNatClampNeg = nI (W.getD i 0) := by
        rw [nI_clamp (by omega)]; rfl
      have b1 := hP.2 (8 * k + i)
      have b2 := hW.2 i
      refine br_f (by decide) ⟨pk_in (8 * k + i) 112 (by omega) (bk_ix 8 k i), vp_in_nI (by omega) (by omega), ?_⟩
      by_cases q : P.getD (8 * k + i) 0 = W.getD i 0
      · rw [beq_iff_eq.mpr q] at I
        exact br_t (e1.trans ((congrArg nI q).trans e2.symm)) (nm_r (nI_1 i) I)
      · rw [beq_eq_false_iff_ne.mpr q] at I
        exact br_f (fun z => q ((nI_eq (by omega) (by omega)).mp (e1.symm.trans (z.trans e2)))) (nm_r (nI_1 i) I)
theorem cj_70 {post : Int32 → SX → Prop} {j : Nat} {P W : List Nat} (hP : cj_I P 112) (hW : cj_I W 8) (hj : j < 14)
    (K : post (nI j) (f_strands, f_count, nI (j + 1), f_known, a_word, cj_fa (cj_put P W j 8), cj_fa W, a_shut, a_closes, a_closed, a_seen, a_power, a_next, a_result, a_scaled, a_many, a_later, a_tally, a_matrix, a_track, a_component)) :
    ∀ d i, i + d = 8 → wX_numberOf_70 post f_strands f_count (nI j) f_known (d + 1) (nI i) a_word (cj_fa (cj_put P W j i)) (cj_fa W) a_shut a_closes a_closed a_seen a_power a_next a_result a_scaled a_many a_later a_tally a_matrix a_track a_component := by
  intro d
  induction d with
  | zero =>
    intro i h
    have hi : i = 8 := by omega
    subst hi
    refine br_t (by decide) (nm_r (nI_1 j) ?_)
    rw [nI_pred]
    exact K
  | succ d ih =>
    intro i h
    have b2 := hW.2 i
    refine br_f (nI_ge (b := 8) (by omega) (by omega)) ⟨vp_in_nI (by omega) (by omega), pk_in (8 * j + i) 112 (by omega) (bk_ix 8 j i), nm_r (e' := cj_fa (cj_put P W j (i + 1))) ?_ (nm_r (nI_1 i) (ih (i + 1) (by omega)))⟩
    rw [show (8 : Int32) * nI j + nI i = nI (8 * j + i) from bk_ix 8 j i, nI_clamp (by omega), nI_clamp (by omega), show cj_fa W i = nI (W.getD i 0) from rfl, bk_nb (by omega), cj_set (by rw [(cj_putI hP hW i).1]; omega)]
    rfl
theorem cj_2 {post : Int32 → SX → Prop} {j : Nat} {P W : List Nat} (hP : cj_I P 112) (hW : cj_I W 8) (hj : j ≤ 14) :
    ∀ d k, k + d = j → (∀ q, cj_find P W d k = some q → post (nI q) (f_strands, f_count, nI j, f_known, a_word, cj_fa P, cj_fa W, a_shut, a_closes, a_closed, a_seen, a_power, a_next, a_result, a_scaled, a_many, a_later, a_tally, a_matrix, a_track, a_component)) →
    (cj_find P W d k = none → ∃ n, wX_numberOf_70 post f_strands f_count (nI j) f_known n 0 a_word (cj_fa P) (cj_fa W) a_shut a_closes a_closed a_seen a_power a_next a_result a_scaled a_many a_later a_tally a_matrix a_track a_component) → wX_numberOf_2 post f_strands f_count (nI j) f_known a_word (cj_fa P) (cj_fa W) a_shut a_closes a_closed a_seen a_power a_next a_result a_scaled a_many a_later a_tally a_matrix a_track a_component (d + 1) (nI k) := by
  intro d
  induction d with
  | zero => intro k h A B; exact br_t (nI_le (by omega) (by omega)) (B rfl)
  | succ d ih =>
    intro k h A B
    refine br_f (nI_ge (by omega) (by omega)) ⟨9, cj_14 hP hW (by omega) (fun e => A k ?_) (fun e => ih (k + 1) (by omega) (fun q hq => A q ?_) (fun hq => B ?_)) 8 0 rfl⟩
    · rw [cj_find, if_pos e]
    · rw [cj_find, e]; exact hq
    · rw [cj_find, e]; exact hq
theorem cj_numX {post : Int32 → SX → Prop} {j k j' : Nat} {P W P' : List Nat} (hj : j ≤ 14) (hP : cj_I P 112) (hW : cj_I W 8) (h : cj_num j P W = some (k, j', P'))
    (K : j' ≤ 14 → k < 14 → cj_I P' 112 → post (nI k) (f_strands, f_count, nI j', f_known, a_word, cj_fa P', cj_fa W, a_shut, a_closes, a_closed, a_seen, a_power, a_next, a_result, a_scaled, a_many, a_later, a_tally, a_matrix, a_track, a_component)) : wpX_numberOf post (f_strands, f_count, nI j, f_known, a_word, cj_fa P, cj_fa W, a_shut, a_closes, a_closed, a_seen, a_power, a_next, a_result, a_scaled, a_many, a_later, a_tally, a_matrix, a_track, a_component) := by
  refine ⟨j + 1, ?_⟩
  unfold cj_num at h
  cases e : cj_find P W j 0 with
  | some q =>
    rw [e] at h
    have h2 := Option.some.inj h
    simp only [Prod.mk.injEq] at h2
    obtain ⟨rfl, rfl, rfl⟩ := h2
    have hq := cj_find_lt _ _ _ e
    refine cj_2 hP hW hj j 0 (by omega) (fun z hz => ?_) (fun hz => ?_)
    · rw [e] at hz
      cases hz
      exact K hj (by omega) hP
    · rw [e] at hz
      exact nomatch hz
  | none =>
    rw [e] at h
    have hl : j < 14 := by
      by_cases hl : j < 14
      · exact hl
      · dsimp only at h
        rw [if_neg hl] at h
        exact nomatch h
    dsimp only at h
    rw [if_pos hl] at h
    have h2 := Option.some.inj h
    simp only [Prod.mk.injEq] at h2
    obtain ⟨rfl, rfl, rfl⟩ := h2
    refine cj_2 hP hW hj j 0 (by omega) (fun z hz => ?_) (fun hz => ⟨9, cj_70 hP hW hl (K (by omega) hl (cj_putI hP hW 8)) 8 0 rfl⟩)
    rw [e] at hz
    exact nomatch hz
theorem cj_143 {post : SX → Prop} {k i j q j' : Nat} {P W S P' : List Nat} (hk : k < 14) (hi : i < 4) (hj : j ≤ 14) (hP : cj_I P 112) (hW : cj_I W 8) (hS : cj_I S 56) (h : cj_num j P W = some (q, j', P'))
    (K : j' ≤ 14 → cj_I P' 112 → cj_I (S.set (4 * k + i) q) 56 → post (f_strands, f_count, nI j', f_known, a_word, cj_fa P', cj_fa W, cj_fa (S.set (4 * k + i) q), a_closes, a_closed, a_seen, a_power, a_next, a_result, a_scaled, a_many, a_later, a_tally, a_matrix, a_track, a_component)) :
    wX_shutLetter_143 post (nI k) (nI i) f_strands f_count (nI j) f_known a_word (cj_fa P) (cj_fa W) (cj_fa S) a_closes a_closed a_seen a_power a_next a_result a_scaled a_many a_later a_tally a_matrix a_track a_component := by
  unfold wX_shutLetter_143
  refine cj_numX hj hP hW h (fun h1 h2 h3 => ?_)
  refine ⟨pk_in (4 * k + i) 56 (by omega) (bk_ix 4 k i), nm_r (e' := cj_fa (S.set (4 * k + i) q)) ?_ (K h1 h3 (cj_I_set hS (by omega)))⟩
  rw [show (4 : Int32) * nI k + nI i = nI (4 * k + i) from bk_ix 4 k i, nI_clamp (by omega), bk_nbb (by omega), cj_set (by rw [hS.1]; omega)]
theorem cj_slX {post : SX → Prop} {k i j j' : Nat} {P W S C P' W' S' C' : List Nat} (hk : k < 14) (hi : 1 ≤ i) (hi4 : i < 4) (hj : j ≤ 14) (hP : cj_I P 112) (hW : cj_I W 8) (hS : cj_I S 56) (hC : cj_I C 56)
    (h : cj_sl k i j P S C = some (j', P', W', S', C'))
    (K : j' ≤ 14 → cj_I P' 112 → cj_I W' 8 → cj_I S' 56 → cj_I C' 56 → post (f_strands, f_count, nI j', f_known, a_word, cj_fa P', cj_fa W', cj_fa S', cj_fa C', a_closed, a_seen, a_power, a_next, a_result, a_scaled, a_many, a_later, a_tally, a_matrix, a_track, a_component)) :
    wpX_shutLetter post (f_strands, f_count, nI j, f_known, a_word, cj_fa P, cj_fa W, cj_fa S, cj_fa C, a_closed, a_seen, a_power, a_next, a_result, a_scaled, a_many, a_later, a_tally, a_matrix, a_track, a_component) (nI k) (nI i) := by
  refine ⟨8 - 0 + 1, ?_⟩
  refine bk_fill (W := fun n x a => wX_shutLetter_2 post (nI k) (nI i) f_strands f_count (nI j) f_known n x a_word (cj_fa P) a (cj_fa S) (cj_fa C) a_closed a_seen a_power a_next a_result a_scaled a_many a_later a_tally a_matrix a_track a_component) 0 8 (by omega) (fun q => cj_fa P (8 * k + q)) (cj_fa W) (fun n => ?_) ?_
  · rw [cj_rowE hW.1]
    have hR : cj_I (cj_row P k) 8 := cj_rowI hP
    unfold cj_sl at h
    generalize hRe : cj_row P k = R at *
    have ra := hR.2 (3 + i)
    have rb := hR.2 (4 + i)
    refine br_t (by decide) (cj_bel (3 + i) (cj_e3 hi) ⟨vp_in_nI (by omega) (by omega), nm_r (e' := nI (R.getD (3 + i) 0)) (by rw [nI_clamp (by omega)]; rfl) (cj_bel (4 + i) cj_e4 ⟨vp_in_nI (by omega) (by omega), nm_r (e' := nI (R.getD (4 + i) 0)) (by rw [nI_clamp (by omega)]; rfl) (cj_bel (4 + i) cj_e4 ?_)⟩)⟩)
    generalize R.getD (3 + i) 0 = a at *
    generalize R.getD (4 + i) 0 = b at *
    have e4 : (4 : Int32) * nI k + nI i = nI (4 * k + i) := bk_ix 4 k i
    by_cases ha : a = 4 + i
    · rw [if_pos ha] at h
      refine br_t (congrArg nI ha) ?_
      refine And.intro (pk_in (4 * k + i) 56 (by omega) e4) (nm_r (e' := cj_fa (C.set (4 * k + i) 1)) ?_ (cj_bel (4 + i) cj_e4 (br_t (congrArg nI ha) ?_)))
      · rw [e4, nI_clamp (by omega), bk_n1, show (1 : Int32) = nI 1 from rfl, cj_set (by rw [hC.1]; omega)]
      · cases e : cj_num j P R with
        | none => rw [e] at h; exact nomatch h
        | some z =>
          obtain ⟨q, j1, P1⟩ := z
          rw [e] at h
          have h2 := Option.some.inj h
          simp only [Prod.mk.injEq] at h2
          obtain ⟨rfl, rfl, rfl, rfl, rfl⟩ := h2
          exact cj_143 hk hi4 hj hP hR hS e (fun q1 q2 q3 => K q1 q2 hR q3 (cj_I_set hC (by omega)))
    · rw [if_neg ha] at h
      have hn : ¬ nI a = nI (4 + i) := fun z => ha ((nI_eq (by omega) (by omega)).mp z)
      refine br_f hn ?_
      refine And.intro (pk_in (4 * k + i) 56 (by omega) e4) (nm_r (e' := cj_fa (C.set (4 * k + i) 0)) ?_ (cj_bel (4 + i) cj_e4 (br_f hn ?_)))
      · rw [e4, nI_clamp (by omega), bk_n0, show (0 : Int32) = nI 0 from rfl, cj_set (by rw [hC.1]; omega)]
      · by_cases hab : a < 8 ∧ b < 8
        · rw [if_pos hab] at h
          have l0 : R.length = 8 := hR.1
          refine ⟨vp_in_nI hab.1 (by omega), nm_r (e' := cj_fa (R.set a b)) ?_ ⟨vp_in_nI hab.2 (by omega), nm_r (e' := cj_fa ((R.set a b).set b a)) ?_ (cj_bel (3 + i) (cj_e3 hi) (cj_bel (4 + i) cj_e4 ⟨vp_in_nI (by omega) (by omega), nm_r (e' := cj_fa (((R.set a b).set b a).set (3 + i) (4 + i))) ?_ (cj_bel (4 + i) cj_e4 (cj_bel (3 + i) (cj_e3 hi) ⟨vp_in_nI (by omega) (by omega), nm_r (e' := cj_fa ((((R.set a b).set b a).set (3 + i) (4 + i)).set (4 + i) (3 + i))) ?_ ?_⟩))⟩))⟩⟩
          · rw [nI_clamp (by omega), bk_nbb (by omega), cj_set (by omega)]
          · rw [nI_clamp (by omega), bk_nbb (by omega), cj_set (by rw [List.length_set]; omega)]
          · rw [nI_clamp (by omega), bk_nbb (by omega), cj_set (by rw [List.length_set, List.length_set]; omega)]
          · rw [nI_clamp (by omega), bk_nbb (by omega), cj_set (by rw [List.length_set, List.length_set, List.length_set]; omega)]
          · have hR2 : cj_I ((((R.set a b).set b a).set (3 + i) (4 + i)).set (4 + i) (3 + i)) 8 := cj_I_set (cj_I_set (cj_I_set (cj_I_set hR (by omega)) (by omega)) (by omega)) (by omega)
            generalize (((R.set a b).set b a).set (3 + i) (4 + i)).set (4 + i) (3 + i) = R2 at *
            cases e : cj_num j P R2 with
            | none => rw [e] at h; exact nomatch h
            | some z =>
              obtain ⟨q, j1, P1⟩ := z
              rw [e] at h
              have h2 := Option.some.inj h
              simp only [Prod.mk.injEq] at h2
              obtain ⟨rfl, rfl, rfl, rfl, rfl⟩ := h2
              exact cj_143 hk hi4 hj hP hR2 hS e (fun q1 q2 q3 => K q1 q2 hR2 q3 (cj_I_set hC (by omega)))
        · rw [if_neg hab] at h
          exact nomatch h
  · intro m q a h1 h2 h3 h4
    have b1 := hP.2 (8 * k + q)
    have e8 : (8 : Int32) * nI k + nI q = nI (8 * k + q) := bk_ix 8 k q
    refine br_f (nI_ge (b := 8) (by omega) (by omega)) ⟨pk_in (8 * k + q) 112 (by omega) e8, vp_in_nI (by omega) (by omega), nm_r (e' := upd a q (cj_fa P (8 * k + q))) ?_ (nm_r (nI_1 q) h4)⟩
    rw [e8, nI_clamp (by omega), nI_clamp (by omega), show cj_fa P (8 * k + q) = nI (P.getD (8 * k + q) 0) from rfl, bk_nb (by omega)]
end
end
section
-- the joining tables (printed by wip/C-0261/tables.py)
def tb_J (n : Nat) : Nat := match n with
  | 2 => 2
  | 3 => 5
  | _ => 14
def tb_P (n : Nat) : List Nat := match n with
  | 2 => [4, 5, 2, 3, 0, 1, 6, 7, 1, 0, 2, 3, 5, 4, 6, 7, 0, 0, 0, 0, 0, 0, 0, 0, 0, 0, 0, 0, 0, 0, 0, 0, 0, 0, 0, 0, 0, 0, 0, 0, 0, 0, 0, 0, 0, 0, 0, 0, 0, 0, 0, 0, 0, 0, 0, 0, 0, 0, 0, 0, 0, 0, 0, 0, 0, 0, 0, 0, 0, 0, 0, 0, 0, 0, 0, 0, 0, 0, 0, 0, 0, 0, 0, 0, 0, 0, 0, 0, 0, 0, 0, 0, 0, 0, 0, 0, 0, 0, 0, 0, 0, 0, 0, 0, 0, 0, 0, 0, 0, 0, 0, 0]
  | 3 => [4, 5, 6, 3, 0, 1, 2, 7, 1, 0, 6, 3, 5, 4, 2, 7, 4, 2, 1, 3, 0, 6, 5, 7, 1, 0, 4, 3, 2, 6, 5, 7, 6, 2, 1, 3, 5, 4, 0, 7, 0, 0, 0, 0, 0, 0, 0, 0, 0, 0, 0, 0, 0, 0, 0, 0, 0, 0, 0, 0, 0, 0, 0, 0, 0, 0, 0, 0, 0, 0, 0, 0, 0, 0, 0, 0, 0, 0, 0, 0, 0, 0, 0, 0, 0, 0, 0, 0, 0, 0, 0, 0, 0, 0, 0, 0, 0, 0, 0, 0, 0, 0, 0, 0, 0, 0, 0, 0, 0, 0, 0, 0]
  | _ => [4, 5, 6, 7, 0, 1, 2, 3, 1, 0, 6, 7, 5, 4, 2, 3, 4, 2, 1, 7, 0, 6, 5, 3, 4, 5, 3, 2, 0, 1, 7, 6, 1, 0, 4, 7, 2, 6, 5, 3, 1, 0, 3, 2, 5, 4, 7, 6, 6, 2, 1, 7, 5, 4, 0, 3, 4, 2, 1, 5, 0, 3, 7, 6, 4, 7, 3, 2, 0, 6, 5, 1, 1, 0, 4, 5, 2, 3, 7, 6, 1, 0, 3, 2, 7, 6, 5, 4, 3, 2, 1, 0, 5, 4, 7, 6, 6, 7, 3, 2, 5, 4, 0, 1, 3, 2, 1, 0, 7, 6, 5, 4]
def tb_W (n : Nat) : List Nat := match n with
  | 2 => [1, 0, 2, 3, 5, 4, 6, 7]
  | 3 => [4, 2, 1, 3, 0, 6, 5, 7]
  | _ => [3, 2, 1, 0, 5, 4, 7, 6]
def tb_S (n : Nat) : List Nat := match n with
  | 2 => [0, 1, 0, 0, 0, 1, 0, 0, 0, 0, 0, 0, 0, 0, 0, 0, 0, 0, 0, 0, 0, 0, 0, 0, 0, 0, 0, 0, 0, 0, 0, 0, 0, 0, 0, 0, 0, 0, 0, 0, 0, 0, 0, 0, 0, 0, 0, 0, 0, 0, 0, 0, 0, 0, 0, 0]
  | 3 => [0, 1, 2, 0, 0, 1, 3, 0, 0, 4, 2, 0, 0, 1, 3, 0, 0, 4, 2, 0, 0, 0, 0, 0, 0, 0, 0, 0, 0, 0, 0, 0, 0, 0, 0, 0, 0, 0, 0, 0, 0, 0, 0, 0, 0, 0, 0, 0, 0, 0, 0, 0, 0, 0, 0, 0]
  | _ => [0, 1, 2, 3, 0, 1, 4, 5, 0, 6, 2, 7, 0, 5, 8, 3, 0, 1, 4, 9, 0, 5, 10, 5, 0, 6, 2, 11, 0, 11, 2, 7, 0, 12, 8, 3, 0, 5, 4, 9, 0, 5, 10, 5, 0, 11, 13, 11, 0, 12, 8, 5, 0, 11, 13, 11]
def tb_C (n : Nat) : List Nat := match n with
  | 2 => [0, 0, 0, 0, 0, 1, 0, 0, 0, 0, 0, 0, 0, 0, 0, 0, 0, 0, 0, 0, 0, 0, 0, 0, 0, 0, 0, 0, 0, 0, 0, 0, 0, 0, 0, 0, 0, 0, 0, 0, 0, 0, 0, 0, 0, 0, 0, 0, 0, 0, 0, 0, 0, 0, 0, 0]
  | 3 => [0, 0, 0, 0, 0, 1, 0, 0, 0, 0, 1, 0, 0, 0, 1, 0, 0, 1, 0, 0, 0, 0, 0, 0, 0, 0, 0, 0, 0, 0, 0, 0, 0, 0, 0, 0, 0, 0, 0, 0, 0, 0, 0, 0, 0, 0, 0, 0, 0, 0, 0, 0, 0, 0, 0, 0]
  | _ => [0, 0, 0, 0, 0, 1, 0, 0, 0, 0, 1, 0, 0, 0, 0, 1, 0, 0, 1, 0, 0, 1, 0, 1, 0, 1, 0, 0, 0, 0, 0, 1, 0, 0, 1, 0, 0, 0, 0, 1, 0, 0, 1, 0, 0, 1, 0, 1, 0, 1, 0, 0, 0, 0, 1, 0]
def tb_D (n : Nat) : List Nat := match n with
  | 2 => [2, 1, 0, 0, 0, 0, 0, 0, 0, 0, 0, 0, 0, 0]
  | 3 => [3, 2, 2, 1, 1, 0, 0, 0, 0, 0, 0, 0, 0, 0]
  | _ => [4, 3, 3, 3, 2, 2, 2, 2, 2, 1, 1, 1, 1, 2]
def tb_E (n : Nat) : List Nat := match n with
  | 2 => [1, 1, 0, 0, 1, 1, 0, 0]
  | 3 => [1, 1, 1, 0, 1, 1, 1, 0]
  | _ => [1, 1, 1, 1, 1, 1, 1, 1]
end
section
-- the constructor: loops, the whole
theorem cj_xor : ∀ e, e < 8 → nI e ^^^ 4 = nI (e ^^^ 4) := by decide +kernel
theorem cj_xlt : ∀ e, e < 8 → e ^^^ 4 < 8 := by decide +kernel
def cj_in (k : Nat) : Nat → Nat → Nat → List Nat → List Nat → List Nat → List Nat → Option (Nat × List Nat × List Nat × List Nat × List Nat)
  | 0, _, j, P, W, S, C => some (j, P, W, S, C)
  | d + 1, i, j, P, _, S, C => match cj_sl k i j P S C with
    | some (j', P', W', S', C') => cj_in k d (i + 1) j' P' W' S' C'
    | none => none
def cj_out (n : Nat) : Nat → Nat → Nat → List Nat → List Nat → List Nat → List Nat → List Nat → List Nat → Option (Nat × List Nat × List Nat × List Nat × List Nat × List Nat × List Nat)
  | 0, _, _, _, _, _, _, _, _ => none
  | f + 1, k, j, P, W, S, C, D, E => if k < j ∧ k < 14 then (match cj_in k (n - 1) 1 j P W S C with
    | some (j', P', W', S', C') => (match cj_lo P' k n 0 0 (List.replicate 8 0) with
      | some (r, E') => cj_out n f (k + 1) j' P' W' S' C' (D.set k r) E'
      | none => none)
    | none => none) else some (j, P, W, S, C, D, E)
def cj_w (n : Nat) : Nat → List Nat
  | 0 => List.replicate 8 0
  | i + 1 => ((cj_w n i).set i (if i < n then 4 + i else i)).set (4 + i) (if i < n then i else 4 + i)
def cj_all (n : Nat) : Option (Nat × List Nat × List Nat × List Nat × List Nat × List Nat × List Nat) := match cj_num 0 (List.replicate 112 0) (cj_w n 4) with
  | some (_, j, P) => cj_out n 20 0 j P (cj_w n 4) (List.replicate 56 0) (List.replicate 56 0) (List.replicate 14 0) (List.replicate 8 0)
  | none => none
def cj_chk (n : Nat) : Bool := match cj_all n with
  | some (j, P, W, S, C, D, E) => j == tb_J n && (P == tb_P n && (W == tb_W n && (S == tb_S n && (C == tb_C n && (D == tb_D n && E == tb_E n)))))
  | none => false
theorem cj_all_of {n : Nat} (h : cj_chk n = true) : cj_all n = some (tb_J n, tb_P n, tb_W n, tb_S n, tb_C n, tb_D n, tb_E n) := by
  unfold cj_chk at h
  cases e : cj_all n with
  | none => rw [e] at h; exact nomatch h
  | some z =>
    obtain ⟨j, P, W, S, C, D, E⟩ := z
    rw [e] at h
    simp only [Bool.and_eq_true, beq_iff_eq] at h
    obtain ⟨rfl, rfl, rfl, rfl, rfl, rfl, rfl⟩ := h
    rfl
theorem cj_all2 : cj_chk 2 = true := by decide +kernel
theorem cj_all3 : cj_chk 3 = true := by decide +kernel
theorem cj_all4 : cj_chk 4 = true := by decide +kernel
theorem cj_lo_le {P : List Nat} {k : Nat} : ∀ d q m E r E', cj_lo P k d q m E = some (r, E') → r ≤ m + d := by
  intro d
  induction d with
  | zero =>
    intro q m E r E' h
    have h2 := Option.some.inj h
    simp only [Prod.mk.injEq] at h2
    omega
  | succ d ih =>
    intro q m E r E' h
    rw [cj_lo] at h
    split at h
    · split at h
      · have := ih _ _ _ _ _ h
        omega
      · exact nomatch h
    · have := ih _ _ _ _ _ h
      omega
theorem cj_wI (n : Nat) : ∀ i, i ≤ 4 → cj_I (cj_w n i) 8 := by
  intro i
  induction i with
  | zero => intro _; exact cj_Irep 8
  | succ i ih =>
    intro h
    exact cj_I_set (cj_I_set (ih (by omega)) (by split <;> omega)) (by split <;> omega)
section
variable {f_strands f_count f_joinings f_known : Int32} {a_word a_partner a_work a_shut a_closes a_closed a_seen a_power a_next a_result a_scaled a_many a_later a_tally a_matrix a_track a_component : Nat → Int32}
theorem cj_folX {post : SX → Prop} {k : Nat} {P : List Nat} (hk : k < 14) (hP : cj_I P 112) : ∀ d i t E E', i + d = 8 → cj_I E 8 → cj_fol P k d t E = some E' → (cj_I E' 8 → post (f_strands, f_count, f_joinings, f_known, a_word, cj_fa P, a_work, a_shut, a_closes, a_closed, cj_fa E', a_power, a_next, a_result, a_scaled, a_many, a_later, a_tally, a_matrix, a_track, a_component)) →
    wX_follow_5 post (nI k) f_strands f_count f_joinings f_known (d + 1) (nI t) (nI i) a_word (cj_fa P) a_work a_shut a_closes a_closed (cj_fa E) a_power a_next a_result a_scaled a_many a_later a_tally a_matrix a_track a_component := by
  intro d
  induction d with
  | zero =>
    intro i t E E' hi hE h K
    cases Option.some.inj h
    have : i = 8 := by omega
    subst this
    exact br_t (by decide) (K hE)
  | succ d ih =>
    intro i t E E' hi hE h K
    rw [cj_fol] at h
    by_cases ht : t < 8
    · rw [if_pos ht] at h
      have eE : cj_fa E (nI t).toNatClampNeg = nI (E.getD t 0) := by rw [nI_clamp (by omega)]; rfl
      have bE := hE.2 t
      refine br_f (nI_ge (b := 8) (by omega) (by omega)) ⟨vp_in_nI ht (by omega), ?_⟩
      by_cases h0 : E.getD t 0 = 0
      · rw [if_pos h0] at h
        have bP := hP.2 (8 * k + t)
        by_cases h8 : P.getD (8 * k + t) 0 < 8
        · rw [if_pos h8] at h
          have e8 : (8 : Int32) * nI k + nI t = nI (8 * k + t) := bk_ix 8 k t
          refine br_t (eE.trans (congrArg nI h0)) ⟨vp_in_nI ht (by omega), nm_r (e' := cj_fa (E.set t 1)) ?_ ⟨pk_in (8 * k + t) 112 (by omega) e8, nm_r (e' := nI (P.getD (8 * k + t) 0)) ?_ ⟨vp_in_nI h8 (by omega), nm_r (e' := cj_fa ((E.set t 1).set (P.getD (8 * k + t) 0) 1)) ?_ (nm_r (cj_xor _ h8) (nm_r (nI_1 i) (ih (i + 1) _ _ _ (by omega) (cj_I_set (cj_I_set hE (by omega)) (by omega)) h K)))⟩⟩⟩
          · rw [nI_clamp (by omega), bk_n1, show (1 : Int32) = nI 1 from rfl, cj_set (by rw [hE.1]; omega)]
          · rw [e8, nI_clamp (by omega)]; rfl
          · rw [nI_clamp (by omega), bk_n1, show (1 : Int32) = nI 1 from rfl, cj_set (by rw [List.length_set, hE.1]; omega)]
        · rw [if_neg h8] at h
          exact nomatch h
      · rw [if_neg h0] at h
        cases Option.some.inj h
        exact br_f (fun z => h0 ((nI_eq (by omega) (by omega)).mp (eE.symm.trans z))) (K hE)
    · rw [if_neg ht] at h
      exact nomatch h
theorem cj_loX {post : Int32 → SX → Prop} {n k : Nat} {P : List Nat} (hn : n ≤ 4) (hk : k < 14) (hP : cj_I P 112) : ∀ d q m E r E', q + d = n → cj_I E 8 → cj_lo P k d q m E = some (r, E') → (cj_I E' 8 → post (nI r) (nI n, f_count, f_joinings, f_known, a_word, cj_fa P, a_work, a_shut, a_closes, a_closed, cj_fa E', a_power, a_next, a_result, a_scaled, a_many, a_later, a_tally, a_matrix, a_track, a_component)) →
    wX_loopsOf_25 post (nI k) (d + 1) (nI m) (nI q) (nI n) f_count f_joinings f_known a_word (cj_fa P) a_work a_shut a_closes a_closed (cj_fa E) a_power a_next a_result a_scaled a_many a_later a_tally a_matrix a_track a_component := by
  intro d
  induction d with
  | zero =>
    intro q m E r E' hq hE h K
    have h2 := Option.some.inj h
    simp only [Prod.mk.injEq] at h2
    obtain ⟨rfl, rfl⟩ := h2
    exact br_t (nI_le (by omega) (by omega)) (K hE)
  | succ d ih =>
    intro q m E r E' hq hE h K
    rw [cj_lo] at h
    have eE : cj_fa E (nI q).toNatClampNeg = nI (E.getD q 0) := by rw [nI_clamp (by omega)]; rfl
    have bE := hE.2 q
    refine br_f (nI_ge (by omega) (by omega)) ⟨vp_in_nI (by omega) (by omega), ?_⟩
    by_cases h0 : E.getD q 0 = 0
    · rw [if_pos h0] at h
      refine br_t (eE.trans (congrArg nI h0)) (nm_r (nI_1 m) ?_)
      cases e : cj_fol P k 8 q E with
      | none => rw [e] at h; exact nomatch h
      | some E1 =>
        rw [e] at h
        refine ⟨9, cj_folX hk hP 8 0 q E E1 rfl hE e (fun hE1 => ?_)⟩
        exact nm_r (nI_1 q) (ih (q + 1) (m + 1) E1 r E' (by omega) hE1 h K)
    · rw [if_neg h0] at h
      exact br_f (fun z => h0 ((nI_eq (by omega) (by omega)).mp (eE.symm.trans z))) (nm_r (nI_1 q) (ih (q + 1) m E r E' (by omega) hE h K))
theorem cj_repE {E : List Nat} (hE : E.length = 8) : bk_ff 0 8 (fun _ => 0) (cj_fa E) = cj_fa (List.replicate 8 0) := by
  funext j
  rw [cj_rep]
  by_cases h : j < 8
  · exact bk_ff_in (by omega) h
  · rw [bk_ff_out (by omega), cj_big hE (by omega)]
theorem cj_lofX {post : Int32 → SX → Prop} {n k r : Nat} {P E E' : List Nat} (hn : n ≤ 4) (hk : k < 14) (hP : cj_I P 112) (hE : cj_I E 8) (h : cj_lo P k n 0 0 (List.replicate 8 0) = some (r, E'))
    (K : cj_I E' 8 → post (nI r) (nI n, f_count, f_joinings, f_known, a_word, cj_fa P, a_work, a_shut, a_closes, a_closed, cj_fa E', a_power, a_next, a_result, a_scaled, a_many, a_later, a_tally, a_matrix, a_track, a_component)) : wpX_loopsOf post (nI n, f_count, f_joinings, f_known, a_word, cj_fa P, a_work, a_shut, a_closes, a_closed, cj_fa E, a_power, a_next, a_result, a_scaled, a_many, a_later, a_tally, a_matrix, a_track, a_component) (nI k) := by
  refine ⟨8 - 0 + 1, ?_⟩
  refine bk_fill (W := fun m x a => wX_loopsOf_4 post (nI k) 0 (nI n) f_count f_joinings f_known m x a_word (cj_fa P) a_work a_shut a_closes a_closed a a_power a_next a_result a_scaled a_many a_later a_tally a_matrix a_track a_component) 0 8 (by omega) (fun _ => 0) (cj_fa E) (fun m => ?_) ?_
  · rw [cj_repE hE.1]
    exact br_t (by decide) ⟨n + 1, cj_loX hn hk hP n 0 0 _ r E' (by omega) (cj_Irep 8) h K⟩
  · intro m q a h1 h2 h3 h4
    refine br_f (nI_ge (b := 8) (by omega) (by omega)) ⟨vp_in_nI (by omega) (by omega), nm_r (e' := upd a q 0) ?_ (nm_r (nI_1 q) h4)⟩
    rw [nI_clamp (by omega), bk_n0]
theorem cj_88 {post : SX → Prop} {J : Int32 → Int32 → Int32 → Int32 → Int32 → (Nat → Int32) → (Nat → Int32) → (Nat → Int32) → (Nat → Int32) → (Nat → Int32) → (Nat → Int32) → (Nat → Int32) → (Nat → Int32) → (Nat → Int32) → (Nat → Int32) → (Nat → Int32) → (Nat → Int32) → (Nat → Int32) → (Nat → Int32) → (Nat → Int32) → (Nat → Int32) → (Nat → Int32) → Prop} {n k r : Nat} {D E E' : List Nat} {j' : Nat} {P' W' S' C' : List Nat} (hn : n ≤ 4) (hk : k < 14) (hD : cj_I D 14) (hE : cj_I E 8) :
    ∀ d i j P W S C, 1 ≤ i → i + d = n → j ≤ 14 → cj_I P 112 → cj_I W 8 → cj_I S 56 → cj_I C 56 → cj_in k d i j P W S C = some (j', P', W', S', C') → cj_lo P' k n 0 0 (List.replicate 8 0) = some (r, E') →
    (j' ≤ 14 → cj_I P' 112 → cj_I W' 8 → cj_I S' 56 → cj_I C' 56 → cj_I (D.set k r) 14 → cj_I E' 8 → J (nI (k + 1)) (nI n) f_count (nI j') f_known a_word (cj_fa P') (cj_fa W') (cj_fa S') (cj_fa C') (cj_fa (D.set k r)) (cj_fa E') a_power a_next a_result a_scaled a_many a_later a_tally a_matrix a_track a_component) →
    wX_findJoinings_88 post J (nI k) (d + 1) (nI i) (nI n) f_count (nI j) f_known a_word (cj_fa P) (cj_fa W) (cj_fa S) (cj_fa C) (cj_fa D) (cj_fa E) a_power a_next a_result a_scaled a_many a_later a_tally a_matrix a_track a_component := by
  intro d
  induction d with
  | zero =>
    intro i j P W S C hi1 hi hj hP hW hS hC h hl K
    have h2 := Option.some.inj h
    simp only [Prod.mk.injEq] at h2
    obtain ⟨rfl, rfl, rfl, rfl, rfl⟩ := h2
    have hr := cj_lo_le _ _ _ _ _ _ hl
    refine br_t (nI_le (by omega) (by omega)) ?_
    refine cj_lofX hn hk hP hE hl (fun hE' => ?_)
    refine ⟨vp_in_nI hk (by omega), nm_r (e' := cj_fa (D.set k r)) ?_ (nm_r (nI_1 k) (K hj hP hW hS hC (cj_I_set hD (by omega)) hE'))⟩
    rw [nI_clamp (by omega), bk_nbb (by omega), cj_set (by rw [hD.1]; omega)]
  | succ d ih =>
    intro i j P W S C hi1 hi hj hP hW hS hC h hl K
    rw [cj_in] at h
    cases e : cj_sl k i j P S C with
    | none => rw [e] at h; exact nomatch h
    | some z =>
      obtain ⟨j1, P1, W1, S1, C1⟩ := z
      rw [e] at h
      refine br_f (nI_ge (by omega) (by omega)) ?_
      refine cj_slX hk hi1 (by omega) hj hP hW hS hC e (fun h1 h2 h3 h4 h5 => ?_)
      exact nm_r (nI_1 i) (ih (i + 1) j1 P1 W1 S1 C1 (by omega) (by omega) h1 h2 h3 h4 h5 h hl K)
theorem cj_72 {post : SX → Prop} {n : Nat} {j' : Nat} {P' W' S' C' D' E' : List Nat} (hn1 : 1 ≤ n) (hn : n ≤ 4) (K : post (nI n, f_count, nI j', f_known, a_word, cj_fa P', cj_fa W', cj_fa S', cj_fa C', cj_fa D', cj_fa E', a_power, a_next, a_result, a_scaled, a_many, a_later, a_tally, a_matrix, a_track, a_component)) :
    ∀ f k j P W S C D E, j ≤ 14 → k ≤ 14 → cj_I P 112 → cj_I W 8 → cj_I S 56 → cj_I C 56 → cj_I D 14 → cj_I E 8 → cj_out n f k j P W S C D E = some (j', P', W', S', C', D', E') →
    wX_findJoinings_72 post f (nI k) (nI n) f_count (nI j) f_known a_word (cj_fa P) (cj_fa W) (cj_fa S) (cj_fa C) (cj_fa D) (cj_fa E) a_power a_next a_result a_scaled a_many a_later a_tally a_matrix a_track a_component := by
  intro f
  induction f with
  | zero => intro k j P W S C D E _ _ _ _ _ _ _ _ h; exact nomatch h
  | succ f ih =>
    intro k j P W S C D E hj hk hP hW hS hC hD hE h
    rw [cj_out] at h
    by_cases hc : k < j ∧ k < 14
    · rw [if_pos hc] at h
      refine br_f (nI_ge hc.1 (by omega)) (br_f (nI_ge (b := 14) hc.2 (by omega)) ⟨n - 1 + 1, ?_⟩)
      cases e : cj_in k (n - 1) 1 j P W S C with
      | none => rw [e] at h; exact nomatch h
      | some z =>
        obtain ⟨j1, P1, W1, S1, C1⟩ := z
        rw [e] at h
        dsimp only at h
        cases e2 : cj_lo P1 k n 0 0 (List.replicate 8 0) with
        | none => rw [e2] at h; exact nomatch h
        | some z =>
          obtain ⟨r, E1⟩ := z
          rw [e2] at h
          exact cj_88 hn hc.2 hD hE (n - 1) 1 j P W S C (by omega) (by omega) hj hP hW hS hC e e2 (fun h1 h2 h3 h4 h5 h6 h7 => ih (k + 1) j1 P1 W1 S1 C1 _ E1 h1 (by omega) h2 h3 h4 h5 h6 h7 h)
    · rw [if_neg hc] at h
      have h2 := Option.some.inj h
      simp only [Prod.mk.injEq] at h2
      obtain ⟨rfl, rfl, rfl, rfl, rfl, rfl, rfl⟩ := h2
      by_cases h1 : j ≤ k
      · exact br_t (nI_le h1 (by omega)) K
      · exact br_f (nI_ge (by omega) (by omega)) (br_t (nI_le (a := 14) (by omega) (by omega)) K)
theorem cj_w2 {post : SX → Prop} {n : Nat} (hn : n ≤ 4) (K : wpX_numberOf (fun _ u => match u with | (f_strands, f_count, f_joinings, f_known, a_word, a_partner, a_work, a_shut, a_closes, a_closed, a_seen, a_power, a_next, a_result, a_scaled, a_many, a_later, a_tally, a_matrix, a_track, a_component) => ∃ n72 : Nat, wX_findJoinings_72 post n72 0 f_strands f_count f_joinings f_known a_word a_partner a_work a_shut a_closes a_closed a_seen a_power a_next a_result a_scaled a_many a_later a_tally a_matrix a_track a_component) (nI n, f_count, f_joinings, f_known, a_word, a_partner, cj_fa (cj_w n 4), a_shut, a_closes, a_closed, a_seen, a_power, a_next, a_result, a_scaled, a_many, a_later, a_tally, a_matrix, a_track, a_component)) :
    ∀ d i, i + d = 4 → wX_findJoinings_2 post (nI n) f_count f_joinings f_known (d + 1) (nI i) a_word a_partner (cj_fa (cj_w n i)) a_shut a_closes a_closed a_seen a_power a_next a_result a_scaled a_many a_later a_tally a_matrix a_track a_component := by
  intro d
  induction d with
  | zero =>
    intro i h
    have : i = 4 := by omega
    subst this
    exact br_t (by decide) K
  | succ d ih =>
    intro i h
    have I := ih (i + 1) (by omega)
    have hI := cj_wI n i (by omega)
    refine br_f (nI_ge (b := 4) (by omega) (by omega)) ?_
    by_cases hi : n ≤ i
    · rw [cj_w, if_neg (by omega), if_neg (by omega)] at I
      refine br_t (nI_le hi (by omega)) ?_
      refine And.intro (vp_in_nI (by omega) (by omega)) (nm_r (e' := cj_fa ((cj_w n i).set i i)) ?_ (cj_bel (4 + i) cj_e4 (br_t (nI_le hi (by omega)) (cj_bel (4 + i) cj_e4 ⟨vp_in_nI (by omega) (by omega), nm_r (e' := cj_fa (((cj_w n i).set i i).set (4 + i) (4 + i))) ?_ (nm_r (nI_1 i) I)⟩))))
      · rw [nI_clamp (by omega), bk_nbb (by omega), cj_set (by rw [hI.1]; omega)]
      · rw [nI_clamp (by omega), bk_nbb (by omega), cj_set (by rw [List.length_set, hI.1]; omega)]
    · rw [cj_w, if_pos (by omega), if_pos (by omega)] at I
      refine br_f (nI_ge (by omega) (by omega)) (cj_bel (4 + i) cj_e4 ?_)
      refine And.intro (vp_in_nI (by omega) (by omega)) (nm_r (e' := cj_fa ((cj_w n i).set i (4 + i))) ?_ (cj_bel (4 + i) cj_e4 (br_f (nI_ge (by omega) (by omega)) ⟨vp_in_nI (by omega) (by omega), nm_r (e' := cj_fa (((cj_w n i).set i (4 + i)).set (4 + i) i)) ?_ (nm_r (nI_1 i) I)⟩)))
      · rw [nI_clamp (by omega), bk_nbb (by omega), cj_set (by rw [hI.1]; omega)]
      · rw [nI_clamp (by omega), bk_nbb (by omega), cj_set (by rw [List.length_set, hI.1]; omega)]
end
theorem cj_init {post : SX → Prop} {n : Nat} (hn1 : 2 ≤ n) (hn : n ≤ 4) (K : post (nI n, 0, nI (tb_J n), 0, fun _ => 0, cj_fa (tb_P n), cj_fa (tb_W n), cj_fa (tb_S n), cj_fa (tb_C n), cj_fa (tb_D n), cj_fa (tb_E n), fun _ => 0, fun _ => 0, fun _ => 0, fun _ => 0, fun _ => 0, fun _ => 0, fun _ => 0, fun _ => 0, fun _ => 0, fun _ => 0)) :
    wX_init_162 post (nI n) 0 0 0 0 (fun _ => 0) (fun _ => 0) (fun _ => 0) (fun _ => 0) (fun _ => 0) (fun _ => 0) (fun _ => 0) (fun _ => 0) (fun _ => 0) (fun _ => 0) (fun _ => 0) (fun _ => 0) (fun _ => 0) (fun _ => 0) (fun _ => 0) (fun _ => 0) (fun _ => 0) := by
  have hall : cj_all n = some (tb_J n, tb_P n, tb_W n, tb_S n, tb_C n, tb_D n, tb_E n) := by
    have : n = 2 ∨ n = 3 ∨ n = 4 := by omega
    rcases this with rfl | rfl | rfl
    · exact cj_all_of cj_all2
    · exact cj_all_of cj_all3
    · exact cj_all_of cj_all4
  unfold wX_init_162
  refine ⟨5, ?_⟩
  have hz : ∀ N, (fun _ => (0 : Int32)) = cj_fa (List.replicate N 0) := fun N => (cj_rep N).symm
  unfold cj_all at hall
  cases e : cj_num 0 (List.replicate 112 0) (cj_w n 4) with
  | none => rw [e] at hall; exact nomatch hall
  | some z =>
    obtain ⟨q, j1, P1⟩ := z
    rw [e] at hall
    have W2 := cj_w2 (post := post) (n := n) (f_count := 0) (f_joinings := nI 0) (f_known := 0) (a_word := fun _ => 0) (a_partner := cj_fa (List.replicate 112 0)) (a_shut := cj_fa (List.replicate 56 0)) (a_closes := cj_fa (List.replicate 56 0)) (a_closed := cj_fa (List.replicate 14 0)) (a_seen := cj_fa (List.replicate 8 0)) (a_power := fun _ => 0) (a_next := fun _ => 0) (a_result := fun _ => 0) (a_scaled := fun _ => 0) (a_many := fun _ => 0) (a_later := fun _ => 0) (a_tally := fun _ => 0) (a_matrix := fun _ => 0) (a_track := fun _ => 0) (a_component := fun _ => 0) hn
      (cj_numX (by omega) (cj_Irep 112) (cj_wI n 4 (by omega)) e (fun h1 h2 h3 => ⟨20, cj_72 (by omega) hn K 20 0 j1 P1 _ _ _ _ _ h1 (by omega) h3 (cj_wI n 4 (by omega)) (cj_Irep 56) (cj_Irep 56) (cj_Irep 14) (cj_Irep 8) hall⟩)) 4 0 rfl
    simp only [cj_w, cj_rep] at W2
    exact W2
end
section
-- union-find: the walk of the reference's count
/-- g holds links downwards; R x: the root of x -/
def uf_U (g : Nat → Int32) (R : Nat → Nat) : Prop := ∀ x, x < 40 → R x ≤ x ∧ ∃ y, y ≤ x ∧ g x = nI y ∧ R y = R x ∧ (y = x ↔ R x = x)
theorem uf_id {g : Nat → Int32} {R : Nat → Nat} (h : uf_U g R) : ∀ n x, x < n → x < 40 → R (R x) = R x := by
  intro n
  induction n with
  | zero => intro x h1; omega
  | succ n ih =>
    intro x h1 h2
    obtain ⟨hr, y, hy, e, hR, hyx⟩ := h x h2
    by_cases q : y = x
    · rw [hyx.mp q, hyx.mp q]
    · rw [← hR]
      exact ih y (by omega) (by omega)
theorem uf_link {g : Nat → Int32} {R : Nat → Nat} {a b : Nat} (h : uf_U g R) (hb : b ≤ a) (ra : R a = a) (rb : R b = b) : uf_U (upd g a (nI b)) (fun z => if R z = a then b else R z) := by
  intro z hz
  obtain ⟨hr, w, hw, e, hR, hwz⟩ := h z hz
  dsimp only
  by_cases q : z = a
  · subst q
    rw [if_pos ra]
    refine ⟨hb, b, hb, pk_us, ?_, Iff.rfl⟩
    rw [rb]
    split <;> rfl
  · by_cases q2 : R z = a
    · rw [if_pos q2]
      refine ⟨by omega, w, hw, by rw [pk_un q]; exact e, ?_, ?_⟩
      · rw [hR, if_pos q2]
      · constructor
        · intro k; have := hwz.mp k; omega
        · intro k; omega
    · rw [if_neg q2]
      refine ⟨hr, w, hw, by rw [pk_un q]; exact e, ?_, hwz⟩
      rw [hR, if_neg q2]
def uf_j (R : Nat → Nat) (x y : Nat) : Nat → Nat := fun z => if R y ≤ R x then (if R z = R x then R y else R z) else (if R z = R y then R x else R z)
def uf_q (A B p : Nat) (b : Bool) (R : Nat → Nat) : Nat → Nat → Nat
  | 0 => R
  | q + 1 => if b = true ∧ (q + 1 = p ∨ q = p) then uf_q A B p b R q else uf_j (uf_q A B p b R q) (A + q) (B + q)
def uf_pass (n A B p : Nat) (b : Bool) (R : Nat → Nat) : Nat → Nat := uf_q A B p b (match b with | true => uf_j (uf_j R (A + p - 1) (A + p)) (B + p - 1) (B + p) | false => R) n
def uf_bit (x : Int32) (i : Nat) : Bool := decide (((x >>> (nI i &&& 31)) &&& 1) = 1)
def uf_R (n c : Nat) (w : Nat → Int32) (bt : Nat → Bool) : Nat → Nat → Nat
  | 0 => fun x => x
  | k + 1 => uf_pass n (4 * k) (if k + 1 = c then 0 else 4 * k + 4) (bk_p (w k)) (bt k) (uf_R n c w bt k)
def uf_rc (n : Nat) (R : Nat → Nat) : Nat → Nat
  | 0 => 0
  | x + 1 => uf_rc n R x + (if x % 4 < n ∧ R x = x then 1 else 0)
def uf_L (n c : Nat) (w : Nat → Int32) (bt : Nat → Bool) : Nat := if c = 0 then n else uf_rc n (uf_R n c w bt c) (4 * c)
section
variable {g_n g_len g_known : Int32} {b_word b_joined b_many b_coefficients b_colours b_component : Nat → Int32}
theorem uf_least {post : Int32 → Prop} {R : Nat → Nat} (h : uf_U b_joined R) : ∀ n x, x < 40 → x < n → post (nI (R x)) → wY_least_2 post g_n g_len g_known b_word b_joined b_many b_coefficients b_colours b_component n (nI x) := by
  intro n
  induction n with
  | zero => intro x _ h1; omega
  | succ n ih =>
    intro x h1 h2 K
    obtain ⟨hr, y, hy, e, hR, hyx⟩ := h x h1
    refine And.intro (vp_in_nI h1 (by omega)) ?_
    rw [nI_clamp (by omega), e]
    by_cases q : y = x
    · rw [hyx.mp q] at K
      exact br_t (congrArg nI q) K
    · refine br_f (fun z => q ((nI_eq (by omega) (by omega)).mp z)) ⟨vp_in_nI h1 (by omega), nm_e (ih y (by omega) (by omega) ?_)⟩
      rw [hR]
      exact K
theorem uf_join {post : SY → Prop} {R : Nat → Nat} {x y : Nat} (h : uf_U b_joined R) (hx : x < 40) (hy : y < 40) (K : ∀ g, uf_U g (uf_j R x y) → post (g_n, g_len, g_known, b_word, g, b_many, b_coefficients, b_colours, b_component)) : wpY_join post (g_n, g_len, g_known, b_word, b_joined, b_many, b_coefficients, b_colours, b_component) (nI x) (nI y) := by
  have ix := uf_id h _ x (Nat.lt_succ_self _) hx
  have iy := uf_id h _ y (Nat.lt_succ_self _) hy
  have lx := (h x hx).1
  have ly := (h y hy).1
  refine ⟨x + 1, uf_least h _ x hx (by omega) ⟨y + 1, uf_least h _ y hy (by omega) ?_⟩⟩
  by_cases q : R y ≤ R x
  · refine br_t (nI_le q (by omega)) ⟨vp_in_nI (by omega) (by omega), nm_r (e' := upd b_joined (R x) (nI (R y))) (by rw [nI_clamp (by omega)]) (K _ ?_)⟩
    have e : uf_j R x y = fun z => if R z = R x then R y else R z := by
      funext z
      exact if_pos q
    rw [e]
    exact uf_link h q ix iy
  · refine br_f (nI_ge (by omega) (by omega)) ⟨vp_in_nI (by omega) (by omega), nm_r (e' := upd b_joined (R y) (nI (R x))) (by rw [nI_clamp (by omega)]) (K _ ?_)⟩
    have e : uf_j R x y = fun z => if R z = R y then R x else R z := by
      funext z
      exact if_neg q
    rw [e]
    exact uf_link h (by omega) iy ix
theorem uf_74 {post : SY → Prop} {R : Nat → Nat} {n A B p : Nat} {b : Bool} (hn : n ≤ 4) (hA : A + 4 ≤ 40) (hB : B + 4 ≤ 40) (hp : 1 ≤ p) (hp4 : p < 4) (K : ∀ g, uf_U g (uf_q A B p b R n) → post (nI n, g_len, g_known, b_word, g, b_many, b_coefficients, b_colours, b_component)) :
    ∀ d q g, q + d = n → uf_U g (uf_q A B p b R q) → wY_pass_74 post (cj_b b) (nI A) (nI B) (nI p) (d + 1) (nI q) (nI n) g_len g_known b_word g b_many b_coefficients b_colours b_component := by
  intro d
  induction d with
  | zero =>
    intro q g h U
    have : q = n := by omega
    subst this
    exact br_t (nI_le (Nat.le_refl _) (by omega)) (K g U)
  | succ d ih =>
    intro q g h U
    refine br_f (nI_ge (by omega) (by omega)) ?_
    have eA : nI A + nI q = nI (A + q) := nI_add A q
    have eB : nI B + nI q = nI (B + q) := nI_add B q
    have hj : ¬ (b = true ∧ (q + 1 = p ∨ q = p)) → wY_pass_103 post (wY_pass_74 post (cj_b b) (nI A) (nI B) (nI p) (d + 1)) (cj_b b) (nI A) (nI B) (nI p) (nI q) (nI n) g_len g_known b_word g b_many b_coefficients b_colours b_component := by
      intro hq
      unfold wY_pass_103
      rw [eA, eB]
      refine uf_join U (by omega) (by omega) (fun g' U' => nm_r (nI_1 q) (ih (q + 1) g' (by omega) ?_))
      rw [uf_q, if_neg hq]
      exact U'
    have hk : (b = true ∧ (q + 1 = p ∨ q = p)) → wY_pass_74 post (cj_b b) (nI A) (nI B) (nI p) (d + 1) (nI (q + 1)) (nI n) g_len g_known b_word g b_many b_coefficients b_colours b_component := by
      intro hq
      refine ih (q + 1) g (by omega) ?_
      rw [uf_q, if_pos hq]
      exact U
    cases b with
    | false => exact br_t rfl (hj (fun z => nomatch z.1))
    | true =>
      refine br_f (show ¬ (1 : Int32) = 0 by decide) ?_
      have e1 : nI p - 1 = nI (p - 1) := bk_s1 hp
      rw [e1]
      refine pk_eq q (p - 1) (fun e => nm_r (nI_1 q) (hk ⟨rfl, by omega⟩)) (fun e1 => pk_eq q p (fun e => nm_r (nI_1 q) (hk ⟨rfl, by omega⟩)) (fun e2 => hj (fun z => ?_)))
      have := z.2
      omega
theorem uf_23 {post : SY → Prop} {R : Nat → Nat} {n k A B : Nat} {b : Bool} (hn : n ≤ 4) (hk : k < 10) (hA : A + 4 ≤ 40) (hB : B + 4 ≤ 40) (hw : bk_L n (b_word k)) (U : uf_U b_joined R) (K : ∀ g, uf_U g (uf_pass n A B (bk_p (b_word k)) b R) → post (nI n, g_len, g_known, b_word, g, b_many, b_coefficients, b_colours, b_component)) :
    wY_pass_23 post (nI k) (cj_b b) (nI A) (nI B) (nI n) g_len g_known b_word b_joined b_many b_coefficients b_colours b_component := by
  obtain ⟨p1, p2⟩ := bk_Lp hw hn
  refine And.intro (vp_in_nI hk (by omega)) ?_
  rw [nI_clamp (by omega)]
  refine bk_sizeY hw hn ?_
  generalize bk_p (b_word k) = p at *
  cases b with
  | false => exact br_t rfl ⟨n + 1, uf_74 (b := false) (R := R) hn hA hB p1 (by omega) K n 0 b_joined (by omega) U⟩
  | true =>
    have e1 : nI A + nI p - 1 = nI (A + p - 1) := by rw [nI_add, bk_s1 (by omega)]
    have e2 : nI A + nI p = nI (A + p) := nI_add A p
    have e3 : nI B + nI p - 1 = nI (B + p - 1) := by rw [nI_add, bk_s1 (by omega)]
    have e4 : nI B + nI p = nI (B + p) := nI_add B p
    refine br_f (show ¬ (1 : Int32) = 0 by decide) ?_
    rw [e1, e2]
    refine uf_join U (by omega) (by omega) (fun g1 U1 => ?_)
    dsimp only
    rw [e3, e4]
    refine uf_join U1 (by omega) (by omega) (fun g2 U2 => ?_)
    exact ⟨n + 1, uf_74 (b := true) hn hA hB p1 (by omega) K n 0 g2 (by omega) U2⟩
theorem uf_passY {post : SY → Prop} {R : Nat → Nat} {n c k : Nat} {b : Bool} (hn : n ≤ 4) (hc : c ≤ 10) (hk : k < c) (hw : bk_L n (b_word k)) (U : uf_U b_joined R) (K : ∀ g, uf_U g (uf_pass n (4 * k) (if k + 1 = c then 0 else 4 * k + 4) (bk_p (b_word k)) b R) → post (nI n, nI c, g_known, b_word, g, b_many, b_coefficients, b_colours, b_component)) :
    wpY_pass post (nI n, nI c, g_known, b_word, b_joined, b_many, b_coefficients, b_colours, b_component) (nI k) (cj_b b) := by
  have e1 : (4 : Int32) * nI k = nI (4 * k) := pk_mul 4 k
  refine nm_r e1 ?_
  rw [bk_s1 (a := c) (by omega)]
  refine pk_eq k (c - 1) (fun e => ?_) (fun e => ?_)
  · rw [if_pos (by omega)] at K
    exact uf_23 (B := 0) hn (by omega) (by omega) (by omega) hw U K
  · rw [if_neg (by omega)] at K
    rw [show (4 : Int32) * nI k + 4 = nI (4 * k + 4) from bk_ix 4 k 4]
    exact uf_23 hn (by omega) (by omega) (by omega) hw U K
theorem uf_72 {post : Int32 → SY → Prop} {R : Nat → Nat} {n c : Nat} (hn : n ≤ 4) (hc : c ≤ 10) (U : uf_U b_joined R) (K : post (nI (uf_rc n R (4 * c))) (nI n, nI c, g_known, b_word, b_joined, b_many, b_coefficients, b_colours, b_component)) :
    ∀ d x, x + d = 4 * c → wY_count_72 post (nI n) (nI c) g_known b_word b_joined b_many b_coefficients b_colours b_component (d + 1) (nI (uf_rc n R x)) (nI x) := by
  have e4 : (4 : Int32) * nI c = nI (4 * c) := pk_mul 4 c
  intro d
  induction d with
  | zero =>
    intro x h
    have : x = 4 * c := by omega
    subst this
    refine br_t ?_ K
    rw [e4]
    exact nI_le (Nat.le_refl _) (by omega)
  | succ d ih =>
    intro x h
    have I := ih (x + 1) (by omega)
    rw [uf_rc] at I
    refine br_f ?_ ⟨by decide, ?_⟩
    · rw [e4]; exact nI_ge (by omega) (by omega)
    · have em : nI x - nI x / 4 * 4 = nI (x % 4) := pk_rem (d := 4) (by omega) (by omega) (by omega)
      rw [em]
      refine pk_le n (x % 4) (fun e => nm_r (nI_1 x) ?_) (fun e => ⟨vp_in_nI (by omega) (by omega), ?_⟩)
      · rw [if_neg (by omega)] at I
        exact I
      · obtain ⟨hr, y, hy, ey, hR, hyx⟩ := U x (by omega)
        rw [nI_clamp (by omega), ey]
        refine pk_eq y x (fun q => nm_r (nI_1 _) (nm_r (nI_1 x) ?_)) (fun q => nm_r (nI_1 x) ?_)
        · rw [if_pos ⟨e, hyx.mp q⟩] at I
          exact I
        · rw [if_neg (fun z => q (hyx.mpr z.2))] at I
          exact I
theorem uf_35 {post : Int32 → SY → Prop} {n c : Nat} {st : Int32} (hn : n ≤ 4) (hc : c ≤ 10) (hw : ∀ i, i < c → bk_L n (b_word i)) (K : ∀ g, post (nI (uf_rc n (uf_R n c b_word (uf_bit st) c) (4 * c))) (nI n, nI c, g_known, b_word, g, b_many, b_coefficients, b_colours, b_component)) :
    ∀ d k g, k + d = c → uf_U g (uf_R n c b_word (uf_bit st) k) → wY_count_35 post st (d + 1) (nI k) (nI n) (nI c) g_known b_word g b_many b_coefficients b_colours b_component := by
  intro d
  induction d with
  | zero =>
    intro k g h U
    have : k = c := by omega
    subst this
    exact br_t (nI_le (Nat.le_refl _) (by omega)) ⟨4 * k + 1, uf_72 hn hc U (K g) (4 * k) 0 (by omega)⟩
  | succ d ih =>
    intro k g h U
    refine br_f (nI_ge (by omega) (by omega)) (bk_br (uf_bit st k) (by rw [uf_bit, decide_eq_true_eq]) (fun hb => ?_) (fun hb => ?_))
    · have P := uf_passY (post := fun u => match u with | (n1, l1, k1, w1, j1, m1, c1, o1, p1) => ∀ x : Int32, x = nI k + 1 → wY_count_35 post st (d + 1) x n1 l1 k1 w1 j1 m1 c1 o1 p1) (b := true) (g_known := g_known) (b_many := b_many) (b_coefficients := b_coefficients) (b_colours := b_colours) (b_component := b_component) (k := k) hn hc (by omega) (hw k (by omega)) U (fun g' U' => nm_r (nI_1 k) (ih (k + 1) g' (by omega) (by rw [uf_R, hb]; exact U')))
      exact P
    · have P := uf_passY (post := fun u => match u with | (n1, l1, k1, w1, j1, m1, c1, o1, p1) => ∀ x : Int32, x = nI k + 1 → wY_count_35 post st (d + 1) x n1 l1 k1 w1 j1 m1 c1 o1 p1) (b := false) (g_known := g_known) (b_many := b_many) (b_coefficients := b_coefficients) (b_colours := b_colours) (b_component := b_component) (k := k) hn hc (by omega) (hw k (by omega)) U (fun g' U' => nm_r (nI_1 k) (ih (k + 1) g' (by omega) (by rw [uf_R, hb]; exact U')))
      exact P
theorem uf_count {post : Int32 → SY → Prop} {n c : Nat} {st : Int32} (hn : n ≤ 4) (hc : c ≤ 10) (hw : ∀ i, i < c → bk_L n (b_word i)) (K : ∀ g, post (nI (uf_L n c b_word (uf_bit st))) (nI n, nI c, g_known, b_word, g, b_many, b_coefficients, b_colours, b_component)) :
    wpY_count post (nI n, nI c, g_known, b_word, b_joined, b_many, b_coefficients, b_colours, b_component) st := by
  refine pk_eq c 0 (fun e => ?_) (fun e => ⟨40 - 0 + 1, ?_⟩)
  · have := K b_joined
    rw [uf_L, if_pos e] at this
    exact this
  · rw [uf_L, if_neg e] at K
    refine bk_fill (W := fun m x a => wY_count_14 post st (nI n) (nI c) g_known m x b_word a b_many b_coefficients b_colours b_component) 0 40 (by omega) nI b_joined (fun m => ?_) ?_
    · refine br_t (by decide) ⟨c + 1, uf_35 hn hc hw K c 0 _ (by omega) ?_⟩
      intro x hx
      exact ⟨Nat.le_refl _, x, Nat.le_refl _, bk_ff_in (by omega) hx, rfl, Iff.rfl.trans ⟨fun _ => rfl, fun _ => rfl⟩⟩
    · intro m x a h1 h2 h3 h4
      exact br_f (nI_ge (b := 40) (by omega) (by omega)) ⟨vp_in_nI (by omega) (by omega), nm_r (e' := upd a x (nI x)) (by rw [nI_clamp (by omega)]) (nm_r (nI_1 x) h4)⟩
end
end
section
-- the component's loops, and the law: the joinings count what the union-find counts
def ul_S (n k p : Nat) : Nat := (tb_S n).getD (4 * k + p) 0
def ul_C (n k p : Nat) : Nat := (tb_C n).getD (4 * k + p) 0
def ul_D (n k : Nat) : Nat := (tb_D n).getD k 0
/-- joining and closed loops behind i letters -/
def ul_tr (n : Nat) (w : Nat → Int32) (bt : Nat → Bool) : Nat → Nat × Nat
  | 0 => (0, 0)
  | i + 1 => if bt i = true then (ul_S n (ul_tr n w bt i).1 (bk_p (w i)), (ul_tr n w bt i).2 + ul_C n (ul_tr n w bt i).1 (bk_p (w i))) else ul_tr n w bt i
def ul_lab (n k a : Nat) : Nat := if (tb_P n).getD (8 * k + a) 0 < a then (tb_P n).getD (8 * k + a) 0 else a
def ul_j (L : List Nat) (x y : Nat) : List Nat := L.map fun l => if l = L.getD y 0 then L.getD x 0 else l
def ul_J (s : List Nat × Nat) (x y : Nat) : List Nat × Nat := (ul_j s.1 x y, if s.1.getD x 0 = s.1.getD y 0 then s.2 else s.2 + 1)
def ul_q (B p : Nat) (b : Bool) (s : List Nat × Nat) : Nat → List Nat × Nat
  | 0 => s
  | q + 1 => if b = true ∧ (q + 1 = p ∨ q = p) then ul_q B p b s q else ul_J (ul_q B p b s q) (4 + q) (B + q)
def ul_pass (n B p : Nat) (b : Bool) (L : List Nat) : List Nat × Nat := ul_q B p b (match b with | true => ul_J (ul_J (L, 0) (4 + p - 1) (4 + p)) (B + p - 1) (B + p) | false => (L, 0)) n
def ul_L0 (n k : Nat) : List Nat := [ul_lab n k 0, ul_lab n k 1, ul_lab n k 2, ul_lab n k 3, ul_lab n k 4, ul_lab n k 5, ul_lab n k 6, ul_lab n k 7, 8, 9, 10, 11]
def ul_to (n k p : Nat) (b : Bool) : Nat := match b with | true => ul_S n k p | false => k
def ul_cl (n k p : Nat) (b : Bool) : Nat := match b with | true => ul_C n k p | false => 0
def ul_tn (a : Nat) : Nat := if a < 4 then a else a + 4
def ul_same (n : Nat) (L : List Nat) (k : Nat) : Bool := (List.range 8).all fun a => (List.range 8).all fun b => !(decide (a % 4 < n) && decide (b % 4 < n)) || (decide (L.getD (ul_tn a) 0 = L.getD (ul_tn b) 0) == decide (ul_lab n k a = ul_lab n k b))
def ul_chk (n k p : Nat) (b : Bool) : Bool := ul_same n (ul_pass n 8 p b (ul_L0 n k)).1 (ul_to n k p b) && (decide ((ul_pass n 8 p b (ul_L0 n k)).2 + ul_cl n k p b = n) && (decide ((ul_pass n 0 p b (ul_L0 n k)).2 + ul_cl n k p b + ul_D n (ul_to n k p b) = n) && (decide (ul_to n k p b < tb_J n) && decide (ul_cl n k p b ≤ 1))))
theorem ul_chk2 : ∀ k, k < tb_J 2 → ∀ p, p < 2 → 1 ≤ p → ul_chk 2 k p true = true ∧ ul_chk 2 k p false = true := by decide +kernel
theorem ul_chk3 : ∀ k, k < tb_J 3 → ∀ p, p < 3 → 1 ≤ p → ul_chk 3 k p true = true ∧ ul_chk 3 k p false = true := by decide +kernel
theorem ul_chk4 : ∀ k, k < tb_J 4 → ∀ p, p < 4 → 1 ≤ p → ul_chk 4 k p true = true ∧ ul_chk 4 k p false = true := by decide +kernel
theorem ul_chkA {n k p : Nat} (b : Bool) (h2 : 2 ≤ n) (h4 : n ≤ 4) (hk : k < tb_J n) (hp1 : 1 ≤ p) (hp : p < n) : ul_chk n k p b = true := by
  have : n = 2 ∨ n = 3 ∨ n = 4 := by omega
  rcases this with rfl | rfl | rfl
  · cases b
    · exact (ul_chk2 k hk p hp hp1).2
    · exact (ul_chk2 k hk p hp hp1).1
  · cases b
    · exact (ul_chk3 k hk p hp hp1).2
    · exact (ul_chk3 k hk p hp hp1).1
  · cases b
    · exact (ul_chk4 k hk p hp hp1).2
    · exact (ul_chk4 k hk p hp hp1).1
theorem ul_Dr {n k : Nat} (h2 : 2 ≤ n) (h4 : n ≤ 4) (hk : k < tb_J n) : 1 ≤ ul_D n k ∧ ul_D n k ≤ 4 := by
  have : n = 2 ∨ n = 3 ∨ n = 4 := by omega
  rcases this with rfl | rfl | rfl
  · exact (by decide +kernel : ∀ k, k < tb_J 2 → 1 ≤ ul_D 2 k ∧ ul_D 2 k ≤ 4) k hk
  · exact (by decide +kernel : ∀ k, k < tb_J 3 → 1 ≤ ul_D 3 k ∧ ul_D 3 k ≤ 4) k hk
  · exact (by decide +kernel : ∀ k, k < tb_J 4 → 1 ≤ ul_D 4 k ∧ ul_D 4 k ≤ 4) k hk
theorem ul_J14 {n : Nat} (h2 : 2 ≤ n) (h4 : n ≤ 4) : 1 ≤ tb_J n ∧ tb_J n ≤ 14 := by
  have : n = 2 ∨ n = 3 ∨ n = 4 := by omega
  rcases this with rfl | rfl | rfl <;> decide
theorem ul_D0 {n : Nat} (h2 : 2 ≤ n) (h4 : n ≤ 4) : ul_D n 0 = n := by
  have : n = 2 ∨ n = 3 ∨ n = 4 := by omega
  rcases this with rfl | rfl | rfl <;> decide
theorem ul_lab0 {n : Nat} (h2 : 2 ≤ n) (h4 : n ≤ 4) {a : Nat} (ha : a < 8) (hv : a % 4 < n) : ul_lab n 0 a = a % 4 := by
  have : n = 2 ∨ n = 3 ∨ n = 4 := by omega
  rcases this with rfl | rfl | rfl
  · exact (by decide +kernel : ∀ a, a < 8 → a % 4 < 2 → ul_lab 2 0 a = a % 4) a ha hv
  · exact (by decide +kernel : ∀ a, a < 8 → a % 4 < 3 → ul_lab 3 0 a = a % 4) a ha hv
  · exact (by decide +kernel : ∀ a, a < 8 → a % 4 < 4 → ul_lab 4 0 a = a % 4) a ha hv
theorem ul_labL (n k : Nat) : ∀ a, a < 8 → (ul_L0 n k).getD a 0 = ul_lab n k a := by
  intro a ha
  have : a = 0 ∨ a = 1 ∨ a = 2 ∨ a = 3 ∨ a = 4 ∨ a = 5 ∨ a = 6 ∨ a = 7 := by omega
  rcases this with rfl | rfl | rfl | rfl | rfl | rfl | rfl | rfl <;> rfl
theorem ul_labH (n k : Nat) : ∀ a, 8 ≤ a → a < 12 → (ul_L0 n k).getD a 0 = a := by
  intro a ha hb
  have : a = 8 ∨ a = 9 ∨ a = 10 ∨ a = 11 := by omega
  rcases this with rfl | rfl | rfl | rfl <;> rfl
theorem ul_lab_lt {n k a : Nat} : ul_lab n k a ≤ a := by
  unfold ul_lab
  split <;> omega
theorem ul_sameE {n : Nat} {L : List Nat} {k : Nat} (h : ul_same n L k = true) {a b : Nat} (ha : a < 8) (hb : b < 8) (va : a % 4 < n) (vb : b % 4 < n) : L.getD (ul_tn a) 0 = L.getD (ul_tn b) 0 ↔ ul_lab n k a = ul_lab n k b := by
  unfold ul_same at h
  have h1 := List.all_eq_true.mp h a (List.mem_range.mpr ha)
  have h2 := List.all_eq_true.mp h1 b (List.mem_range.mpr hb)
  rw [decide_eq_true va, decide_eq_true vb] at h2
  have h3 : decide (L.getD (ul_tn a) 0 = L.getD (ul_tn b) 0) = decide (ul_lab n k a = ul_lab n k b) := by
    have h4 : (decide (L.getD (ul_tn a) 0 = L.getD (ul_tn b) 0) == decide (ul_lab n k a = ul_lab n k b)) = true := h2
    exact beq_iff_eq.mp h4
  exact decide_eq_decide.mp h3
theorem ul_jl (L : List Nat) (x y : Nat) : (ul_j L x y).length = L.length := List.length_map _
theorem ul_jg {L : List Nat} {x y a : Nat} (ha : a < L.length) : (ul_j L x y).getD a 0 = if L.getD a 0 = L.getD y 0 then L.getD x 0 else L.getD a 0 := by
  unfold ul_j
  rw [List.getD_eq_getElem?_getD (l := List.map _ _), List.getElem?_map, List.getElem?_eq_getElem ha]
  have e : L.getD a 0 = L[a] := by rw [List.getD_eq_getElem?_getD, List.getElem?_eq_getElem ha]; rfl
  rw [e]
  rfl
/-- the partition of the points pt a, a < M, by R is that of the labels; roots counted -/
def ul_V (n N M : Nat) (pt : Nat → Nat) (R : Nat → Nat) (s : List Nat × Nat) (t : Nat) : Prop :=
  (∀ a b, a < M → b < M → a % 4 < n → b % 4 < n → (R (pt a) = R (pt b) ↔ s.1.getD a 0 = s.1.getD b 0)) ∧ (∀ x, x < 40 → R x ≤ x ∧ R (R x) = R x ∧ (x % 4 < n → R x % 4 < n)) ∧ (∀ x, N ≤ x → x < 40 → R x = x) ∧ uf_rc n R N + s.2 = t ∧ M ≤ s.1.length
theorem ul_rc_same {n : Nat} {R R' : Nat → Nat} : ∀ N, (∀ z, z < N → (R' z = z ↔ R z = z)) → uf_rc n R' N = uf_rc n R N := by
  intro N
  induction N with
  | zero => intro _; rfl
  | succ N ih =>
    intro h
    rw [uf_rc, uf_rc, ih (fun z hz => h z (by omega))]
    have := h N (by omega)
    by_cases q : R N = N
    · simp only [this.mpr q, q]
    · have q2 : ¬ R' N = N := fun z => q (this.mp z)
      simp only [q, q2]
theorem ul_rc_less {n m : Nat} {R R' : Nat → Nat} (hm : R m = m) (hm' : ¬ R' m = m) (hv : m % 4 < n) (h : ∀ z, z ≠ m → (R' z = z ↔ R z = z)) : ∀ N, m < N → uf_rc n R' N + 1 = uf_rc n R N := by
  intro N
  induction N with
  | zero => intro h0; omega
  | succ N ih =>
    intro h0
    rw [uf_rc, uf_rc]
    by_cases q : m = N
    · subst q
      rw [ul_rc_same m (fun z hz => h z (by omega)), if_neg (fun z => hm' z.2), if_pos ⟨hv, hm⟩]
    · have i := ih (by omega)
      have := h N (by omega)
      have e : (if N % 4 < n ∧ R' N = N then 1 else 0) = (if N % 4 < n ∧ R N = N then 1 else 0) := by
        by_cases z : N % 4 < n ∧ R N = N
        · rw [if_pos z, if_pos ⟨z.1, this.mpr z.2⟩]
        · rw [if_neg z, if_neg (fun y => z ⟨y.1, this.mp y.2⟩)]
      omega
theorem ul_joinR {R : Nat → Nat} {x y a b La Lb Lx Ly : Nat} (hab : R a = R b ↔ La = Lb) (hax : R a = R x ↔ La = Lx) (hay : R a = R y ↔ La = Ly) (hbx : R b = R x ↔ Lb = Lx) (hby : R b = R y ↔ Lb = Ly) (hxy : R x = R y ↔ Lx = Ly) :
    uf_j R x y a = uf_j R x y b ↔ (if La = Ly then Lx else La) = (if Lb = Ly then Lx else Lb) := by
  unfold uf_j
  generalize R a = ra at *
  generalize R b = rb at *
  generalize R x = rx at *
  generalize R y = ry at *
  by_cases h1 : ry ≤ rx
  · rw [if_pos h1, if_pos h1]
    split <;> split <;> split <;> split <;> omega
  · rw [if_neg h1, if_neg h1]
    split <;> split <;> split <;> split <;> omega
theorem ul_step {n N M : Nat} {pt R : Nat → Nat} {s : List Nat × Nat} {t x y : Nat} (hN : N ≤ 40) (hpt : ∀ a, a < M → a % 4 < n → pt a < N ∧ pt a % 4 < n) (h : ul_V n N M pt R s t) (hx : x < M) (hy : y < M) (vx : x % 4 < n) (vy : y % 4 < n) : ul_V n N M pt (uf_j R (pt x) (pt y)) (ul_J s x y) t := by
  obtain ⟨h1, h2, h3, h4, h5⟩ := h
  obtain ⟨px, qx⟩ := hpt x hx vx
  obtain ⟨py, qy⟩ := hpt y hy vy
  obtain ⟨lx, ix, wx⟩ := h2 (pt x) (by omega)
  obtain ⟨ly, iy, wy⟩ := h2 (pt y) (by omega)
  refine ⟨?_, ?_, ?_, ?_, ?_⟩
  · intro a b ha hb va vb
    show uf_j R (pt x) (pt y) (pt a) = uf_j R (pt x) (pt y) (pt b) ↔ (ul_j s.1 x y).getD a 0 = (ul_j s.1 x y).getD b 0
    rw [ul_jg (by omega), ul_jg (by omega)]
    exact ul_joinR (h1 a b ha hb va vb) (h1 a x ha hx va vx) (h1 a y ha hy va vy) (h1 b x hb hx vb vx) (h1 b y hb hy vb vy) (h1 x y hx hy vx vy)
  · intro z hz
    obtain ⟨lz, iz, wz⟩ := h2 z hz
    have wx' := wx qx
    have wy' := wy qy
    unfold uf_j
    by_cases c : R (pt y) ≤ R (pt x)
    · simp only [if_pos c]
      by_cases d : R z = R (pt x)
      · simp only [if_pos d]
        refine ⟨by omega, ?_, fun _ => wy'⟩
        rw [iy]
        split <;> rfl
      · simp only [if_neg d]
        refine ⟨lz, ?_, wz⟩
        rw [iz, if_neg d]
    · simp only [if_neg c]
      by_cases d : R z = R (pt y)
      · simp only [if_pos d]
        refine ⟨by omega, ?_, fun _ => wx'⟩
        rw [ix]
        split <;> rfl
      · simp only [if_neg d]
        refine ⟨lz, ?_, wz⟩
        rw [iz, if_neg d]
  · intro z hz hz4
    have e := h3 z hz hz4
    unfold uf_j
    by_cases c : R (pt y) ≤ R (pt x)
    · rw [if_pos c, e, if_neg (by omega)]
    · rw [if_neg c, e, if_neg (by omega)]
  · show uf_rc n (uf_j R (pt x) (pt y)) N + (if s.1.getD x 0 = s.1.getD y 0 then s.2 else s.2 + 1) = t
    by_cases c : R (pt x) = R (pt y)
    · rw [if_pos ((h1 x y hx hy vx vy).mp c)]
      have e : uf_j R (pt x) (pt y) = R := by
        funext z
        unfold uf_j
        rw [c, if_pos (Nat.le_refl _)]
        split
        · rename_i q; exact q.symm
        · rfl
      rw [e]
      exact h4
    · rw [if_neg (fun z => c ((h1 x y hx hy vx vy).mpr z))]
      by_cases d : R (pt y) ≤ R (pt x)
      · have := ul_rc_less (n := n) (m := R (pt x)) (R := R) (R' := uf_j R (pt x) (pt y)) ix (by unfold uf_j; rw [if_pos d, if_pos ix]; omega) (wx qx) (fun z hz => by
          unfold uf_j
          rw [if_pos d]
          by_cases q : R z = R (pt x)
          · rw [if_pos q]
            constructor
            · intro k; have i2 := iy; rw [k] at i2; omega
            · intro k; omega
          · rw [if_neg q]) N (by omega)
        omega
      · have := ul_rc_less (n := n) (m := R (pt y)) (R := R) (R' := uf_j R (pt x) (pt y)) iy (by unfold uf_j; rw [if_neg d, if_pos iy]; omega) (wy qy) (fun z hz => by
          unfold uf_j
          rw [if_neg d]
          by_cases q : R z = R (pt y)
          · rw [if_pos q]
            constructor
            · intro k; have i2 := ix; rw [k] at i2; omega
            · intro k; omega
          · rw [if_neg q]) N (by omega)
        omega
  · show M ≤ (ul_j s.1 x y).length
    rw [ul_jl]
    exact h5
end
section
-- the law of loops
def ul_pt (k a : Nat) : Nat := if a < 4 then a else if a < 8 then 4 * k + (a - 4) else 4 * k + 4 + (a - 8)
theorem ul_pt0 {k a : Nat} (h : a < 4) : ul_pt k a = a := if_pos h
theorem ul_pt4 {k a : Nat} (h : a < 4) : ul_pt k (4 + a) = 4 * k + a := by
  unfold ul_pt
  rw [if_neg (by omega), if_pos (by omega)]; omega
theorem ul_pt8 {k a : Nat} : ul_pt k (8 + a) = 4 * k + 4 + a := by
  unfold ul_pt
  rw [if_neg (by omega), if_neg (by omega)]; omega
theorem ul_runq {n N M k B Ba p t : Nat} {b : Bool} {R : Nat → Nat} {s : List Nat × Nat} (hn : n ≤ 4) (hM : 8 ≤ M) (hN : N ≤ 40) (hpt : ∀ a, a < M → a % 4 < n → ul_pt k a < N ∧ ul_pt k a % 4 < n) (hB : ∀ q, q < n → ul_pt k (Ba + q) = B + q ∧ Ba + q < M ∧ (Ba + q) % 4 < n)
    (h : ul_V n N M (ul_pt k) R s t) : ∀ q, q ≤ n → ul_V n N M (ul_pt k) (uf_q (4 * k) B p b R q) (ul_q Ba p b s q) t := by
  intro q
  induction q with
  | zero => intro _; exact h
  | succ q ih =>
    intro hq
    have I := ih (by omega)
    rw [uf_q, ul_q]
    by_cases c : b = true ∧ (q + 1 = p ∨ q = p)
    · rw [if_pos c, if_pos c]
      exact I
    · rw [if_neg c, if_neg c]
      obtain ⟨e1, e2, e3⟩ := hB q (by omega)
      have S := ul_step hN hpt I (x := 4 + q) (y := Ba + q) (by omega) e2 (by omega) e3
      rw [ul_pt4 (by omega), e1] at S
      exact S
theorem ul_run {n N M k B Ba p t : Nat} {b : Bool} {R : Nat → Nat} {L : List Nat} (hn : n ≤ 4) (hp1 : 1 ≤ p) (hp : p < n) (hM : 8 ≤ M) (hN : N ≤ 40) (hpt : ∀ a, a < M → a % 4 < n → ul_pt k a < N ∧ ul_pt k a % 4 < n) (hB : ∀ q, q < n → ul_pt k (Ba + q) = B + q ∧ Ba + q < M ∧ (Ba + q) % 4 < n)
    (h : ul_V n N M (ul_pt k) R (L, 0) t) : ul_V n N M (ul_pt k) (uf_pass n (4 * k) B p b R) (ul_pass n Ba p b L) t := by
  refine ul_runq hn hM hN hpt hB ?_ n (Nat.le_refl _)
  cases b with
  | false => exact h
  | true =>
    have S := ul_step hN hpt h (x := 4 + (p - 1)) (y := 4 + p) (by omega) (by omega) (by omega) (by omega)
    rw [ul_pt4 (by omega), ul_pt4 (by omega)] at S
    obtain ⟨e1, e2, e3⟩ := hB (p - 1) (by omega)
    obtain ⟨f1, f2, f3⟩ := hB p (by omega)
    have S2 := ul_step hN hpt S (x := Ba + (p - 1)) (y := Ba + p) e2 f2 e3 f3
    rw [e1, f1] at S2
    show ul_V n N M (ul_pt k) (uf_j (uf_j R (4 * k + p - 1) (4 * k + p)) (B + p - 1) (B + p)) (ul_J (ul_J (L, 0) (4 + p - 1) (4 + p)) (Ba + p - 1) (Ba + p)) t
    have a1 : 4 * k + p - 1 = 4 * k + (p - 1) := by omega
    have a2 : B + p - 1 = B + (p - 1) := by omega
    have a3 : 4 + p - 1 = 4 + (p - 1) := by omega
    have a4 : Ba + p - 1 = Ba + (p - 1) := by omega
    rw [a1, a2, a3, a4]
    exact S2
theorem ul_tr_s (n : Nat) (w : Nat → Int32) (bt : Nat → Bool) (i : Nat) : ul_tr n w bt (i + 1) = (ul_to n (ul_tr n w bt i).1 (bk_p (w i)) (bt i), (ul_tr n w bt i).2 + ul_cl n (ul_tr n w bt i).1 (bk_p (w i)) (bt i)) := by
  rw [ul_tr]
  cases bt i with
  | false => rfl
  | true => rfl
theorem ul_chkE {n k p : Nat} (b : Bool) (h2 : 2 ≤ n) (h4 : n ≤ 4) (hk : k < tb_J n) (hp1 : 1 ≤ p) (hp : p < n) :
    ul_same n (ul_pass n 8 p b (ul_L0 n k)).1 (ul_to n k p b) = true ∧ (ul_pass n 8 p b (ul_L0 n k)).2 + ul_cl n k p b = n ∧ (ul_pass n 0 p b (ul_L0 n k)).2 + ul_cl n k p b + ul_D n (ul_to n k p b) = n ∧ ul_to n k p b < tb_J n ∧ ul_cl n k p b ≤ 1 := by
  have h := ul_chkA b h2 h4 hk hp1 hp
  unfold ul_chk at h
  simp only [Bool.and_eq_true, decide_eq_true_eq] at h
  exact h
theorem ul_trk {n c : Nat} {w : Nat → Int32} {bt : Nat → Bool} (h2 : 2 ≤ n) (h4 : n ≤ 4) (hw : ∀ i, i < c → bk_L n (w i)) : ∀ i, i ≤ c → (ul_tr n w bt i).1 < tb_J n ∧ (ul_tr n w bt i).2 ≤ i := by
  intro i
  induction i with
  | zero => intro _; exact ⟨(ul_J14 h2 h4).1, Nat.le_refl _⟩
  | succ i ih =>
    intro hi
    obtain ⟨a, b⟩ := ih (by omega)
    obtain ⟨p1, p2⟩ := bk_Lp (hw i (by omega)) h4
    obtain ⟨-, -, -, e1, e2⟩ := ul_chkE (bt i) h2 h4 a p1 p2
    rw [ul_tr_s]
    exact ⟨e1, by show (ul_tr n w bt i).2 + _ ≤ i + 1; omega⟩
theorem ul_ext {n k K m : Nat} {R : Nat → Nat} (hn : n ≤ 4) (hk : 4 * (k + 2) ≤ 40) (h : ul_V n (4 * (k + 1)) 8 (ul_pt k) R (ul_L0 n K, 0) (m + n)) : ul_V n (4 * (k + 2)) 12 (ul_pt k) R (ul_L0 n K, 0) (m + n + n) := by
  obtain ⟨h1, h2, h3, h4, h5⟩ := h
  refine ⟨?_, h2, fun x hx => h3 x (by omega), ?_, (by decide : 12 ≤ 12)⟩
  · have lo : ∀ a, a < 8 → a % 4 < n → R (ul_pt k a) < 4 * (k + 1) := by
      intro a ha va
      have : ul_pt k a < 4 * (k + 1) := by
        unfold ul_pt
        split
        · omega
        · first | omega | (split <;> omega)
      have := (h2 (ul_pt k a) (by omega)).1
      omega
    have hi : ∀ a, 8 ≤ a → a < 12 → R (ul_pt k a) = 4 * k + 4 + (a - 8) := by
      intro a ha hb
      have e : ul_pt k a = 4 * k + 4 + (a - 8) := by
        unfold ul_pt
        rw [if_neg (by omega), if_neg (by omega)]
      rw [e]
      exact h3 _ (by omega) (by omega)
    intro a b ha hb va vb
    show R (ul_pt k a) = R (ul_pt k b) ↔ (ul_L0 n K).getD a 0 = (ul_L0 n K).getD b 0
    by_cases a8 : a < 8
    · by_cases b8 : b < 8
      · exact h1 a b a8 b8 va vb
      · have x1 := lo a a8 va
        have x2 := hi b (by omega) hb
        rw [ul_labL n K a a8, ul_labH n K b (by omega) hb]
        have x3 : ul_lab n K a ≤ a := ul_lab_lt
        omega
    · by_cases b8 : b < 8
      · have x1 := lo b b8 vb
        have x2 := hi a (by omega) ha
        rw [ul_labL n K b b8, ul_labH n K a (by omega) ha]
        have x3 : ul_lab n K b ≤ b := ul_lab_lt
        omega
      · have x1 := hi a (by omega) ha
        have x2 := hi b (by omega) hb
        rw [ul_labH n K a (by omega) ha, ul_labH n K b (by omega) hb]
        omega
  · show uf_rc n R (4 * (k + 2)) + 0 = m + n + n
    have h4' : uf_rc n R (4 * (k + 1)) + 0 = m + n := h4
    have e0 : 4 * (k + 2) = 4 * (k + 1) + 1 + 1 + 1 + 1 := by omega
    rw [e0, uf_rc, uf_rc, uf_rc, uf_rc]
    have g : ∀ q, q < 4 → ((if (4 * (k + 1) + q) % 4 < n ∧ R (4 * (k + 1) + q) = 4 * (k + 1) + q then 1 else 0) = if q < n then 1 else 0) := by
      intro q hq
      have r := h3 (4 * (k + 1) + q) (by omega) (by omega)
      by_cases z : q < n
      · rw [if_pos z, if_pos ⟨by omega, r⟩]
      · rw [if_neg z, if_neg (by omega)]
    have g0 := g 0 (by omega)
    have g1 := g 1 (by omega)
    have g2 := g 2 (by omega)
    have g3 := g 3 (by omega)
    rw [Nat.add_zero] at g0
    rw [g0, g1, show 4 * (k + 1) + 1 + 1 = 4 * (k + 1) + 2 from rfl, g2, show 4 * (k + 1) + 2 + 1 = 4 * (k + 1) + 3 from rfl, g3]
    have s4 : ∀ n, n ≤ 4 → (if 0 < n then 1 else 0) + (if 1 < n then 1 else 0) + (if 2 < n then 1 else 0) + (if 3 < n then 1 else 0) = n := by decide
    have := s4 n hn
    omega
theorem ul_inv {n c : Nat} {w : Nat → Int32} {bt : Nat → Bool} (h2 : 2 ≤ n) (h4 : n ≤ 4) (hc : c ≤ 10) (hw : ∀ i, i < c → bk_L n (w i)) : ∀ k, k < c → ul_V n (4 * (k + 1)) 8 (ul_pt k) (uf_R n c w bt k) (ul_L0 n (ul_tr n w bt k).1, 0) ((ul_tr n w bt k).2 + n) := by
  intro k
  induction k with
  | zero =>
    intro _
    refine ⟨?_, fun x _ => ⟨Nat.le_refl _, rfl, fun z => z⟩, fun x _ _ => rfl, ?_, (by decide : 8 ≤ 12)⟩
    · intro a b ha hb va vb
      show ul_pt 0 a = ul_pt 0 b ↔ (ul_L0 n 0).getD a 0 = (ul_L0 n 0).getD b 0
      rw [ul_labL n 0 a ha, ul_labL n 0 b hb, ul_lab0 h2 h4 ha va, ul_lab0 h2 h4 hb vb]
      have e : ∀ a, a < 8 → ul_pt 0 a = a % 4 := by decide
      rw [e a ha, e b hb]
    · exact (by decide : ∀ n, n ≤ 4 → uf_rc n (fun x => x) 4 + 0 = 0 + n) n h4
  | succ k ih =>
    intro hk
    have I := ul_ext h4 (by omega) (ih (by omega))
    obtain ⟨K1, -⟩ := ul_trk (bt := bt) h2 h4 hw k (by omega)
    obtain ⟨p1, p2⟩ := bk_Lp (hw k (by omega)) h4
    obtain ⟨e1, e2, -, e4, e5⟩ := ul_chkE (bt k) h2 h4 K1 p1 p2
    have V := ul_run (b := bt k) (B := 4 * k + 4) (Ba := 8) h4 p1 p2 (by omega) (by omega) (fun a ha va => by unfold ul_pt; split; omega; first | omega | (split <;> omega)) (fun q hq => ⟨ul_pt8, by omega, by omega⟩) I
    have eR : uf_R n c w bt (k + 1) = uf_pass n (4 * k) (4 * k + 4) (bk_p (w k)) (bt k) (uf_R n c w bt k) := by
      rw [uf_R, if_neg (by omega)]
    rw [← eR] at V
    rw [ul_tr_s]
    dsimp only
    generalize uf_R n c w bt (k + 1) = R at *
    obtain ⟨v1, v2, v3, v4, v5⟩ := V
    refine ⟨?_, v2, v3, ?_, (by decide : 8 ≤ 12)⟩
    · intro a b ha hb va vb
      dsimp only
      have ta : ∀ a, a < 8 → ul_pt (k + 1) a = ul_pt k (ul_tn a) := by
        intro a ha
        unfold ul_tn
        by_cases a4 : a < 4
        · rw [if_pos a4, ul_pt0 a4, ul_pt0 a4]
        · rw [if_neg a4]
          unfold ul_pt
          rw [if_neg a4, if_pos ha, if_neg (by omega), if_neg (by omega)]
          omega
      have tb : ∀ a, a < 8 → ul_tn a < 12 ∧ ul_tn a % 4 = a % 4 := by decide
      rw [ta a ha, ta b hb, ul_labL _ _ a ha, ul_labL _ _ b hb, ← ul_sameE e1 ha hb va vb]
      exact v1 _ _ (tb a ha).1 (tb b hb).1 (by rw [(tb a ha).2]; exact va) (by rw [(tb b hb).2]; exact vb)
    · dsimp only
      have z : 4 * (k + 1 + 1) = 4 * (k + 2) := rfl
      rw [z]
      omega
theorem ul_law {n c : Nat} {w : Nat → Int32} {bt : Nat → Bool} (h2 : 2 ≤ n) (h4 : n ≤ 4) (hc : c ≤ 10) (hw : ∀ i, i < c → bk_L n (w i)) : uf_L n c w bt = (ul_tr n w bt c).2 + ul_D n (ul_tr n w bt c).1 := by
  unfold uf_L
  by_cases c0 : c = 0
  · subst c0
    rw [if_pos rfl]
    show n = 0 + ul_D n 0
    rw [ul_D0 h2 h4]; omega
  · rw [if_neg c0]
    obtain ⟨k, rfl⟩ : ∃ k, c = k + 1 := ⟨c - 1, by omega⟩
    have I := ul_inv (bt := bt) h2 h4 hc hw k (by omega)
    obtain ⟨K1, -⟩ := ul_trk (bt := bt) h2 h4 hw k (by omega)
    obtain ⟨p1, p2⟩ := bk_Lp (hw k (by omega)) h4
    obtain ⟨-, -, e3, -, -⟩ := ul_chkE (bt k) h2 h4 K1 p1 p2
    have V := ul_run (b := bt k) (B := 0) (Ba := 0) h4 p1 p2 (by omega) (by omega) (fun a ha va => by unfold ul_pt; split; omega; first | omega | (split <;> omega)) (fun q hq => ⟨by rw [ul_pt0 (by omega)], by omega, by omega⟩) I
    have eR : uf_R n (k + 1) w bt (k + 1) = uf_pass n (4 * k) 0 (bk_p (w k)) (bt k) (uf_R n (k + 1) w bt k) := by
      rw [uf_R, if_pos rfl]
    rw [← eR] at V
    have v4 := V.2.2.2.1
    rw [ul_tr_s]
    dsimp only
    omega
section
variable {f_strands f_count f_joinings f_known : Int32} {a_word a_partner a_work a_shut a_closes a_closed a_seen a_power a_next a_result a_scaled a_many a_later a_tally a_matrix a_track a_component : Nat → Int32}
theorem ul_loopsX {post : Int32 → Prop} {n c : Nat} {st : Int32} (h2 : 2 ≤ n) (h4 : n ≤ 4) (hc : c ≤ 10) (hw : ∀ i, i < c → bk_L n (a_word i)) (P : post (nI (uf_L n c a_word (uf_bit st)))) :
    wpX_loops post (f_strands, nI c, f_joinings, f_known, a_word, a_partner, a_work, cj_fa (tb_S n), cj_fa (tb_C n), cj_fa (tb_D n), a_seen, a_power, a_next, a_result, a_scaled, a_many, a_later, a_tally, a_matrix, a_track, a_component) st := by
  have J := ul_J14 h2 h4
  have H : ∀ d i, i + d = c → wX_loops_7 post st f_strands (nI c) f_joinings f_known a_word a_partner a_work (cj_fa (tb_S n)) (cj_fa (tb_C n)) (cj_fa (tb_D n)) a_seen a_power a_next a_result a_scaled a_many a_later a_tally a_matrix a_track a_component (d + 1) (nI (ul_tr n a_word (uf_bit st) i).1) (nI (ul_tr n a_word (uf_bit st) i).2) (nI i) := by
    intro d
    induction d with
    | zero =>
      intro i h
      have : i = c := by omega
      subst this
      obtain ⟨k1, k2⟩ := ul_trk (bt := uf_bit st) h2 h4 hw i (Nat.le_refl _)
      refine br_t (nI_le (Nat.le_refl _) (by omega)) ⟨vp_in_nI (by omega) (by omega), ?_⟩
      rw [nI_clamp (by omega)]
      have e : nI (ul_tr n a_word (uf_bit st) i).2 + cj_fa (tb_D n) (ul_tr n a_word (uf_bit st) i).1 = nI (uf_L n i a_word (uf_bit st)) := by
        rw [ul_law h2 h4 hc hw]
        exact nI_add _ _
      rw [e]
      exact P
    | succ d ih =>
      intro i h
      have I := ih (i + 1) (by omega)
      rw [ul_tr_s] at I
      obtain ⟨k1, k2⟩ := ul_trk (bt := uf_bit st) h2 h4 hw i (by omega)
      obtain ⟨p1, p2⟩ := bk_Lp (hw i (by omega)) h4
      obtain ⟨-, -, -, e4, e5⟩ := ul_chkE (uf_bit st i) h2 h4 k1 p1 p2
      refine br_f (nI_ge (by omega) (by omega)) ⟨vp_in_nI (by omega) (by omega), ?_⟩
      rw [nI_clamp (by omega)]
      refine bk_posX (hw i (by omega)) h4 ?_
      generalize (ul_tr n a_word (uf_bit st) i).1 = K at *
      generalize (ul_tr n a_word (uf_bit st) i).2 = m at *
      generalize bk_p (a_word i) = p at *
      have e0 : (4 : Int32) * nI K + nI p = nI (4 * K + p) := bk_ix 4 K p
      refine nm_r e0 (bk_br (uf_bit st i) (by rw [uf_bit, decide_eq_true_eq]) (fun hb => ?_) (fun hb => ?_))
      · rw [hb] at I e4 e5
        have hC : cj_fa (tb_C n) (nI (4 * K + p)).toNatClampNeg = nI (ul_C n K p) := by rw [nI_clamp (by omega)]; rfl
        have hS : cj_fa (tb_S n) (nI (4 * K + p)).toNatClampNeg = nI (ul_S n K p) := by rw [nI_clamp (by omega)]; rfl
        have e5' : ul_C n K p ≤ 1 := e5
        refine ⟨vp_in_nI (by omega) (by omega), ?_⟩
        rw [hC]
        refine pk_eq (ul_C n K p) 0 (fun q => ?_) (fun q => ?_)
        · refine And.intro (vp_in_nI (by omega) (by omega)) (nm_r hS (nm_r (nI_1 i) ?_))
          have I2 : wX_loops_7 post st f_strands (nI c) f_joinings f_known a_word a_partner a_work (cj_fa (tb_S n)) (cj_fa (tb_C n)) (cj_fa (tb_D n)) a_seen a_power a_next a_result a_scaled a_many a_later a_tally a_matrix a_track a_component (d + 1) (nI (ul_S n K p)) (nI (m + ul_C n K p)) (nI (i + 1)) := I
          rw [q] at I2
          exact I2
        · refine And.intro (vp_in_nI (by omega) (by omega)) (nm_r hS (nm_r (nI_1 i) ?_))
          have I2 : wX_loops_7 post st f_strands (nI c) f_joinings f_known a_word a_partner a_work (cj_fa (tb_S n)) (cj_fa (tb_C n)) (cj_fa (tb_D n)) a_seen a_power a_next a_result a_scaled a_many a_later a_tally a_matrix a_track a_component (d + 1) (nI (ul_S n K p)) (nI (m + ul_C n K p)) (nI (i + 1)) := I
          have q1 : ul_C n K p = 1 := by omega
          rw [q1] at I2
          rw [nI_1]
          exact I2
      · rw [hb] at I
        exact nm_r (nI_1 i) I
  exact ⟨_, H c 0 (by omega)⟩
end
end
section
-- sums over states, powers of d
def sm_s (f : Nat → Int) : Nat → Int
  | 0 => 0
  | n + 1 => sm_s f n + f n
theorem sm_congr {f g : Nat → Int} : ∀ n, (∀ i, i < n → f i = g i) → sm_s f n = sm_s g n := by
  intro n
  induction n with
  | zero => intro _; rfl
  | succ n ih => intro h; rw [sm_s, sm_s, ih (fun i hi => h i (by omega)), h n (by omega)]
theorem sm_zero {f : Nat → Int} : ∀ n, (∀ i, i < n → f i = 0) → sm_s f n = 0 := by
  intro n
  induction n with
  | zero => intro _; rfl
  | succ n ih => intro h; rw [sm_s, ih (fun i hi => h i (by omega)), h n (by omega)]; rfl
theorem sm_add (f g : Nat → Int) : ∀ n, sm_s (fun i => f i + g i) n = sm_s f n + sm_s g n := by
  intro n
  induction n with
  | zero => rfl
  | succ n ih => rw [sm_s, sm_s, sm_s, ih]; omega
theorem sm_neg (f : Nat → Int) : ∀ n, sm_s (fun i => -f i) n = -sm_s f n := by
  intro n
  induction n with
  | zero => rfl
  | succ n ih => rw [sm_s, sm_s, ih]; omega
theorem sm_split (f : Nat → Int) (a : Nat) : ∀ b, sm_s f (a + b) = sm_s f a + sm_s (fun i => f (a + i)) b := by
  intro b
  induction b with
  | zero => rw [sm_s]; exact (Int.add_zero _).symm
  | succ b ih => rw [← Nat.add_assoc, sm_s, sm_s, ih]; omega
theorem sm_bd {f : Nat → Int} {B : Nat} : ∀ n, (∀ i, i < n → (f i).natAbs ≤ B) → (sm_s f n).natAbs ≤ n * B := by
  intro n
  induction n with
  | zero => intro _; exact Nat.zero_le _
  | succ n ih =>
    intro h
    have a := ih (fun i hi => h i (by omega))
    have b := h n (by omega)
    rw [sm_s, Nat.succ_mul]
    generalize n * B = z at *
    omega
theorem sm_swap (f : Nat → Nat → Int) (a : Nat) : ∀ b, sm_s (fun i => sm_s (fun j => f i j) b) a = sm_s (fun j => sm_s (fun i => f i j) a) b := by
  intro b
  induction b with
  | zero => exact sm_zero a (fun _ _ => rfl)
  | succ b ih =>
    rw [sm_s, ← ih, ← sm_add]
    rfl
theorem sm_mod {f : Nat → Int} : ∀ n, (∀ i, i < n → f i % 3 = 1) → sm_s f n % 3 = (n : Int) % 3 := by
  intro n
  induction n with
  | zero => intro _; rfl
  | succ n ih =>
    intro h
    have a := ih (fun i hi => h i (by omega))
    have b := h n (by omega)
    rw [sm_s]
    omega
theorem sm_one {N : Nat} {a : Int} : ∀ n, n ≤ N → sm_s (fun i => if (i : Int) = a then 1 else 0) n = if 0 ≤ a ∧ a < n then 1 else 0 := by
  intro n
  induction n with
  | zero => intro _; rw [sm_s, if_neg (by omega)]
  | succ n ih =>
    intro h
    rw [sm_s, ih (by omega)]
    by_cases q : (n : Int) = a
    · rw [if_pos q, if_neg (by omega), if_pos (by omega)]; rfl
    · rw [if_neg q]
      by_cases q2 : 0 ≤ a ∧ a < n
      · rw [if_pos q2, if_pos (by omega)]; rfl
      · rw [if_neg q2, if_neg (by omega)]; rfl
/-- signed binomials: the coefficients of d^m -/
def sm_b : Nat → Nat → Int
  | 0, 0 => 1
  | 0, _ + 1 => 0
  | m + 1, 0 => -sm_b m 0
  | m + 1, j + 1 => -sm_b m j - sm_b m (j + 1)
theorem sm_b_big : ∀ m j, m < j → sm_b m j = 0 := by
  intro m
  induction m with
  | zero =>
    intro j h
    obtain ⟨i, rfl⟩ : ∃ i, j = i + 1 := ⟨j - 1, by omega⟩
    rfl
  | succ m ih =>
    intro j h
    obtain ⟨i, rfl⟩ : ∃ i, j = i + 1 := ⟨j - 1, by omega⟩
    rw [sm_b, ih i (by omega), ih (i + 1) (by omega)]
    rfl
theorem sm_b_bd : ∀ m j, (sm_b m j).natAbs ≤ 2 ^ m := by
  intro m
  induction m with
  | zero =>
    intro j
    cases j with
    | zero => decide
    | succ j => exact Nat.zero_le _
  | succ m ih =>
    intro j
    rw [Nat.pow_succ]
    cases j with
    | zero =>
      have := ih 0
      rw [sm_b]
      omega
    | succ j =>
      have h1 := ih j
      have h2 := ih (j + 1)
      rw [sm_b]
      omega
def sm_D (m : Nat) (y : Int) : Int := if 0 ≤ 2 * (m : Int) - y ∧ (2 * (m : Int) - y) % 4 = 0 then sm_b m ((2 * (m : Int) - y) / 4).toNat else 0
theorem sm_D_at (m j : Nat) : sm_D m (2 * (m : Int) - 4 * (j : Int)) = sm_b m j := by
  unfold sm_D
  rw [if_pos (by omega)]
  congr 1
  omega
theorem sm_D_0 (y : Int) : sm_D 0 y = if y = 0 then 1 else 0 := by
  by_cases h : y = 0
  · subst h; rfl
  · rw [if_neg h]
    unfold sm_D
    split
    · exact sm_b_big 0 _ (by omega)
    · rfl
theorem sm_D_s (m : Nat) (y : Int) : sm_D (m + 1) y = -sm_D m (y - 2) - sm_D m (y + 2) := by
  unfold sm_D
  have e1 : 2 * (m : Int) - (y - 2) = 2 * ((m + 1 : Nat) : Int) - y := by omega
  have e2 : 2 * (m : Int) - (y + 2) = 2 * ((m + 1 : Nat) : Int) - y - 4 := by omega
  rw [e1, e2]
  generalize 2 * ((m + 1 : Nat) : Int) - y = z
  by_cases h : 0 ≤ z ∧ z % 4 = 0
  · rw [if_pos h, if_pos h]
    by_cases h0 : z = 0
    · subst h0
      rw [if_neg (by omega)]
      show sm_b (m + 1) 0 = -sm_b m 0 - 0
      rw [sm_b]; omega
    · rw [if_pos (by omega)]
      have e : (z / 4).toNat = ((z - 4) / 4).toNat + 1 := by omega
      rw [e, sm_b]
      omega
  · rw [if_neg h, if_neg h, if_neg (by omega)]
    rfl
theorem sm_D_out {m : Nat} {y : Int} (h : 2 * (m : Int) < y ∨ y < -2 * (m : Int)) : sm_D m y = 0 := by
  unfold sm_D
  split
  · exact sm_b_big _ _ (by omega)
  · rfl
theorem sm_D_bd (m : Nat) (y : Int) : (sm_D m y).natAbs ≤ 2 ^ m := by
  unfold sm_D
  split
  · exact sm_b_bd _ _
  · exact Nat.zero_le _
theorem sm_W : ∀ (m : Nat) (a : Int), 2 * (m : Int) ≤ a → a + 2 * (m : Int) ≤ 80 → sm_s (fun i => sm_D m ((i : Int) - a)) 81 % 3 = 1 := by
  intro m
  induction m with
  | zero =>
    intro a h1 h2
    have e : sm_s (fun i => sm_D 0 ((i : Int) - a)) 81 = sm_s (fun i => if (i : Int) = a then 1 else 0) 81 := by
      refine sm_congr 81 (fun i _ => ?_)
      show sm_D 0 ((i : Int) - a) = if (i : Int) = a then 1 else 0
      rw [sm_D_0]
      by_cases q : (i : Int) = a
      · rw [if_pos q, if_pos (by omega)]
      · rw [if_neg q, if_neg (by omega)]
    rw [e, sm_one 81 (Nat.le_refl _), if_pos (by omega)]
    rfl
  | succ m ih =>
    intro a h1 h2
    have i1 := ih (a + 2) (by omega) (by omega)
    have i2 := ih (a - 2) (by omega) (by omega)
    have e : sm_s (fun i => sm_D (m + 1) ((i : Int) - a)) 81 = -sm_s (fun i => sm_D m ((i : Int) - (a + 2))) 81 + -sm_s (fun i => sm_D m ((i : Int) - (a - 2))) 81 := by
      rw [← sm_neg, ← sm_neg, ← sm_add]
      refine sm_congr 81 (fun i _ => ?_)
      show sm_D (m + 1) ((i : Int) - a) = -sm_D m ((i : Int) - (a + 2)) + -sm_D m ((i : Int) - (a - 2))
      rw [sm_D_s]
      have z1 : (i : Int) - a - 2 = (i : Int) - (a + 2) := by omega
      have z2 : (i : Int) - a + 2 = (i : Int) - (a - 2) := by omega
      rw [z1, z2]
      omega
    rw [e]
    omega
/-- the exponent of a state behind i letters -/
def sm_e (w : Nat → Int32) (bt : Nat → Bool) : Nat → Int
  | 0 => 0
  | i + 1 => sm_e w bt i + (if bt i = true then -bk_g (w i) else bk_g (w i))
theorem sm_g1 (x : Int32) : bk_g x = 1 ∨ bk_g x = -1 := by
  unfold bk_g
  split
  · exact Or.inl rfl
  · exact Or.inr rfl
theorem sm_e_bd (w : Nat → Int32) (bt : Nat → Bool) : ∀ i, (sm_e w bt i).natAbs ≤ i := by
  intro i
  induction i with
  | zero => exact Nat.le_refl _
  | succ i ih =>
    rw [sm_e]
    have := sm_g1 (w i)
    split <;> omega
theorem sm_e_congr {w : Nat → Int32} {bt bt' : Nat → Bool} : ∀ i, (∀ j, j < i → bt j = bt' j) → sm_e w bt i = sm_e w bt' i := by
  intro i
  induction i with
  | zero => intro _; rfl
  | succ i ih => intro h; rw [sm_e, sm_e, ih (fun j hj => h j (by omega)), h i (by omega)]
theorem sm_tr_congr {n : Nat} {w : Nat → Int32} {bt bt' : Nat → Bool} : ∀ i, (∀ j, j < i → bt j = bt' j) → ul_tr n w bt i = ul_tr n w bt' i := by
  intro i
  induction i with
  | zero => intro _; rfl
  | succ i ih => intro h; rw [ul_tr, ul_tr, ih (fun j hj => h j (by omega)), h i (by omega)]
def sm_bt (s : Nat) : Nat → Bool := fun i => s.testBit i
def sm_k (n : Nat) (w : Nat → Int32) (i s : Nat) : Nat := (ul_tr n w (sm_bt s) i).1
def sm_m (n : Nat) (w : Nat → Int32) (i s : Nat) : Nat := (ul_tr n w (sm_bt s) i).2
def sm_x (w : Nat → Int32) (i s : Nat) : Int := sm_e w (sm_bt s) i
theorem sm_lo {n : Nat} {w : Nat → Int32} {i s : Nat} (h : s < 2 ^ i) : sm_k n w (i + 1) s = sm_k n w i s ∧ sm_m n w (i + 1) s = sm_m n w i s ∧ sm_x w (i + 1) s = sm_x w i s + bk_g (w i) := by
  have hb : sm_bt s i = false := Nat.testBit_lt_two_pow h
  unfold sm_k sm_m sm_x
  rw [ul_tr, sm_e, hb]
  exact ⟨rfl, rfl, rfl⟩
theorem sm_hi {n : Nat} {w : Nat → Int32} {i s : Nat} (h : s < 2 ^ i) : sm_k n w (i + 1) (2 ^ i + s) = ul_S n (sm_k n w i s) (bk_p (w i)) ∧ sm_m n w (i + 1) (2 ^ i + s) = sm_m n w i s + ul_C n (sm_k n w i s) (bk_p (w i)) ∧ sm_x w (i + 1) (2 ^ i + s) = sm_x w i s - bk_g (w i) := by
  have hb : sm_bt (2 ^ i + s) i = true := by
    show (2 ^ i + s).testBit i = true
    rw [Nat.testBit_two_pow_add_eq, Nat.testBit_lt_two_pow h]
    rfl
  have hl : ∀ j, j < i → sm_bt (2 ^ i + s) j = sm_bt s j := fun j hj => Nat.testBit_two_pow_add_gt hj s
  unfold sm_k sm_m sm_x
  rw [ul_tr, sm_e, hb, sm_tr_congr i hl, sm_e_congr i hl]
  exact ⟨rfl, rfl, rfl⟩
/-- the sum of joining k behind i letters -/
def sm_p (n : Nat) (w : Nat → Int32) (i k : Nat) (y : Int) : Int := sm_s (fun s => if sm_k n w i s = k then sm_D (sm_m n w i s) (y - sm_x w i s) else 0) (2 ^ i)
def sm_c (n : Nat) (w : Nat → Int32) (i k l : Nat) : Int := sm_s (fun s => if sm_k n w i s = k ∧ sm_m n w i s = l then 1 else 0) (2 ^ i)
/-- the sum of joining k behind one more letter, of the joinings below J alone -/
def sm_r (n : Nat) (w : Nat → Int32) (i J k : Nat) (y : Int) : Int := sm_s (fun s => if sm_k n w i s < J then (if sm_k n w i s = k then sm_D (sm_m n w i s) (y - sm_x w i s - bk_g (w i)) else 0) + (if ul_S n (sm_k n w i s) (bk_p (w i)) = k then sm_D (sm_m n w i s + ul_C n (sm_k n w i s) (bk_p (w i))) (y - sm_x w i s + bk_g (w i)) else 0) else 0) (2 ^ i)
def sm_t (n : Nat) (w : Nat → Int32) (i J k l : Nat) : Int := sm_s (fun s => if sm_k n w i s < J then (if sm_k n w i s = k ∧ sm_m n w i s = l then 1 else 0) + (if ul_S n (sm_k n w i s) (bk_p (w i)) = k ∧ sm_m n w i s + ul_C n (sm_k n w i s) (bk_p (w i)) = l then 1 else 0) else 0) (2 ^ i)
theorem sm_r0 (n : Nat) (w : Nat → Int32) (i k : Nat) (y : Int) : sm_r n w i 0 k y = 0 := sm_zero _ (fun s _ => if_neg (by omega))
theorem sm_t0 (n : Nat) (w : Nat → Int32) (i k l : Nat) : sm_t n w i 0 k l = 0 := sm_zero _ (fun s _ => if_neg (by omega))
/-- what a carry adds -/
def sm_cl (lp : Bool) (b : Int) (f : Int → Int) (y : Int) : Int := match lp with
  | true => -f (y - b - 2) - f (y - b + 2)
  | false => f (y - b)
def sm_dl (lp : Bool) (f : Nat → Int) (l : Nat) : Int := match lp with
  | true => (match l with
    | 0 => 0
    | j + 1 => f j)
  | false => f l
theorem sm_rs {n : Nat} {w : Nat → Int32} {i J k : Nat} {y : Int} {lp : Bool} (hC : ul_C n J (bk_p (w i)) = if lp = true then 1 else 0) : sm_r n w i (J + 1) k y = sm_r n w i J k y + (if k = J then sm_p n w i J (y - bk_g (w i)) else 0) + (if k = ul_S n J (bk_p (w i)) then sm_cl lp (-bk_g (w i)) (sm_p n w i J) y else 0) := by
  have e1 : (if k = J then sm_p n w i J (y - bk_g (w i)) else 0) = sm_s (fun s => if sm_k n w i s = J then (if sm_k n w i s = k then sm_D (sm_m n w i s) (y - sm_x w i s - bk_g (w i)) else 0) else 0) (2 ^ i) := by
    by_cases h : k = J
    · subst h
      rw [if_pos rfl]
      refine sm_congr _ (fun s _ => ?_)
      by_cases q : sm_k n w i s = k
      · rw [if_pos q, if_pos q, if_pos q]
        congr 1; omega
      · rw [if_neg q, if_neg q]
    · rw [if_neg h]
      refine (sm_zero _ (fun s _ => ?_)).symm
      split
      · exact if_neg (by omega)
      · rfl
  have e2 : (if k = ul_S n J (bk_p (w i)) then sm_cl lp (-bk_g (w i)) (sm_p n w i J) y else 0) = sm_s (fun s => if sm_k n w i s = J then (if ul_S n (sm_k n w i s) (bk_p (w i)) = k then sm_D (sm_m n w i s + ul_C n (sm_k n w i s) (bk_p (w i))) (y - sm_x w i s + bk_g (w i)) else 0) else 0) (2 ^ i) := by
    by_cases h : k = ul_S n J (bk_p (w i))
    · rw [if_pos h]
      cases lp with
      | false =>
        show sm_p n w i J (y - -bk_g (w i)) = _
        refine sm_congr _ (fun s _ => ?_)
        by_cases q : sm_k n w i s = J
        · rw [if_pos q, if_pos q, q, hC, if_pos h.symm, if_neg (by decide)]
          congr 1; omega
        · rw [if_neg q, if_neg q]
      | true =>
        show -sm_p n w i J (y - -bk_g (w i) - 2) - sm_p n w i J (y - -bk_g (w i) + 2) = _
        have hs : ∀ a b : Int, -a - b = -a + -b := by intro a b; omega
        unfold sm_p
        rw [hs, ← sm_neg, ← sm_neg, ← sm_add]
        refine sm_congr _ (fun s _ => ?_)
        by_cases q : sm_k n w i s = J
        · rw [if_pos q, if_pos q, if_pos q, q, hC, if_pos h.symm, if_pos rfl, sm_D_s]
          have z1 : y - -bk_g (w i) - 2 - sm_x w i s = y - sm_x w i s + bk_g (w i) - 2 := by omega
          have z2 : y - -bk_g (w i) + 2 - sm_x w i s = y - sm_x w i s + bk_g (w i) + 2 := by omega
          rw [z1, z2]
          omega
        · rw [if_neg q, if_neg q, if_neg q]; rfl
    · rw [if_neg h]
      refine (sm_zero _ (fun s _ => ?_)).symm
      by_cases q : sm_k n w i s = J
      · rw [if_pos q, q]
        exact if_neg (fun z => h z.symm)
      · exact if_neg q
  rw [e1, e2]
  unfold sm_r
  rw [← sm_add, ← sm_add]
  refine sm_congr _ (fun s _ => ?_)
  by_cases q : sm_k n w i s = J
  · have a1 : sm_k n w i s < J + 1 := by omega
    have a2 : ¬ sm_k n w i s < J := by omega
    rw [if_pos a1, if_neg a2, if_pos q, if_pos q]
    omega
  · rw [if_neg q, if_neg q]
    by_cases q2 : sm_k n w i s < J
    · have a1 : sm_k n w i s < J + 1 := by omega
      rw [if_pos a1, if_pos q2]
      omega
    · have a1 : ¬ sm_k n w i s < J + 1 := by omega
      rw [if_neg a1, if_neg q2]
      rfl
theorem sm_ts {n : Nat} {w : Nat → Int32} {i J k l : Nat} {lp : Bool} (hC : ul_C n J (bk_p (w i)) = if lp = true then 1 else 0) : sm_t n w i (J + 1) k l = sm_t n w i J k l + (if k = J then sm_c n w i J l else 0) + (if k = ul_S n J (bk_p (w i)) then sm_dl lp (sm_c n w i J) l else 0) := by
  have e1 : (if k = J then sm_c n w i J l else 0) = sm_s (fun s => if sm_k n w i s = J then (if sm_k n w i s = k ∧ sm_m n w i s = l then 1 else 0) else 0) (2 ^ i) := by
    by_cases h : k = J
    · subst h
      rw [if_pos rfl]
      refine sm_congr _ (fun s _ => ?_)
      by_cases q : sm_k n w i s = k
      · rw [if_pos q]
      · rw [if_neg q, if_neg (fun z => q z.1)]
    · rw [if_neg h]
      refine (sm_zero _ (fun s _ => ?_)).symm
      split
      · exact if_neg (by omega)
      · rfl
  have e2 : (if k = ul_S n J (bk_p (w i)) then sm_dl lp (sm_c n w i J) l else 0) = sm_s (fun s => if sm_k n w i s = J then (if ul_S n (sm_k n w i s) (bk_p (w i)) = k ∧ sm_m n w i s + ul_C n (sm_k n w i s) (bk_p (w i)) = l then 1 else 0) else 0) (2 ^ i) := by
    by_cases h : k = ul_S n J (bk_p (w i))
    · rw [if_pos h]
      have hm : ∀ s, sm_k n w i s = J → (ul_S n (sm_k n w i s) (bk_p (w i)) = k ∧ sm_m n w i s + ul_C n (sm_k n w i s) (bk_p (w i)) = l ↔ sm_m n w i s + (if lp = true then 1 else 0) = l) := by
        intro s q
        rw [q, hC]
        exact ⟨fun z => z.2, fun z => ⟨h.symm, z⟩⟩
      cases lp with
      | false =>
        refine sm_congr _ (fun s _ => ?_)
        by_cases q : sm_k n w i s = J
        · rw [if_pos q]
          have hq := hm s q
          rw [if_neg (by decide), Nat.add_zero] at hq
          by_cases q2 : sm_m n w i s = l
          · rw [if_pos ⟨q, q2⟩, if_pos (hq.mpr q2)]
          · rw [if_neg (fun z => q2 z.2), if_neg (fun z => q2 (hq.mp z))]
        · rw [if_neg q, if_neg (fun z => q z.1)]
      | true =>
        cases l with
        | zero =>
          show (0 : Int) = _
          refine (sm_zero _ (fun s _ => ?_)).symm
          by_cases q : sm_k n w i s = J
          · rw [if_pos q]
            have hq := hm s q
            rw [if_pos rfl] at hq
            exact if_neg (fun z => by have := hq.mp z; omega)
          · exact if_neg q
        | succ j =>
          show sm_c n w i J j = _
          refine sm_congr _ (fun s _ => ?_)
          by_cases q : sm_k n w i s = J
          · rw [if_pos q]
            have hq := hm s q
            rw [if_pos rfl] at hq
            by_cases q2 : sm_m n w i s = j
            · rw [if_pos ⟨q, q2⟩, if_pos (hq.mpr (by omega))]
            · rw [if_neg (fun z => q2 z.2), if_neg (fun z => q2 (by have := hq.mp z; omega))]
          · rw [if_neg q, if_neg (fun z => q z.1)]
    · rw [if_neg h]
      refine (sm_zero _ (fun s _ => ?_)).symm
      by_cases q : sm_k n w i s = J
      · rw [if_pos q, q]
        exact if_neg (fun z => h z.1.symm)
      · exact if_neg q
  rw [e1, e2]
  unfold sm_t
  rw [← sm_add, ← sm_add]
  refine sm_congr _ (fun s _ => ?_)
  by_cases q : sm_k n w i s = J
  · have a1 : sm_k n w i s < J + 1 := by omega
    have a2 : ¬ sm_k n w i s < J := by omega
    rw [if_pos a1, if_neg a2, if_pos q, if_pos q]
    omega
  · rw [if_neg q, if_neg q]
    by_cases q2 : sm_k n w i s < J
    · have a1 : sm_k n w i s < J + 1 := by omega
      rw [if_pos a1, if_pos q2]
      omega
    · have a1 : ¬ sm_k n w i s < J + 1 := by omega
      rw [if_neg a1, if_neg q2]
      rfl
end
section
-- sums: the whole letter, the start, support, the bracket
theorem sm_kJ {n c : Nat} {w : Nat → Int32} (h2 : 2 ≤ n) (h4 : n ≤ 4) (hw : ∀ i, i < c → bk_L n (w i)) {i : Nat} (hi : i ≤ c) (s : Nat) : sm_k n w i s < tb_J n ∧ sm_m n w i s ≤ i := ul_trk h2 h4 hw i hi
theorem sm_2pow (f : Nat → Int) (i : Nat) : sm_s f (2 ^ (i + 1)) = sm_s (fun s => f s + f (2 ^ i + s)) (2 ^ i) := by
  rw [show 2 ^ (i + 1) = 2 ^ i + 2 ^ i by rw [Nat.pow_succ]; omega, sm_split, sm_add]
theorem sm_rJ {n c : Nat} {w : Nat → Int32} (h2 : 2 ≤ n) (h4 : n ≤ 4) (hw : ∀ i, i < c → bk_L n (w i)) {i : Nat} (hi : i ≤ c) (k : Nat) (y : Int) : sm_r n w i (tb_J n) k y = sm_p n w (i + 1) k y := by
  unfold sm_p
  rw [sm_2pow]
  refine sm_congr _ (fun s hs => ?_)
  rw [if_pos (sm_kJ h2 h4 hw hi s).1]
  obtain ⟨a1, a2, a3⟩ := sm_lo (n := n) (w := w) hs
  obtain ⟨b1, b2, b3⟩ := sm_hi (n := n) (w := w) hs
  rw [a1, a2, a3, b1, b2, b3]
  have z1 : y - sm_x w i s - bk_g (w i) = y - (sm_x w i s + bk_g (w i)) := by omega
  have z2 : y - sm_x w i s + bk_g (w i) = y - (sm_x w i s - bk_g (w i)) := by omega
  rw [z1, z2]
theorem sm_tJ {n c : Nat} {w : Nat → Int32} (h2 : 2 ≤ n) (h4 : n ≤ 4) (hw : ∀ i, i < c → bk_L n (w i)) {i : Nat} (hi : i ≤ c) (k l : Nat) : sm_t n w i (tb_J n) k l = sm_c n w (i + 1) k l := by
  unfold sm_c
  rw [sm_2pow]
  refine sm_congr _ (fun s hs => ?_)
  rw [if_pos (sm_kJ h2 h4 hw hi s).1]
  obtain ⟨a1, a2, -⟩ := sm_lo (n := n) (w := w) hs
  obtain ⟨b1, b2, -⟩ := sm_hi (n := n) (w := w) hs
  rw [a1, a2, b1, b2]
theorem sm_p0 (n : Nat) (w : Nat → Int32) (k : Nat) (y : Int) : sm_p n w 0 k y = if k = 0 ∧ y = 0 then 1 else 0 := by
  show (0 : Int) + (if 0 = k then sm_D 0 (y - 0) else 0) = _
  rw [sm_D_0, Int.sub_zero, Int.zero_add]
  by_cases h : 0 = k
  · rw [if_pos h]
    by_cases q : y = 0
    · rw [if_pos q, if_pos ⟨h.symm, q⟩]
    · rw [if_neg q, if_neg (fun z => q z.2)]
  · rw [if_neg h, if_neg (fun z => h z.1.symm)]
theorem sm_c0 (n : Nat) (w : Nat → Int32) (k l : Nat) : sm_c n w 0 k l = if k = 0 ∧ l = 0 then 1 else 0 := by
  show (0 : Int) + (if 0 = k ∧ 0 = l then 1 else 0) = _
  rw [Int.zero_add]
  by_cases h : k = 0 ∧ l = 0
  · rw [if_pos h, if_pos ⟨h.1.symm, h.2.symm⟩]
  · rw [if_neg h, if_neg (fun z => h ⟨z.1.symm, z.2.symm⟩)]
theorem sm_p_out {n c : Nat} {w : Nat → Int32} (h2 : 2 ≤ n) (h4 : n ≤ 4) (hw : ∀ i, i < c → bk_L n (w i)) {i : Nat} (hi : i ≤ c) {k : Nat} {y : Int} (h : 3 * (i : Int) < y ∨ y < -3 * (i : Int)) : sm_p n w i k y = 0 := by
  refine sm_zero _ (fun s _ => ?_)
  have h1 := (sm_kJ h2 h4 hw hi s).2
  have h3 : (sm_x w i s).natAbs ≤ i := sm_e_bd _ _ _
  split
  · exact sm_D_out (by omega)
  · rfl
theorem sm_c_out {n c : Nat} {w : Nat → Int32} (h2 : 2 ≤ n) (h4 : n ≤ 4) (hw : ∀ i, i < c → bk_L n (w i)) {i : Nat} (hi : i ≤ c) {k l : Nat} (h : i < l) : sm_c n w i k l = 0 := by
  refine sm_zero _ (fun s _ => ?_)
  have h1 := (sm_kJ h2 h4 hw hi s).2
  exact if_neg (by omega)
theorem sm_p_big {n c : Nat} {w : Nat → Int32} (h2 : 2 ≤ n) (h4 : n ≤ 4) (hw : ∀ i, i < c → bk_L n (w i)) {i : Nat} (hi : i ≤ c) {k : Nat} {y : Int} (h : tb_J n ≤ k) : sm_p n w i k y = 0 := by
  refine sm_zero _ (fun s _ => ?_)
  have h1 := (sm_kJ h2 h4 hw hi s).1
  exact if_neg (by omega)
/-- the number of loops of a state -/
def sm_l (n c : Nat) (w : Nat → Int32) (s : Nat) : Nat := sm_m n w c s + ul_D n (sm_k n w c s)
def sm_B (n c : Nat) (w : Nat → Int32) (y : Int) : Int := sm_s (fun s => sm_D (sm_l n c w s - 1) (y - sm_x w c s)) (2 ^ c)
def sm_T (n c : Nat) (w : Nat → Int32) (l : Nat) : Int := sm_s (fun s => if sm_l n c w s = l then 1 else 0) (2 ^ c)
def sm_BJ (n c : Nat) (w : Nat → Int32) (J : Nat) (y : Int) : Int := sm_s (fun s => if sm_k n w c s < J then sm_D (sm_l n c w s - 1) (y - sm_x w c s) else 0) (2 ^ c)
def sm_TJ (n c : Nat) (w : Nat → Int32) (J l : Nat) : Int := sm_s (fun s => if sm_k n w c s < J ∧ sm_l n c w s = l then 1 else 0) (2 ^ c)
def sm_dp (f : Int → Int) : Nat → Int → Int
  | 0 => f
  | t + 1 => fun y => -sm_dp f t (y - 2) - sm_dp f t (y + 2)
theorem sm_dpp (n : Nat) (w : Nat → Int32) (c J : Nat) : ∀ t y, sm_dp (sm_p n w c J) t y = sm_s (fun s => if sm_k n w c s = J then sm_D (sm_m n w c s + t) (y - sm_x w c s) else 0) (2 ^ c) := by
  intro t
  induction t with
  | zero => intro y; rfl
  | succ t ih =>
    intro y
    have hs : ∀ a b : Int, -a - b = -a + -b := by intro a b; omega
    show -sm_dp (sm_p n w c J) t (y - 2) - sm_dp (sm_p n w c J) t (y + 2) = _
    rw [ih, ih, hs, ← sm_neg, ← sm_neg, ← sm_add]
    refine sm_congr _ (fun s _ => ?_)
    by_cases q : sm_k n w c s = J
    · rw [if_pos q, if_pos q, if_pos q, ← Nat.add_assoc, sm_D_s]
      have z1 : y - 2 - sm_x w c s = y - sm_x w c s - 2 := by omega
      have z2 : y + 2 - sm_x w c s = y - sm_x w c s + 2 := by omega
      rw [z1, z2]
      omega
    · rw [if_neg q, if_neg q, if_neg q]; rfl
theorem sm_B0 (n c : Nat) (w : Nat → Int32) (y : Int) : sm_BJ n c w 0 y = 0 := sm_zero _ (fun s _ => if_neg (by omega))
theorem sm_T0 (n c : Nat) (w : Nat → Int32) (l : Nat) : sm_TJ n c w 0 l = 0 := sm_zero _ (fun s _ => if_neg (by omega))
theorem sm_Bs {n c : Nat} {w : Nat → Int32} {J : Nat} {y : Int} (h2 : 2 ≤ n) (h4 : n ≤ 4) (hJ : J < tb_J n) : sm_BJ n c w (J + 1) y = sm_BJ n c w J y + sm_dp (sm_p n w c J) (ul_D n J - 1) y := by
  have d1 := (ul_Dr h2 h4 hJ).1
  rw [sm_dpp]
  unfold sm_BJ
  rw [← sm_add]
  refine sm_congr _ (fun s _ => ?_)
  by_cases q : sm_k n w c s = J
  · have a1 : sm_k n w c s < J + 1 := by omega
    have a2 : ¬ sm_k n w c s < J := by omega
    have e : sm_l n c w s - 1 = sm_m n w c s + (ul_D n J - 1) := by
      unfold sm_l
      rw [q]; omega
    rw [if_pos a1, if_neg a2, if_pos q, e]
    omega
  · rw [if_neg q]
    by_cases q2 : sm_k n w c s < J
    · have a1 : sm_k n w c s < J + 1 := by omega
      rw [if_pos a1, if_pos q2]
      omega
    · have a1 : ¬ sm_k n w c s < J + 1 := by omega
      rw [if_neg a1, if_neg q2]
      rfl
theorem sm_Ts {n c : Nat} {w : Nat → Int32} {J l : Nat} : sm_TJ n c w (J + 1) l = sm_TJ n c w J l + (if ul_D n J ≤ l then sm_c n w c J (l - ul_D n J) else 0) := by
  have e : (if ul_D n J ≤ l then sm_c n w c J (l - ul_D n J) else 0) = sm_s (fun s => if sm_k n w c s = J ∧ sm_l n c w s = l then 1 else 0) (2 ^ c) := by
    by_cases h : ul_D n J ≤ l
    · rw [if_pos h]
      refine sm_congr _ (fun s _ => ?_)
      by_cases q : sm_k n w c s = J
      · have e : sm_l n c w s = sm_m n w c s + ul_D n J := by unfold sm_l; rw [q]
        by_cases q2 : sm_m n w c s = l - ul_D n J
        · rw [if_pos ⟨q, q2⟩, if_pos ⟨q, by omega⟩]
        · rw [if_neg (fun z => q2 z.2), if_neg (fun z => q2 (by omega))]
      · rw [if_neg (fun z => q z.1), if_neg (fun z => q z.1)]
    · rw [if_neg h]
      refine (sm_zero _ (fun s _ => ?_)).symm
      refine if_neg (fun z => ?_)
      have e : sm_l n c w s = sm_m n w c s + ul_D n J := by unfold sm_l; rw [z.1]
      omega
  rw [e]
  unfold sm_TJ
  rw [← sm_add]
  refine sm_congr _ (fun s _ => ?_)
  by_cases q : sm_k n w c s = J
  · by_cases q2 : sm_l n c w s = l
    · rw [if_pos ⟨by omega, q2⟩, if_neg (fun z => by omega), if_pos ⟨q, q2⟩]; rfl
    · rw [if_neg (fun z => q2 z.2), if_neg (fun z => q2 z.2), if_neg (fun z => q2 z.2)]; rfl
  · rw [if_neg (fun z => q z.1 : ¬ (sm_k n w c s = J ∧ sm_l n c w s = l))]
    by_cases q2 : sm_k n w c s < J ∧ sm_l n c w s = l
    · rw [if_pos q2, if_pos ⟨by omega, q2.2⟩]; rfl
    · rw [if_neg q2, if_neg (fun z => q2 ⟨by omega, z.2⟩)]; rfl
theorem sm_BE {n c : Nat} {w : Nat → Int32} (h2 : 2 ≤ n) (h4 : n ≤ 4) (hw : ∀ i, i < c → bk_L n (w i)) (y : Int) : sm_BJ n c w (tb_J n) y = sm_B n c w y :=
  sm_congr _ (fun s _ => if_pos (sm_kJ h2 h4 hw (Nat.le_refl _) s).1)
theorem sm_TE {n c : Nat} {w : Nat → Int32} (h2 : 2 ≤ n) (h4 : n ≤ 4) (hw : ∀ i, i < c → bk_L n (w i)) (l : Nat) : sm_TJ n c w (tb_J n) l = sm_T n c w l := by
  refine sm_congr _ (fun s _ => ?_)
  have h := (sm_kJ h2 h4 hw (Nat.le_refl _) s).1
  by_cases q : sm_l n c w s = l
  · rw [if_pos ⟨h, q⟩, if_pos q]
  · rw [if_neg (fun z => q z.2), if_neg q]
theorem sm_lr {n c : Nat} {w : Nat → Int32} (h2 : 2 ≤ n) (h4 : n ≤ 4) (hw : ∀ i, i < c → bk_L n (w i)) (s : Nat) : 1 ≤ sm_l n c w s ∧ sm_l n c w s ≤ c + 4 := by
  obtain ⟨a, b⟩ := sm_kJ h2 h4 hw (Nat.le_refl _) s
  obtain ⟨d1, d2⟩ := ul_Dr h2 h4 a
  unfold sm_l
  omega
theorem sm_B_out {n c : Nat} {w : Nat → Int32} (h2 : 2 ≤ n) (h4 : n ≤ 4) (hc : c ≤ 10) (hw : ∀ i, i < c → bk_L n (w i)) {y : Int} (h : 36 < y ∨ y < -36) : sm_B n c w y = 0 := by
  refine sm_zero _ (fun s _ => ?_)
  have h1 := sm_lr h2 h4 hw s
  have h3 : (sm_x w c s).natAbs ≤ c := sm_e_bd _ _ _
  exact sm_D_out (by omega)
theorem sm_B_bd {n c : Nat} {w : Nat → Int32} (h2 : 2 ≤ n) (h4 : n ≤ 4) (hc : c ≤ 10) (hw : ∀ i, i < c → bk_L n (w i)) (y : Int) : (sm_B n c w y).natAbs < 2 ^ 30 := by
  have h := sm_bd (f := fun s => sm_D (sm_l n c w s - 1) (y - sm_x w c s)) (B := 2 ^ 13) (2 ^ c) (fun s _ => by
    have h1 := sm_lr h2 h4 hw s
    refine Nat.le_trans (sm_D_bd _ _) (Nat.pow_le_pow_right (by decide) (by omega)))
  have h3 : 2 ^ c ≤ 2 ^ 10 := Nat.pow_le_pow_right (by decide) hc
  have h4 : 2 ^ c * 2 ^ 13 ≤ 2 ^ 10 * 2 ^ 13 := Nat.mul_le_mul_right _ h3
  exact Nat.lt_of_le_of_lt (Nat.le_trans h h4) (by decide)
theorem sm_nz {n c : Nat} {w : Nat → Int32} (h2 : 2 ≤ n) (h4 : n ≤ 4) (hc : c ≤ 10) (hw : ∀ i, i < c → bk_L n (w i)) : ∃ e : Nat, e < 81 ∧ Int32.ofInt (sm_B n c w ((e : Int) - 40)) ≠ 0 := by
  refine Classical.byContradiction (fun hn => ?_)
  have hz : ∀ e : Nat, e < 81 → sm_B n c w ((e : Int) - 40) = 0 := by
    intro e he
    refine Classical.byContradiction (fun hne => hn ⟨e, he, fun z => hne ?_⟩)
    have hb := sm_B_bd h2 h4 hc hw ((e : Int) - 40)
    have := Int32.toInt_ofInt_of_le (n := sm_B n c w ((e : Int) - 40)) (by omega) (by omega)
    rw [z] at this
    exact this.symm
  have S : sm_s (fun e => sm_B n c w ((e : Int) - 40)) 81 = 0 := sm_zero _ hz
  unfold sm_B at S
  rw [sm_swap (fun e s => sm_D (sm_l n c w s - 1) ((e : Int) - 40 - sm_x w c s)) 81 (2 ^ c)] at S
  have M := sm_mod (f := fun s => sm_s (fun e => sm_D (sm_l n c w s - 1) ((e : Int) - 40 - sm_x w c s)) 81) (2 ^ c) (fun s _ => by
    have h1 := sm_lr h2 h4 hw s
    have h3 : (sm_x w c s).natAbs ≤ c := sm_e_bd _ _ _
    have W := sm_W (sm_l n c w s - 1) (40 + sm_x w c s) (by omega) (by omega)
    have e : (fun e : Nat => sm_D (sm_l n c w s - 1) ((e : Int) - 40 - sm_x w c s)) = (fun e : Nat => sm_D (sm_l n c w s - 1) ((e : Int) - (40 + sm_x w c s))) := by
      funext e
      congr 1; omega
    rw [e]
    exact W)
  rw [S] at M
  have : ∀ c, c ≤ 10 → ¬ (0 : Int) % 3 = ((2 ^ c : Nat) : Int) % 3 := by decide
  exact this c hc M
end
section
-- the reference's work
theorem bk_oN (n : Nat) : Int32.ofInt (n : Int) = nI n := Int32.ofInt_eq_ofNat
theorem bk_oE {z : Int} {n : Nat} (h : z = (n : Int)) : Int32.ofInt z = nI n := by rw [h]; exact bk_oN n
theorem wy_bit {s i : Nat} (hs : s < 2 ^ 31) (hi : i < 32) : uf_bit (nI s) i = s.testBit i := by
  unfold uf_bit
  have h2 : s / 2 ^ i ≤ s := Nat.div_le_self _ _
  rw [pk_shrN hs (nI i &&& 31) i (s_l i hi), pk_andN (m := 1) (by omega) 1 (by decide), Nat.testBit_eq_decide_div_mod_eq]
  apply decide_eq_decide.mpr
  generalize s / 2 ^ i = z
  show nI (z % 2) = nI 1 ↔ _
  exact nI_eq (by omega) (by omega)
theorem wy_L {n c s : Nat} {w : Nat → Int32} (h2 : 2 ≤ n) (h4 : n ≤ 4) (hc : c ≤ 10) (hw : ∀ i, i < c → bk_L n (w i)) (hs : s < 2 ^ 31) : uf_L n c w (uf_bit (nI s)) = sm_l n c w s := by
  rw [ul_law h2 h4 hc hw]
  unfold sm_l sm_m sm_k
  rw [sm_tr_congr (bt := uf_bit (nI s)) (bt' := sm_bt s) c (fun j hj => wy_bit hs (by omega))]
theorem wy_X {c s : Nat} {w : Nat → Int32} (hc : c ≤ 10) (hs : s < 2 ^ 31) : sm_e w (uf_bit (nI s)) c = sm_x w c s := sm_e_congr c (fun j hj => wy_bit hs (by omega))
theorem wy_sh : ∀ c, c ≤ 10 → (1 : Int32) <<< (nI c &&& 31) = nI (2 ^ c) := by decide +kernel
theorem wy_b0 : ∀ m, m ≤ 13 → sm_b m 0 = if m % 2 = 0 then 1 else -1 := by decide +kernel
theorem wy_bs : ∀ m, m ≤ 13 → ∀ j, j ≤ m → Int32.ofInt (sm_b m j) * (nI m - nI j) / (nI j + 1) = Int32.ofInt (sm_b m (j + 1)) := by decide +kernel
def wy_C (a : Nat → Int32) (q : Int → Int) : Prop := ∀ x : Nat, x < 121 → a x = Int32.ofInt (q ((x : Int) - 60))
def wy_M (a : Nat → Int32) (q : Nat → Int) : Prop := ∀ l, l < 16 → a l = Int32.ofInt (q l)
/-- the first j terms of d^m -/
def wy_D (m j : Nat) (y : Int) : Int := if 0 ≤ 2 * (m : Int) - y ∧ (2 * (m : Int) - y) % 4 = 0 ∧ (2 * (m : Int) - y) / 4 < j then sm_b m ((2 * (m : Int) - y) / 4).toNat else 0
theorem wy_D0 (m : Nat) (y : Int) : wy_D m 0 y = 0 := if_neg (by omega)
theorem wy_DE (m : Nat) (y : Int) : wy_D m (m + 1) y = sm_D m y := by
  unfold wy_D sm_D
  by_cases h : 0 ≤ 2 * (m : Int) - y ∧ (2 * (m : Int) - y) % 4 = 0
  · rw [if_pos h]
    by_cases h2 : (2 * (m : Int) - y) / 4 < (m + 1 : Nat)
    · rw [if_pos ⟨h.1, h.2, h2⟩]
    · rw [if_neg (fun z => h2 z.2.2)]
      exact (sm_b_big _ _ (by omega)).symm
  · rw [if_neg h, if_neg (fun z => h ⟨z.1, z.2.1⟩)]
theorem wy_Dat (m j : Nat) : wy_D m (j + 1) (2 * (m : Int) - 4 * (j : Int)) = sm_b m j := by
  unfold wy_D
  rw [if_pos (by omega)]
  congr 1; omega
theorem wy_Dat0 (m j : Nat) : wy_D m j (2 * (m : Int) - 4 * (j : Int)) = 0 := if_neg (by omega)
theorem wy_Dne {m j : Nat} {y : Int} (h : y ≠ 2 * (m : Int) - 4 * (j : Int)) : wy_D m (j + 1) y = wy_D m j y := by
  unfold wy_D
  by_cases q : 0 ≤ 2 * (m : Int) - y ∧ (2 * (m : Int) - y) % 4 = 0 ∧ (2 * (m : Int) - y) / 4 < j
  · rw [if_pos q, if_pos (by omega)]
  · rw [if_neg q, if_neg (by omega)]
section
variable {g_n g_len g_known : Int32} {b_word b_joined b_many b_coefficients b_colours b_component : Nat → Int32}
theorem wy_exp {post : Int32 → Prop} {c : Nat} {st : Int32} (hc : c ≤ 10) (P : post (Int32.ofInt (sm_e b_word (uf_bit st) c))) : wpY_exponent post (g_n, nI c, g_known, b_word, b_joined, b_many, b_coefficients, b_colours, b_component) st := by
  have H : ∀ d i, i + d = c → wY_exponent_4 post st g_n (nI c) g_known b_word b_joined b_many b_coefficients b_colours b_component (d + 1) (Int32.ofInt (sm_e b_word (uf_bit st) i)) (nI i) := by
    intro d
    induction d with
    | zero =>
      intro i h
      have : i = c := by omega
      subst this
      exact br_t (nI_le (Nat.le_refl _) (by omega)) P
    | succ d ih =>
      intro i h
      refine br_f (nI_ge (by omega) (by omega)) (bk_br (uf_bit st i) (by rw [uf_bit, decide_eq_true_eq]) (fun hb => ⟨vp_in_nI (by omega) (by omega), ?_⟩) (fun hb => ⟨vp_in_nI (by omega) (by omega), ?_⟩))
      · rw [nI_clamp (by omega)]
        refine bk_signY (nm_r (e' := Int32.ofInt (sm_e b_word (uf_bit st) (i + 1))) ?_ (nm_r (nI_1 i) (ih (i + 1) (by omega))))
        rw [sm_e, if_pos hb, Int32.ofInt_add, Int32.ofInt_neg]
      · rw [nI_clamp (by omega)]
        refine bk_signY (nm_r (e' := Int32.ofInt (sm_e b_word (uf_bit st) (i + 1))) ?_ (nm_r (nI_1 i) (ih (i + 1) (by omega))))
        rw [sm_e, hb, if_neg (by decide), Int32.ofInt_add]
  exact ⟨_, H c 0 (by omega)⟩
theorem wy_15 {post : SY → Prop} {m : Nat} {e : Int} {q : Int → Int} (hm : m ≤ 13) (he : e.natAbs ≤ 10) (K : ∀ a, wy_C a (fun y => q y + sm_D m (y - e)) → post (g_n, g_len, g_known, b_word, b_joined, b_many, a, b_colours, b_component)) :
    ∀ d j a, j + d = m + 1 → wy_C a (fun y => q y + wy_D m j (y - e)) → wY_addPower_15 post (Int32.ofInt e) (nI m) g_n g_len g_known (d + 1) (Int32.ofInt (sm_b m j)) (nI j) b_word b_joined b_many a b_colours b_component := by
  intro d
  induction d with
  | zero =>
    intro j a h H
    have : j = m + 1 := by omega
    subst this
    refine br_t (nI_lt (by omega) (by omega)) (K a (fun x hx => ?_))
    have := H x hx
    dsimp only at this
    rw [wy_DE] at this
    exact this
  | succ d ih =>
    intro j a h H
    obtain ⟨x, hx⟩ : ∃ x : Nat, (x : Int) = 60 + e + 2 * (m : Int) - 4 * (j : Int) := ⟨(60 + e + 2 * (m : Int) - 4 * (j : Int)).toNat, by omega⟩
    have ex : 60 + Int32.ofInt e + 2 * nI m - 4 * nI j = nI x := by
      rw [← bk_oN x, hx, Int32.ofInt_sub, Int32.ofInt_add, Int32.ofInt_add, Int32.ofInt_mul, Int32.ofInt_mul, bk_oN, bk_oN]
      rfl
    refine br_f (nI_nlt (by omega) (by omega)) ?_
    rw [ex, nI_clamp (by omega)]
    refine ⟨vp_in_nI (by omega) (by omega), vp_in_nI (by omega) (by omega), nm_e ⟨?_, nm_r (wy_bs m hm j (by omega)) (nm_r (nI_1 j) (ih (j + 1) _ (by omega) (fun z hz => ?_)))⟩⟩
    · rw [nI_1]
      exact nI_ne0 (by omega) (by omega)
    · show upd a x (a x + Int32.ofInt (sm_b m j)) z = Int32.ofInt (q ((z : Int) - 60) + wy_D m (j + 1) ((z : Int) - 60 - e))
      by_cases zx : z = x
      · subst zx
        rw [pk_us, H z hz]
        have y1 : (z : Int) - 60 - e = 2 * (m : Int) - 4 * (j : Int) := by omega
        show Int32.ofInt (q ((z : Int) - 60) + wy_D m j ((z : Int) - 60 - e)) + _ = _
        rw [y1, wy_Dat, wy_Dat0, Int.add_zero, Int32.ofInt_add]
      · rw [pk_un zx, H z hz, wy_Dne (by omega)]
theorem wy_add {post : SY → Prop} {m : Nat} {e : Int} {q : Int → Int} (hm : m ≤ 13) (he : e.natAbs ≤ 10) (H : wy_C b_coefficients q) (K : ∀ a, wy_C a (fun y => q y + sm_D m (y - e)) → post (g_n, g_len, g_known, b_word, b_joined, b_many, a, b_colours, b_component)) : wpY_addPower post (g_n, g_len, g_known, b_word, b_joined, b_many, b_coefficients, b_colours, b_component) (Int32.ofInt e) (nI m) := by
  have em : nI m - nI m / 2 * 2 = nI (m % 2) := pk_rem (d := 2) (by omega) (by omega) (by omega)
  have H0 : wy_C b_coefficients (fun y => q y + wy_D m 0 (y - e)) := by
    intro x hx
    show b_coefficients x = Int32.ofInt (q ((x : Int) - 60) + wy_D m 0 ((x : Int) - 60 - e))
    rw [H x hx, wy_D0, Int.add_zero]
  have L := wy_15 hm he K (m + 1) 0 b_coefficients (by omega) H0
  have b0 := wy_b0 m hm
  refine And.intro (by decide) ?_
  rw [em]
  refine pk_eq (m % 2) 0 (fun z => ⟨m + 1 + 1, ?_⟩) (fun z => ⟨m + 1 + 1, ?_⟩)
  · rw [if_pos z] at b0
    rw [b0] at L
    exact L
  · rw [if_neg z] at b0
    rw [b0] at L
    exact L
theorem wy_57 {post : SY → Prop} {n c : Nat} (h2 : 2 ≤ n) (h4 : n ≤ 4) (hc : c ≤ 10) (hw : ∀ i, i < c → bk_L n (b_word i))
    (K : ∀ g many coef, wy_M many (sm_T n c b_word) → wy_C coef (sm_B n c b_word) → post (nI n, nI c, g_known, b_word, g, many, coef, b_colours, b_component)) :
    ∀ d s g many coef, s + d = 2 ^ c → wy_M many (fun l => sm_s (fun s => if sm_l n c b_word s = l then 1 else 0) s) → wy_C coef (fun y => sm_s (fun s => sm_D (sm_l n c b_word s - 1) (y - sm_x b_word c s)) s) →
    wY_work_57 post (d + 1) (nI s) (nI n) (nI c) g_known b_word g many coef b_colours b_component := by
  have hp : 2 ^ c ≤ 1024 := Nat.pow_le_pow_right (n := 2) (j := 10) (by decide) hc
  intro d
  induction d with
  | zero =>
    intro s g many coef h HM HC
    have : s = 2 ^ c := by omega
    subst this
    refine br_t ?_ (K g many coef HM HC)
    rw [wy_sh c hc]
    exact nI_le (Nat.le_refl _) (by omega)
  | succ d ih =>
    intro s g many coef h HM HC
    have hl := sm_lr h2 h4 hw s
    have hx : (sm_x b_word c s).natAbs ≤ c := sm_e_bd _ _ _
    refine br_f ?_ ?_
    · rw [wy_sh c hc]
      exact nI_ge (by omega) (by omega)
    · refine uf_count h4 hc hw (fun g1 => ?_)
      rw [wy_L h2 h4 hc hw (by omega)]
      refine wy_exp hc ?_
      rw [wy_X hc (by omega)]
      refine ⟨vp_in_nI (by omega) (by omega), vp_in_nI (by omega) (by omega), nm_r (e' := upd many (sm_l n c b_word s) (many (sm_l n c b_word s) + 1)) (by rw [nI_clamp (by omega)]) ?_⟩
      rw [bk_s1 hl.1]
      refine wy_add (by omega) (by omega) HC (fun a Ha => ?_)
      refine nm_r (nI_1 s) (ih (s + 1) g1 _ a (by omega) (fun l hl' => ?_) Ha)
      show upd many (sm_l n c b_word s) (many (sm_l n c b_word s) + 1) l = Int32.ofInt (sm_s (fun s => if sm_l n c b_word s = l then 1 else 0) s + if sm_l n c b_word s = l then 1 else 0)
      by_cases q : l = sm_l n c b_word s
      · subst q
        rw [pk_us, HM _ hl', if_pos rfl, Int32.ofInt_add]
        rfl
      · rw [pk_un q, HM _ hl', if_neg (fun z => q z.symm), Int.add_zero]
theorem wy_work {post : SY → Prop} {n c : Nat} (h2 : 2 ≤ n) (h4 : n ≤ 4) (hc : c ≤ 10) (hw : ∀ i, i < c → bk_L n (b_word i))
    (hk : g_known = 0 ∨ (g_known = 1 ∧ wy_M b_many (sm_T n c b_word) ∧ wy_C b_coefficients (sm_B n c b_word)))
    (K : ∀ g many coef, wy_M many (sm_T n c b_word) → wy_C coef (sm_B n c b_word) → post (nI n, nI c, 1, b_word, g, many, coef, b_colours, b_component)) : wpY_work post (nI n, nI c, g_known, b_word, b_joined, b_many, b_coefficients, b_colours, b_component) := by
  rcases hk with hk | ⟨hk, HM, HC⟩
  · refine br_t hk ⟨16 - 0 + 1, ?_⟩
    refine bk_fill (W := fun m x a => wY_work_15 post (nI n) (nI c) 1 m x b_word b_joined a b_coefficients b_colours b_component) 0 16 (by omega) (fun _ => 0) b_many (fun m => ?_) ?_
    · refine br_t (by decide) ⟨121 - 0 + 1, ?_⟩
      refine bk_fill (W := fun m x a => wY_work_36 post (nI n) (nI c) 1 m x b_word b_joined (bk_ff 0 16 (fun _ => 0) b_many) a b_colours b_component) 0 121 (by omega) (fun _ => 0) b_coefficients (fun m => ?_) ?_
      · refine br_t (by decide) ⟨2 ^ c + 1, ?_⟩
        exact wy_57 (g_known := 1) h2 h4 hc hw K (2 ^ c) 0 _ _ _ (by omega) (fun l hl => bk_ff_in (by omega) hl) (fun x hx => bk_ff_in (by omega) hx)
      · intro m x a h1 h2 h3 h4
        exact br_f (nI_ge (b := 121) (by omega) (by omega)) ⟨vp_in_nI (by omega) (by omega), nm_r (e' := upd a x 0) (by rw [nI_clamp (by omega)]) (nm_r (nI_1 x) h4)⟩
    · intro m x a h1 h2 h3 h4
      exact br_f (nI_ge (b := 16) (by omega) (by omega)) ⟨vp_in_nI (by omega) (by omega), nm_r (e' := upd a x 0) (by rw [nI_clamp (by omega)]) (nm_r (nI_1 x) h4)⟩
  · subst hk
    exact br_f (by decide) (K _ _ _ HM HC)
end
end
section
-- the component's carry
def fx_Row (a : Nat → Int32) (q : Nat → Int → Int) : Prop := ∀ k e : Nat, k < 14 → e < 81 → a (81 * k + e) = Int32.ofInt (q k ((e : Int) - 40))
def fx_Cnt (a : Nat → Int32) (q : Nat → Nat → Int) : Prop := ∀ k l : Nat, k < 14 → l < 16 → a (16 * k + l) = Int32.ofInt (q k l)
def fx_t (E : Nat) (f : Int → Int) (z : Int) : Int := if -37 ≤ z ∧ z < (E : Int) - 40 then f z else 0
theorem fx_t_1 {E : Nat} {f : Int → Int} (h : 3 ≤ E) : fx_t (E + 1) f ((E : Int) - 40) = f ((E : Int) - 40) := if_pos (by omega)
theorem fx_t_0 {E : Nat} {f : Int → Int} : fx_t E f ((E : Int) - 40) = 0 := if_neg (by omega)
theorem fx_t_ne {E : Nat} {f : Int → Int} {z : Int} (h : z ≠ (E : Int) - 40) : fx_t (E + 1) f z = fx_t E f z := by
  unfold fx_t
  by_cases q : -37 ≤ z ∧ z < (E : Int) - 40
  · rw [if_pos q, if_pos (by omega)]
  · rw [if_neg q, if_neg (by omega)]
theorem fx_t_3 {f : Int → Int} {z : Int} : fx_t 3 f z = 0 := if_neg (by omega)
theorem fx_t_E {f : Int → Int} (hs : ∀ y, (y < -37 ∨ 37 < y) → f y = 0) {z : Int} : fx_t 78 f z = f z := by
  unfold fx_t
  by_cases q : -37 ≤ z ∧ z < ((78 : Nat) : Int) - 40
  · rw [if_pos q]
  · rw [if_neg q, hs z (by omega)]
theorem fx_upd {a : Nat → Int32} {q q' : Nat → Int → Int} {x : Nat} {v : Int32} (H : fx_Row a q) (hx : ∀ k e : Nat, k < 14 → e < 81 → 81 * k + e = x → v = Int32.ofInt (q' k ((e : Int) - 40)))
    (hne : ∀ k e : Nat, k < 14 → e < 81 → 81 * k + e ≠ x → q' k ((e : Int) - 40) = q k ((e : Int) - 40)) : fx_Row (upd a x v) q' := by
  intro k e hk he
  by_cases z : 81 * k + e = x
  · rw [z, pk_us]
    exact hx k e hk he z
  · rw [pk_un z, hne k e hk he z]
    exact H k e hk he
theorem fx_x {t E x : Nat} {b : Int} (h : (x : Int) = 81 * (t : Int) + (E : Int) + b) : 81 * nI t + nI E + Int32.ofInt b = nI x := by
  rw [show (81 : Int32) * nI t + nI E = nI (81 * t + E) from bk_ix 81 t E, ← bk_oN (81 * t + E), ← Int32.ofInt_add]
  exact bk_oE (by omega)
def fx_qF (t : Nat) (b : Int) (q : Nat → Int → Int) (f : Int → Int) (E : Nat) : Nat → Int → Int := fun k y => if k = t then q k y + fx_t E f (y - b) else q k y
def fx_qT (t : Nat) (b : Int) (q : Nat → Int → Int) (f : Int → Int) (E1 E2 : Nat) : Nat → Int → Int := fun k y => if k = t then q k y + (-fx_t E1 f (y - b - 2) - fx_t E2 f (y - b + 2)) else q k y
theorem fx_stF {a : Nat → Int32} {q : Nat → Int → Int} {f : Int → Int} {t E x : Nat} {b : Int} (hb : b = 1 ∨ b = -1) (ht : t < 14) (hE : 3 ≤ E) (hE2 : E < 78) (hx : (x : Int) = 81 * (t : Int) + (E : Int) + b) (H : fx_Row a (fx_qF t b q f E)) :
    fx_Row (upd a x (a x + Int32.ofInt (f ((E : Int) - 40)))) (fx_qF t b q f (E + 1)) := by
  refine fx_upd H (fun k e hk he h => ?_) (fun k e hk he h => ?_)
  · have h1 : k = t := by omega
    subst h1
    have h2 : (e : Int) - 40 - b = (E : Int) - 40 := by omega
    rw [← h, H k e hk he]
    unfold fx_qF
    rw [if_pos rfl, if_pos rfl, h2, fx_t_0, fx_t_1 hE, Int.add_zero, Int32.ofInt_add]
  · unfold fx_qF
    by_cases h1 : k = t
    · subst h1
      rw [if_pos rfl, if_pos rfl, fx_t_ne (by omega)]
    · rw [if_neg h1, if_neg h1]
theorem fx_stT {a : Nat → Int32} {q : Nat → Int → Int} {f : Int → Int} {t E x : Nat} {b : Int} (hb : b = 1 ∨ b = -1) (ht : t < 14) (hE : 3 ≤ E) (hE2 : E < 78) (hx : (x : Int) = 81 * (t : Int) + (E : Int) + b) (H : fx_Row a (fx_qT t b q f E E)) :
    fx_Row (upd (upd a (x - 2) (a (x - 2) - Int32.ofInt (f ((E : Int) - 40)))) (x + 2) ((upd a (x - 2) (a (x - 2) - Int32.ofInt (f ((E : Int) - 40)))) (x + 2) - Int32.ofInt (f ((E : Int) - 40)))) (fx_qT t b q f (E + 1) (E + 1)) := by
  have H1 : fx_Row (upd a (x - 2) (a (x - 2) - Int32.ofInt (f ((E : Int) - 40)))) (fx_qT t b q f E (E + 1)) := by
    refine fx_upd H (fun k e hk he h => ?_) (fun k e hk he h => ?_)
    · have h1 : k = t := by omega
      subst h1
      have h2 : (e : Int) - 40 - b + 2 = (E : Int) - 40 := by omega
      rw [← h, H k e hk he]
      unfold fx_qT
      rw [if_pos rfl, if_pos rfl, h2, fx_t_0, fx_t_1 hE, ← Int32.ofInt_sub]
      congr 1; omega
    · unfold fx_qT
      by_cases h1 : k = t
      · subst h1
        rw [if_pos rfl, if_pos rfl, fx_t_ne (z := (e : Int) - 40 - b + 2) (by omega)]
      · rw [if_neg h1, if_neg h1]
  generalize upd a (x - 2) (a (x - 2) - Int32.ofInt (f ((E : Int) - 40))) = a1 at *
  refine fx_upd H1 (fun k e hk he h => ?_) (fun k e hk he h => ?_)
  · have h1 : k = t := by omega
    subst h1
    have h2 : (e : Int) - 40 - b - 2 = (E : Int) - 40 := by omega
    rw [← h, H1 k e hk he]
    unfold fx_qT
    rw [if_pos rfl, if_pos rfl, h2, fx_t_0, fx_t_1 hE, ← Int32.ofInt_sub]
    congr 1; omega
  · unfold fx_qT
    by_cases h1 : k = t
    · subst h1
      rw [if_pos rfl, if_pos rfl, fx_t_ne (z := (e : Int) - 40 - b - 2) (by omega)]
    · rw [if_neg h1, if_neg h1]
def fx_u (l : Nat) (f : Nat → Int) (m : Nat) : Int := if m < l then f m else 0
theorem fx_updC {a : Nat → Int32} {q q' : Nat → Nat → Int} {x : Nat} {v : Int32} (H : fx_Cnt a q) (hx : ∀ k e : Nat, k < 14 → e < 16 → 16 * k + e = x → v = Int32.ofInt (q' k e))
    (hne : ∀ k e : Nat, k < 14 → e < 16 → 16 * k + e ≠ x → q' k e = q k e) : fx_Cnt (upd a x v) q' := by
  intro k e hk he
  by_cases z : 16 * k + e = x
  · rw [z, pk_us]
    exact hx k e hk he z
  · rw [pk_un z, hne k e hk he z]
    exact H k e hk he
def fx_sh (lp : Bool) : Nat := match lp with | true => 1 | false => 0
theorem fx_u1 (f : Nat → Int) (l : Nat) : fx_u (l + 1) f l = f l := if_pos (Nat.lt_succ_self l)
theorem fx_u0 (f : Nat → Int) (l : Nat) : fx_u l f l = 0 := if_neg (Nat.lt_irrefl l)
theorem fx_uz (f : Nat → Int) (l : Nat) : fx_u 0 f l = 0 := if_neg (Nat.not_lt_zero l)
theorem fx_dl1 (lp : Bool) (f : Nat → Int) (l : Nat) : sm_dl lp (fx_u (l + 1) f) (l + fx_sh lp) = f l := by
  cases lp with
  | false => exact fx_u1 f l
  | true => exact fx_u1 f l
theorem fx_dl0 (lp : Bool) (f : Nat → Int) (l : Nat) : sm_dl lp (fx_u l f) (l + fx_sh lp) = 0 := by
  cases lp with
  | false => exact fx_u0 f l
  | true => exact fx_u0 f l
theorem fx_une {f : Nat → Int} {l m : Nat} (h : m ≠ l) : fx_u (l + 1) f m = fx_u l f m := by
  unfold fx_u
  by_cases q : m < l
  · rw [if_pos q, if_pos (by omega)]
  · rw [if_neg q, if_neg (by omega)]
theorem fx_dlne {lp : Bool} {f : Nat → Int} {l m : Nat} (h : m ≠ l + fx_sh lp) : sm_dl lp (fx_u (l + 1) f) m = sm_dl lp (fx_u l f) m := by
  cases lp with
  | false => exact fx_une (by exact h)
  | true =>
    cases m with
    | zero => rfl
    | succ m => exact fx_une (fun z => h (by rw [z]; rfl))
theorem fx_dl15 {lp : Bool} {f : Nat → Int} (hl : ∀ l, 15 ≤ l → f l = 0) (m : Nat) : sm_dl lp (fx_u 15 f) m = sm_dl lp f m := by
  have e : fx_u 15 f = f := by
    funext z
    unfold fx_u
    by_cases q : z < 15
    · rw [if_pos q]
    · rw [if_neg q, hl z (by omega)]
  rw [e]
section
variable {f_strands f_count f_joinings f_known : Int32} {a_word a_partner a_work a_shut a_closes a_closed a_seen a_power a_next a_result a_scaled a_many a_later a_tally a_matrix a_track a_component : Nat → Int32}
theorem fx_92 {post : SX → Prop} {k t : Nat} {lp : Bool} {pm qm : Nat → Nat → Int} (hk : k < 14) (ht : t < 14) (Hp : fx_Cnt a_many pm) (hl : ∀ l, 15 ≤ l → pm k l = 0)
    (K : ∀ lt, fx_Cnt lt (fun k' l => if k' = t then qm k' l + sm_dl lp (pm k) l else qm k' l) → post (f_strands, f_count, f_joinings, f_known, a_word, a_partner, a_work, a_shut, a_closes, a_closed, a_seen, a_power, a_next, a_result, a_scaled, a_many, lt, a_tally, a_matrix, a_track, a_component)) :
    ∀ d l a, l + d = 15 → fx_Cnt a (fun k' m => if k' = t then qm k' m + sm_dl lp (fx_u l (pm k)) m else qm k' m) → wX_carry_92 post (nI k) (nI t) (cj_b lp) f_strands f_count f_joinings f_known (d + 1) (nI l) a_word a_partner a_work a_shut a_closes a_closed a_seen a_power a_next a_result a_scaled a_many a a_tally a_matrix a_track a_component := by
  intro d
  induction d with
  | zero =>
    intro l a h H
    have : l = 15 := by omega
    subst this
    refine br_t (by decide) (K a (fun k' m hk' hm => ?_))
    rw [H k' m hk' hm]
    dsimp only
    rw [fx_dl15 hl]
  | succ d ih =>
    intro l a h H
    refine br_f (nI_ge (b := 15) (by omega) (by omega)) ?_
    have e1 : (16 : Int32) * nI k + nI l = nI (16 * k + l) := bk_ix 16 k l
    have hv : a_many (16 * k + l) = Int32.ofInt (pm k l) := Hp k l hk (by omega)
    have S : ∀ x, x = 16 * t + (l + fx_sh lp) → fx_Cnt (upd a x (a x + a_many (16 * k + l))) (fun k' m => if k' = t then qm k' m + sm_dl lp (fx_u (l + 1) (pm k)) m else qm k' m) := by
      intro x hx
      have hs : fx_sh lp ≤ 1 := by cases lp <;> decide
      refine fx_updC H (fun k' e hk' he z => ?_) (fun k' e hk' he z => ?_)
      · have h1 : k' = t := by omega
        subst h1
        have h2 : e = l + fx_sh lp := by omega
        rw [← z, H k' e hk' he, hv]
        dsimp only
        rw [if_pos rfl, if_pos rfl, h2, fx_dl0, fx_dl1, Int.add_zero, Int32.ofInt_add]
      · by_cases h1 : k' = t
        · subst h1
          rw [if_pos rfl, if_pos rfl, fx_dlne (by omega)]
        · rw [if_neg h1, if_neg h1]
    cases lp with
    | false =>
      refine br_t rfl ?_
      have e2 : (16 : Int32) * nI t + nI l = nI (16 * t + l) := bk_ix 16 t l
      refine And.intro (pk_in (16 * t + l) 224 (by omega) e2) ⟨pk_in (16 * k + l) 224 (by omega) e1, pk_in (16 * t + l) 224 (by omega) e2, nm_r (e' := upd a (16 * t + l) (a (16 * t + l) + a_many (16 * k + l))) ?_ (nm_r (nI_1 l) (ih (l + 1) _ (by omega) (S _ rfl)))⟩
      rw [e1, e2, nI_clamp (by omega), nI_clamp (by omega)]
    | true =>
      refine br_f (show ¬ (1 : Int32) = 0 by decide) ?_
      have e2 : (16 : Int32) * nI t + (nI l + 1) = nI (16 * t + (l + 1)) := by rw [nI_1]; exact bk_ix 16 t (l + 1)
      refine And.intro (pk_in (16 * t + (l + 1)) 224 (by omega) e2) ⟨pk_in (16 * k + l) 224 (by omega) e1, pk_in (16 * t + (l + 1)) 224 (by omega) e2, nm_r (e' := upd a (16 * t + (l + 1)) (a (16 * t + (l + 1)) + a_many (16 * k + l))) ?_ (nm_r (nI_1 l) (ih (l + 1) _ (by omega) (S _ rfl)))⟩
      rw [e1, e2, nI_clamp (by omega), nI_clamp (by omega)]
theorem fx_3F {post : SX → Prop} {k t : Nat} {b : Int} {p q : Nat → Int → Int} (hk : k < 14) (ht : t < 14) (hb : b = 1 ∨ b = -1) (Hp : fx_Row a_power p) (hs : ∀ y, (y < -37 ∨ 37 < y) → p k y = 0)
    (K : ∀ nx, fx_Row nx (fun k' y => if k' = t then q k' y + sm_cl false b (p k) y else q k' y) → ∃ n92 : Nat, wX_carry_92 post (nI k) (nI t) (cj_b false) f_strands f_count f_joinings f_known n92 0 a_word a_partner a_work a_shut a_closes a_closed a_seen a_power nx a_result a_scaled a_many a_later a_tally a_matrix a_track a_component) :
    ∀ d E a, E + d = 78 → 3 ≤ E → fx_Row a (fx_qF t b q (p k) E) → wX_carry_3 post (nI k) (nI t) (Int32.ofInt b) (cj_b false) f_strands f_count f_joinings f_known (d + 1) (nI E) a_word a_partner a_work a_shut a_closes a_closed a_seen a_power a a_result a_scaled a_many a_later a_tally a_matrix a_track a_component := by
  intro d
  induction d with
  | zero =>
    intro E a h h3 H
    have : E = 78 := by omega
    subst this
    refine br_t (by decide) (K a (fun k' e hk' he => ?_))
    rw [H k' e hk' he]
    unfold fx_qF
    rw [fx_t_E hs]
    rfl
  | succ d ih =>
    intro E a h h3 H
    obtain ⟨x, hx⟩ : ∃ x : Nat, (x : Int) = 81 * (t : Int) + (E : Int) + b := ⟨(81 * (t : Int) + (E : Int) + b).toNat, by omega⟩
    have e1 : (81 : Int32) * nI k + nI E = nI (81 * k + E) := bk_ix 81 k E
    refine br_f (nI_ge (b := 78) (by omega) (by omega)) ⟨pk_in (81 * k + E) 1134 (by omega) e1, nm_r (e' := Int32.ofInt (p k ((E : Int) - 40))) (by rw [e1, nI_clamp (by omega), Hp k E hk (by omega)]) (nm_r (fx_x hx) (br_t rfl ⟨vp_in_nI (by omega) (by omega), vp_in_nI (by omega) (by omega), nm_r (e' := upd a x (a x + Int32.ofInt (p k ((E : Int) - 40)))) (by rw [nI_clamp (by omega)]) (nm_r (nI_1 E) (ih (E + 1) _ (by omega) (by omega) (fx_stF hb ht h3 (by omega) hx H)))⟩))⟩
theorem fx_3T {post : SX → Prop} {k t : Nat} {b : Int} {p q : Nat → Int → Int} (hk : k < 14) (ht : t < 14) (hb : b = 1 ∨ b = -1) (Hp : fx_Row a_power p) (hs : ∀ y, (y < -37 ∨ 37 < y) → p k y = 0)
    (K : ∀ nx, fx_Row nx (fun k' y => if k' = t then q k' y + sm_cl true b (p k) y else q k' y) → ∃ n92 : Nat, wX_carry_92 post (nI k) (nI t) (cj_b true) f_strands f_count f_joinings f_known n92 0 a_word a_partner a_work a_shut a_closes a_closed a_seen a_power nx a_result a_scaled a_many a_later a_tally a_matrix a_track a_component) :
    ∀ d E a, E + d = 78 → 3 ≤ E → fx_Row a (fx_qT t b q (p k) E E) → wX_carry_3 post (nI k) (nI t) (Int32.ofInt b) (cj_b true) f_strands f_count f_joinings f_known (d + 1) (nI E) a_word a_partner a_work a_shut a_closes a_closed a_seen a_power a a_result a_scaled a_many a_later a_tally a_matrix a_track a_component := by
  intro d
  induction d with
  | zero =>
    intro E a h h3 H
    have : E = 78 := by omega
    subst this
    refine br_t (by decide) (K a (fun k' e hk' he => ?_))
    rw [H k' e hk' he]
    unfold fx_qT
    rw [fx_t_E hs, fx_t_E hs]
    rfl
  | succ d ih =>
    intro E a h h3 H
    obtain ⟨x, hx⟩ : ∃ x : Nat, (x : Int) = 81 * (t : Int) + (E : Int) + b := ⟨(81 * (t : Int) + (E : Int) + b).toNat, by omega⟩
    have e1 : (81 : Int32) * nI k + nI E = nI (81 * k + E) := bk_ix 81 k E
    have e2 : nI x - 2 = nI (x - 2) := pk_sub (b := 2) (by omega)
    have e3 : nI x + 2 = nI (x + 2) := nI_add x 2
    refine br_f (nI_ge (b := 78) (by omega) (by omega)) ⟨pk_in (81 * k + E) 1134 (by omega) e1, nm_r (e' := Int32.ofInt (p k ((E : Int) - 40))) (by rw [e1, nI_clamp (by omega), Hp k E hk (by omega)]) (nm_r (fx_x hx) (br_f (show ¬ (1 : Int32) = 0 by decide) ?_))⟩
    rw [e2, e3, nI_clamp (by omega), nI_clamp (by omega)]
    exact ⟨vp_in_nI (by omega) (by omega), vp_in_nI (by omega) (by omega), nm_e ⟨vp_in_nI (by omega) (by omega), vp_in_nI (by omega) (by omega), nm_e (nm_r (nI_1 E) (ih (E + 1) _ (by omega) (by omega) (fx_stT hb ht h3 (by omega) hx H)))⟩⟩
theorem fx_carry {post : SX → Prop} {k t : Nat} {b : Int} {lp : Bool} {p q : Nat → Int → Int} {pm qm : Nat → Nat → Int} (hk : k < 14) (ht : t < 14) (hb : b = 1 ∨ b = -1) (Hp : fx_Row a_power p) (Hq : fx_Row a_next q) (Hpm : fx_Cnt a_many pm) (Hqm : fx_Cnt a_later qm) (hs : ∀ y, (y < -37 ∨ 37 < y) → p k y = 0) (hl : ∀ l, 15 ≤ l → pm k l = 0)
    (K : ∀ nx lt, fx_Row nx (fun k' y => if k' = t then q k' y + sm_cl lp b (p k) y else q k' y) → fx_Cnt lt (fun k' l => if k' = t then qm k' l + sm_dl lp (pm k) l else qm k' l) → post (f_strands, f_count, f_joinings, f_known, a_word, a_partner, a_work, a_shut, a_closes, a_closed, a_seen, a_power, nx, a_result, a_scaled, a_many, lt, a_tally, a_matrix, a_track, a_component)) : wpX_carry post (f_strands, f_count, f_joinings, f_known, a_word, a_partner, a_work, a_shut, a_closes, a_closed, a_seen, a_power, a_next, a_result, a_scaled, a_many, a_later, a_tally, a_matrix, a_track, a_component) (nI k) (nI t) (Int32.ofInt b) (cj_b lp) := by
  refine ⟨76, ?_⟩
  have L : ∀ nx, fx_Row nx (fun k' y => if k' = t then q k' y + sm_cl lp b (p k) y else q k' y) → ∃ n92 : Nat, wX_carry_92 post (nI k) (nI t) (cj_b lp) f_strands f_count f_joinings f_known n92 0 a_word a_partner a_work a_shut a_closes a_closed a_seen a_power nx a_result a_scaled a_many a_later a_tally a_matrix a_track a_component := by
    intro nx hn
    refine ⟨16, fx_92 hk ht Hpm hl (fun lt ht => K nx lt hn ht) 15 0 _ rfl (fun k' m hk' hm => ?_)⟩
    rw [Hqm k' m hk' hm]
    have e : sm_dl lp (fx_u 0 (pm k)) m = 0 := by
      cases lp with
      | false => exact fx_uz _ _
      | true =>
        cases m with
        | zero => rfl
        | succ m => exact fx_uz _ _
    dsimp only
    rw [e, Int.add_zero]
    split <;> rfl
  cases lp with
  | false =>
    refine fx_3F hk ht hb Hp hs L 75 3 a_next rfl (by omega) (fun k' e hk' he => ?_)
    rw [Hq k' e hk' he]
    unfold fx_qF
    rw [fx_t_3, Int.add_zero]
    split <;> rfl
  | true =>
    refine fx_3T hk ht hb Hp hs L 75 3 a_next rfl (by omega) (fun k' e hk' he => ?_)
    rw [Hq k' e hk' he]
    unfold fx_qT
    rw [fx_t_3, fx_t_3]
    have : q k' ((e : Int) - 40) + (-0 - 0) = q k' ((e : Int) - 40) := by omega
    rw [this]
    split <;> rfl
end
end
section
-- the component's work: one more letter
theorem fx_gneg (x : Int32) : -bk_g x = 1 ∨ -bk_g x = -1 := by
  have := sm_g1 x
  omega
theorem fx_lp {n k p : Nat} (h : ul_C n k p ≤ 1) : ul_C n k p = (if decide (ul_C n k p = 1) = true then 1 else 0) ∧ nI (ul_C n k p) = cj_b (decide (ul_C n k p = 1)) := by
  have : ul_C n k p = 0 ∨ ul_C n k p = 1 := by omega
  rcases this with e | e <;> rw [e] <;> exact ⟨rfl, rfl⟩
section
variable {f_strands f_count f_joinings f_known : Int32} {a_word a_partner a_work a_shut a_closes a_closed a_seen a_power a_next a_result a_scaled a_many a_later a_tally a_matrix a_track a_component : Nat → Int32}
theorem fx_clear {post : SX → Prop} (K : ∀ nx lt, fx_Row nx (fun _ _ => 0) → fx_Cnt lt (fun _ _ => 0) → post (f_strands, f_count, f_joinings, f_known, a_word, a_partner, a_work, a_shut, a_closes, a_closed, a_seen, a_power, nx, a_result, a_scaled, a_many, lt, a_tally, a_matrix, a_track, a_component)) : wpX_clearNext post (f_strands, f_count, f_joinings, f_known, a_word, a_partner, a_work, a_shut, a_closes, a_closed, a_seen, a_power, a_next, a_result, a_scaled, a_many, a_later, a_tally, a_matrix, a_track, a_component) := by
  refine ⟨1134 - 0 + 1, ?_⟩
  refine bk_fill (W := fun m x a => wX_clearNext_2 post f_strands f_count f_joinings f_known m x a_word a_partner a_work a_shut a_closes a_closed a_seen a_power a a_result a_scaled a_many a_later a_tally a_matrix a_track a_component) 0 1134 (by omega) (fun _ => 0) a_next (fun m => ?_) ?_
  · refine br_t (by decide) ⟨224 - 0 + 1, ?_⟩
    refine bk_fill (W := fun m x a => wX_clearNext_24 post f_strands f_count f_joinings f_known m x a_word a_partner a_work a_shut a_closes a_closed a_seen a_power (bk_ff 0 1134 (fun _ => 0) a_next) a_result a_scaled a_many a a_tally a_matrix a_track a_component) 0 224 (by omega) (fun _ => 0) a_later (fun m => ?_) ?_
    · exact br_t (by decide) (K _ _ (fun k e hk he => bk_ff_in (by omega) (by omega)) (fun k e hk he => bk_ff_in (by omega) (by omega)))
    · intro m x a h1 h2 h3 h4
      exact br_f (nI_ge (b := 224) (by omega) (by omega)) ⟨vp_in_nI (by omega) (by omega), nm_r (e' := upd a x 0) (by rw [nI_clamp (by omega)]) (nm_r (nI_1 x) h4)⟩
  · intro m x a h1 h2 h3 h4
    exact br_f (nI_ge (b := 1134) (by omega) (by omega)) ⟨vp_in_nI (by omega) (by omega), nm_r (e' := upd a x 0) (by rw [nI_clamp (by omega)]) (nm_r (nI_1 x) h4)⟩
theorem fx_23 {post : SX → Prop} {n c i : Nat} {w : Nat → Int32} (h2 : 2 ≤ n) (h4 : n ≤ 4) (hc : c ≤ 10) (hw : ∀ i, i < c → bk_L n (w i)) (hi : i < c) (Hp : fx_Row a_power (sm_p n w i)) (Hm : fx_Cnt a_many (sm_c n w i))
    (K : ∀ nx lt, fx_Row nx (sm_r n w i (tb_J n)) → fx_Cnt lt (sm_t n w i (tb_J n)) → ∃ n81 : Nat, wX_work_81 post f_strands f_count (nI (tb_J n)) f_known n81 0 a_word a_partner a_work (cj_fa (tb_S n)) (cj_fa (tb_C n)) a_closed a_seen a_power nx a_result a_scaled a_many lt a_tally a_matrix a_track a_component) :
    ∀ d J nx lt, J + d = tb_J n → fx_Row nx (sm_r n w i J) → fx_Cnt lt (sm_t n w i J) → wX_work_23 post (Int32.ofInt (bk_g (w i))) (nI (bk_p (w i))) (d + 1) (nI J) f_strands f_count (nI (tb_J n)) f_known a_word a_partner a_work (cj_fa (tb_S n)) (cj_fa (tb_C n)) a_closed a_seen a_power nx a_result a_scaled a_many lt a_tally a_matrix a_track a_component := by
  have hJ := ul_J14 h2 h4
  obtain ⟨p1, p2⟩ := bk_Lp (hw i hi) h4
  intro d
  induction d with
  | zero =>
    intro J nx lt h H1 H2
    have : J = tb_J n := by omega
    subst this
    exact br_t (nI_le (Nat.le_refl _) (by omega)) (K nx lt H1 H2)
  | succ d ih =>
    intro J nx lt h H1 H2
    have hs : ∀ y : Int, (y < -37 ∨ 37 < y) → sm_p n w i J y = 0 := fun y hy => sm_p_out h2 h4 hw (by omega) (by omega)
    have hl : ∀ l, 15 ≤ l → sm_c n w i J l = 0 := fun l hl => sm_c_out h2 h4 hw (by omega) (by omega)
    obtain ⟨-, -, -, s1, s2⟩ := ul_chkE true h2 h4 (k := J) (by omega) p1 p2
    have s1' : ul_S n J (bk_p (w i)) < tb_J n := s1
    have s2' : ul_C n J (bk_p (w i)) ≤ 1 := s2
    obtain ⟨l1, l2⟩ := fx_lp s2'
    refine br_f (nI_ge (by omega) (by omega)) ?_
    refine fx_carry (lp := false) (k := J) (t := J) (by omega) (by omega) (sm_g1 _) Hp H1 Hm H2 hs hl (fun nx1 lt1 H3 H4 => ?_)
    have e4 : (4 : Int32) * nI J + nI (bk_p (w i)) = nI (4 * J + bk_p (w i)) := bk_ix 4 J _
    have eS : cj_fa (tb_S n) (nI (4 * J + bk_p (w i))).toNatClampNeg = nI (ul_S n J (bk_p (w i))) := by rw [nI_clamp (by omega)]; rfl
    have eC : cj_fa (tb_C n) (nI (4 * J + bk_p (w i))).toNatClampNeg = cj_b (decide (ul_C n J (bk_p (w i)) = 1)) := by rw [nI_clamp (by omega), ← l2]; rfl
    dsimp only
    rw [e4, eS, eC, Int32.neg_ofInt]
    refine ⟨vp_in_nI (by omega) (by omega), vp_in_nI (by omega) (by omega), ?_⟩
    refine fx_carry (by omega) (by omega) (fx_gneg _) Hp H3 Hm H4 hs hl (fun nx2 lt2 H5 H6 => ?_)
    refine nm_r (nI_1 J) (ih (J + 1) nx2 lt2 (by omega) (fun k e hk he => ?_) (fun k l hk hl => ?_))
    · rw [H5 k e hk he, sm_rs l1]
      congr 1
      show (if k = ul_S n J (bk_p (w i)) then (if k = J then sm_r n w i J k ((e : Int) - 40) + sm_p n w i J ((e : Int) - 40 - bk_g (w i)) else sm_r n w i J k ((e : Int) - 40)) + sm_cl (decide (ul_C n J (bk_p (w i)) = 1)) (-bk_g (w i)) (sm_p n w i J) ((e : Int) - 40) else (if k = J then sm_r n w i J k ((e : Int) - 40) + sm_p n w i J ((e : Int) - 40 - bk_g (w i)) else sm_r n w i J k ((e : Int) - 40))) = _
      by_cases a1 : k = ul_S n J (bk_p (w i)) <;> by_cases a2 : k = J
      · rw [if_pos a1, if_pos a2, if_pos a2, if_pos a1]
      · rw [if_pos a1, if_neg a2, if_neg a2, if_pos a1, Int.add_zero]
      · rw [if_neg a1, if_pos a2, if_pos a2, if_neg a1, Int.add_zero]
      · rw [if_neg a1, if_neg a2, if_neg a2, if_neg a1, Int.add_zero, Int.add_zero]
    · rw [H6 k l hk hl, sm_ts l1]
      congr 1
      show (if k = ul_S n J (bk_p (w i)) then (if k = J then sm_t n w i J k l + sm_c n w i J l else sm_t n w i J k l) + sm_dl (decide (ul_C n J (bk_p (w i)) = 1)) (sm_c n w i J) l else (if k = J then sm_t n w i J k l + sm_c n w i J l else sm_t n w i J k l)) = _
      by_cases a1 : k = ul_S n J (bk_p (w i)) <;> by_cases a2 : k = J
      · rw [if_pos a1, if_pos a2, if_pos a2, if_pos a1]
      · rw [if_pos a1, if_neg a2, if_neg a2, if_pos a1, Int.add_zero]
      · rw [if_neg a1, if_pos a2, if_pos a2, if_neg a1, Int.add_zero]
      · rw [if_neg a1, if_neg a2, if_neg a2, if_neg a1, Int.add_zero, Int.add_zero]
theorem fx_81 {post : SX → Prop} {p : Nat → Int → Int} {m : Nat → Nat → Int} (H1 : fx_Row a_next p) (H2 : fx_Cnt a_later m) (K : ∀ pw mn, fx_Row pw p → fx_Cnt mn m → post (f_strands, f_count, f_joinings, f_known, a_word, a_partner, a_work, a_shut, a_closes, a_closed, a_seen, pw, a_next, a_result, a_scaled, mn, a_later, a_tally, a_matrix, a_track, a_component)) : ∃ n81 : Nat, wX_work_81 post f_strands f_count f_joinings f_known n81 0 a_word a_partner a_work a_shut a_closes a_closed a_seen a_power a_next a_result a_scaled a_many a_later a_tally a_matrix a_track a_component := by
  refine ⟨1134 - 0 + 1, ?_⟩
  refine bk_fill (W := fun m x a => wX_work_81 post f_strands f_count f_joinings f_known m x a_word a_partner a_work a_shut a_closes a_closed a_seen a a_next a_result a_scaled a_many a_later a_tally a_matrix a_track a_component) 0 1134 (by omega) a_next a_power (fun m => ?_) ?_
  · refine br_t (by decide) ⟨224 - 0 + 1, ?_⟩
    refine bk_fill (W := fun m x a => wX_work_112 post f_strands f_count f_joinings f_known m x a_word a_partner a_work a_shut a_closes a_closed a_seen (bk_ff 0 1134 a_next a_power) a_next a_result a_scaled a a_later a_tally a_matrix a_track a_component) 0 224 (by omega) a_later a_many (fun m => ?_) ?_
    · refine br_t (by decide) (K _ _ (fun k e hk he => ?_) (fun k e hk he => ?_))
      · rw [bk_ff_in (by omega) (by omega)]
        exact H1 k e hk he
      · rw [bk_ff_in (by omega) (by omega)]
        exact H2 k e hk he
    · intro m x a h1 h2 h3 h4
      exact br_f (nI_ge (b := 224) (by omega) (by omega)) ⟨vp_in_nI (by omega) (by omega), vp_in_nI (by omega) (by omega), nm_r (e' := upd a x (a_later x)) (by rw [nI_clamp (by omega)]) (nm_r (nI_1 x) h4)⟩
  · intro m x a h1 h2 h3 h4
    exact br_f (nI_ge (b := 1134) (by omega) (by omega)) ⟨vp_in_nI (by omega) (by omega), vp_in_nI (by omega) (by omega), nm_r (e' := upd a x (a_next x)) (by rw [nI_clamp (by omega)]) (nm_r (nI_1 x) h4)⟩
theorem fx_work {post : SX → Prop} {n c i : Nat} {w : Nat → Int32} (h2 : 2 ≤ n) (h4 : n ≤ 4) (hc : c ≤ 10) (hw : ∀ i, i < c → bk_L n (w i)) (hi : i < c) (Hp : fx_Row a_power (sm_p n w i)) (Hm : fx_Cnt a_many (sm_c n w i))
    (K : ∀ pw nx mn lt, fx_Row pw (sm_p n w (i + 1)) → fx_Cnt mn (sm_c n w (i + 1)) → post (f_strands, f_count, nI (tb_J n), f_known, a_word, a_partner, a_work, cj_fa (tb_S n), cj_fa (tb_C n), a_closed, a_seen, pw, nx, a_result, a_scaled, mn, lt, a_tally, a_matrix, a_track, a_component)) :
    wpX_work post (f_strands, f_count, nI (tb_J n), f_known, a_word, a_partner, a_work, cj_fa (tb_S n), cj_fa (tb_C n), a_closed, a_seen, a_power, a_next, a_result, a_scaled, a_many, a_later, a_tally, a_matrix, a_track, a_component) (w i) := by
  have hJ := ul_J14 h2 h4
  have W9 : wX_work_9 post (w i) (Int32.ofInt (bk_g (w i))) f_strands f_count (nI (tb_J n)) f_known a_word a_partner a_work (cj_fa (tb_S n)) (cj_fa (tb_C n)) a_closed a_seen a_power a_next a_result a_scaled a_many a_later a_tally a_matrix a_track a_component := by
    unfold wX_work_9
    refine bk_posX (hw i hi) h4 ?_
    refine fx_clear (fun nx lt H1 H2 => ?_)
    refine ⟨tb_J n + 1, fx_23 h2 h4 hc hw hi Hp Hm (fun nx1 lt1 H3 H4 => ?_) (tb_J n) 0 nx lt (by omega) (fun k e hk he => ?_) (fun k l hk hl => ?_)⟩
    · refine fx_81 H3 H4 (fun pw mn H5 H6 => K pw nx1 mn lt1 (fun k e hk he => ?_) (fun k l hk hl => ?_))
      · rw [H5 k e hk he, sm_rJ h2 h4 hw (by omega)]
      · rw [H6 k l hk hl, sm_tJ h2 h4 hw (by omega)]
    · rw [H1 k e hk he, sm_r0]
    · rw [H2 k l hk hl, sm_t0]
  rcases bk_L6 (hw i hi) h4 with ⟨g1, -, -, g4⟩ | ⟨g1, -, -, g4⟩
  · rw [g4] at W9
    exact br_t g1 W9
  · rw [g4] at W9
    exact br_f g1 W9
end
end
section
-- the component's collect and find
def fx_Sc (a : Nat → Int32) (r : Int → Int) : Prop := ∀ e : Nat, e < 81 → a e = Int32.ofInt (r ((e : Int) - 40))
def fx_td (r : Int → Int) (y : Int) : Int := -r (y - 2) - r (y + 2)
theorem fx_dp_out {f : Int → Int} {B : Nat} (h : ∀ y : Int, ((B : Int) < y ∨ y < -(B : Int)) → f y = 0) : ∀ (t : Nat) (y : Int), ((B : Int) + 2 * (t : Int) < y ∨ y < -(B : Int) - 2 * (t : Int)) → sm_dp f t y = 0 := by
  intro t
  induction t with
  | zero => intro y hy; exact h y (by omega)
  | succ t ih =>
    intro y hy
    show -sm_dp f t (y - 2) - sm_dp f t (y + 2) = 0
    rw [ih (y - 2) (by omega), ih (y + 2) (by omega)]
    rfl
section
variable {f_strands f_count f_joinings f_known : Int32} {a_word a_partner a_work a_shut a_closes a_closed a_seen a_power a_next a_result a_scaled a_many a_later a_tally a_matrix a_track a_component : Nat → Int32}
theorem fx_6 {post : SX → Prop} {r : Int → Int} (hs : ∀ y : Int, (36 < y ∨ y < -36) → r y = 0) (K : ∀ a, fx_Sc a (fx_td r) → post (f_strands, f_count, f_joinings, f_known, a_word, a_partner, a_work, a_shut, a_closes, a_closed, a_seen, a_power, a_next, a_result, a, a_many, a_later, a_tally, a_matrix, a_track, a_component)) :
    ∀ d e a, e + d = 79 → (∀ j : Nat, j < 81 → a j = Int32.ofInt (if j < e then fx_td r ((j : Int) - 40) else r ((j : Int) - 40))) → wX_timesD_6 post f_strands f_count f_joinings f_known (d + 1) (Int32.ofInt (r ((e : Int) - 41))) (Int32.ofInt (r ((e : Int) - 42))) (nI e) a_word a_partner a_work a_shut a_closes a_closed a_seen a_power a_next a_result a a_many a_later a_tally a_matrix a_track a_component := by
  intro d
  induction d with
  | zero =>
    intro e a h H
    have : e = 79 := by omega
    subst this
    refine br_t (by decide) (nm_e (nm_e (K _ (fun j hj => ?_))))
    by_cases j1 : j = 80
    · subst j1
      rw [pk_us]
      unfold fx_td
      rw [hs _ (by omega), hs _ (by omega)]
      rfl
    · rw [pk_un j1]
      by_cases j2 : j = 79
      · subst j2
        rw [pk_us]
        unfold fx_td
        rw [hs _ (by omega), hs _ (by omega)]
        rfl
      · rw [pk_un j2, H j hj, if_pos (by omega)]
  | succ d ih =>
    intro e a h H
    have e2 : nI e + 2 = nI (e + 2) := nI_add e 2
    refine br_f (nI_ge (b := 79) (by omega) (by omega)) ⟨vp_in_nI (by omega) (by omega), nm_r (e' := Int32.ofInt (r ((e : Int) - 40))) ?_ ⟨pk_in (e + 2) 81 (by omega) e2, vp_in_nI (by omega) (by omega), nm_r (e' := upd a e (Int32.ofInt (fx_td r ((e : Int) - 40)))) ?_ (nm_r (nI_1 e) ?_)⟩⟩
    · rw [nI_clamp (by omega), H e (by omega), if_neg (by omega)]
    · rw [e2, nI_clamp (by omega), nI_clamp (by omega), H (e + 2) (by omega), if_neg (by omega)]
      congr 1
      unfold fx_td
      rw [Int32.ofInt_sub, Int32.ofInt_neg]
      have z1 : (e : Int) - 40 - 2 = (e : Int) - 42 := by omega
      have z2 : ((e + 2 : Nat) : Int) - 40 = (e : Int) - 40 + 2 := by omega
      rw [z1, z2]
    · have I := ih (e + 1) (upd a e (Int32.ofInt (fx_td r ((e : Int) - 40)))) (by omega) (fun j hj => by
        by_cases q : j = e
        · subst q
          rw [pk_us, if_pos (by omega)]
        · rw [pk_un q, H j hj]
          by_cases q2 : j < e
          · rw [if_pos q2, if_pos (by omega)]
          · rw [if_neg q2, if_neg (by omega)])
      have z1 : ((e + 1 : Nat) : Int) - 41 = (e : Int) - 40 := by omega
      have z2 : ((e + 1 : Nat) : Int) - 42 = (e : Int) - 41 := by omega
      rw [z1, z2] at I
      exact I
theorem fx_timesD {post : SX → Prop} {r : Int → Int} (hs : ∀ y : Int, (36 < y ∨ y < -36) → r y = 0) (H : fx_Sc a_scaled r) (K : ∀ a, fx_Sc a (fx_td r) → post (f_strands, f_count, f_joinings, f_known, a_word, a_partner, a_work, a_shut, a_closes, a_closed, a_seen, a_power, a_next, a_result, a, a_many, a_later, a_tally, a_matrix, a_track, a_component)) : wpX_timesD post (f_strands, f_count, f_joinings, f_known, a_word, a_partner, a_work, a_shut, a_closes, a_closed, a_seen, a_power, a_next, a_result, a_scaled, a_many, a_later, a_tally, a_matrix, a_track, a_component) := by
  have L := fx_6 hs K 79 0 a_scaled rfl (fun j hj => by rw [if_neg (by omega)]; exact H j hj)
  rw [hs _ (by omega), hs _ (by omega)] at L
  exact ⟨_, L⟩
theorem fx_84 {post : SX → Prop} {k D : Nat} {m : Nat → Nat → Int} {q : Nat → Int} {L : List Nat} (hk : k < 14) (hD : L.getD k 0 = D) (hD4 : D ≤ 4) (Hm : fx_Cnt a_many m) (K : ∀ a, wy_M a (fun l => q l + if D ≤ l then m k (l - D) else 0) → post (f_strands, f_count, f_joinings, f_known, a_word, a_partner, a_work, a_shut, a_closes, cj_fa L, a_seen, a_power, a_next, a_result, a_scaled, a_many, a_later, a, a_matrix, a_track, a_component)) :
    ∀ d l a, l + D + d = 16 → wy_M a (fun z => q z + if D ≤ z ∧ z < l + D then m k (z - D) else 0) → wX_collect_84 post (nI k) f_strands f_count f_joinings f_known (d + 1) (nI l) a_word a_partner a_work a_shut a_closes (cj_fa L) a_seen a_power a_next a_result a_scaled a_many a_later a a_matrix a_track a_component := by
  have eD : cj_fa L (nI k).toNatClampNeg = nI D := by rw [nI_clamp (by omega), ← hD]; rfl
  intro d
  induction d with
  | zero =>
    intro l a h H
    refine And.intro (vp_in_nI hk (by omega)) (br_t ?_ (K a (fun z hz => ?_)))
    · rw [eD, nI_add]
      exact nI_le (a := 16) (by omega) (by omega)
    · rw [H z hz]
      dsimp only
      by_cases c : D ≤ z
      · rw [if_pos c, if_pos (by omega)]
      · rw [if_neg c, if_neg (fun y => c y.1)]
  | succ d ih =>
    intro l a h H
    have e1 : (16 : Int32) * nI k + nI l = nI (16 * k + l) := bk_ix 16 k l
    refine And.intro (vp_in_nI hk (by omega)) ?_
    rw [eD, nI_add, e1]
    refine br_f (nI_ge (b := 16) (by omega) (by omega)) ⟨vp_in_nI hk (by omega), vp_in_nI (by omega) (by omega), vp_in_nI (by omega) (by omega), vp_in_nI (by omega) (by omega), nm_r (e' := upd a (l + D) (a (l + D) + a_many (16 * k + l))) (by rw [nI_clamp (by omega), nI_clamp (by omega)]) (nm_r (nI_1 l) (ih (l + 1) _ (by omega) (fun z hz => ?_)))⟩
    by_cases c : z = l + D
    · subst c
      rw [pk_us, H _ hz, Hm k l hk (by omega), ← Int32.ofInt_add]
      congr 1
      dsimp only
      rw [if_neg (by omega), if_pos (by omega), Int.add_zero]
      congr 2; omega
    · rw [pk_un c, H z hz]
      dsimp only
      by_cases c2 : D ≤ z ∧ z < l + D
      · rw [if_pos c2, if_pos (by omega)]
      · rw [if_neg c2, if_neg (by omega)]
theorem fx_55 {post : SX → Prop} {k D : Nat} {m : Nat → Nat → Int} {q : Nat → Int} {r s : Int → Int} {L : List Nat} (hk : k < 14) (hD : L.getD k 0 = D) (hD4 : D ≤ 4) (Hm : fx_Cnt a_many m) (Hr : fx_Sc a_result r) (Hs : fx_Sc a_scaled s) (Hq : wy_M a_tally q)
    (K : ∀ rs tl, fx_Sc rs (fun y => r y + s y) → wy_M tl (fun l => q l + if D ≤ l then m k (l - D) else 0) → post (f_strands, f_count, f_joinings, f_known, a_word, a_partner, a_work, a_shut, a_closes, cj_fa L, a_seen, a_power, a_next, rs, a_scaled, a_many, a_later, tl, a_matrix, a_track, a_component)) : ∃ n55 : Nat, wX_collect_55 post (nI k) f_strands f_count f_joinings f_known n55 0 a_word a_partner a_work a_shut a_closes (cj_fa L) a_seen a_power a_next a_result a_scaled a_many a_later a_tally a_matrix a_track a_component := by
  refine ⟨81 - 0 + 1, ?_⟩
  refine bk_fill (W := fun m x a => wX_collect_55 post (nI k) f_strands f_count f_joinings f_known m x a_word a_partner a_work a_shut a_closes (cj_fa L) a_seen a_power a_next a a_scaled a_many a_later a_tally a_matrix a_track a_component) 0 81 (by omega) (fun e => a_result e + a_scaled e) a_result (fun z => ?_) ?_
  · refine br_t (by decide) ⟨16 - D + 1, fx_84 hk hD hD4 Hm (fun tl Ht => K _ tl (fun e he => ?_) Ht) (16 - D) 0 a_tally (by omega) (fun z hz => ?_)⟩
    · rw [bk_ff_in (by omega) he, Hr e he, Hs e he, ← Int32.ofInt_add]
    · rw [Hq z hz]
      dsimp only
      rw [if_neg (by omega), Int.add_zero]
  · intro m x a h1 h2 h3 h4
    exact br_f (nI_ge (b := 81) (by omega) (by omega)) ⟨vp_in_nI (by omega) (by omega), vp_in_nI (by omega) (by omega), vp_in_nI (by omega) (by omega), nm_r (e' := upd a x (a_result x + a_scaled x)) (by rw [nI_clamp (by omega), h3 x (Nat.le_refl _)]) (nm_r (nI_1 x) h4)⟩
theorem fx_33 {post : SX → Prop} {k D : Nat} {m : Nat → Nat → Int} {q : Nat → Int} {r p : Int → Int} {L : List Nat} (hk : k < 14) (hD : L.getD k 0 = D) (hD1 : 1 ≤ D) (hD4 : D ≤ 4) (Hm : fx_Cnt a_many m) (Hr : fx_Sc a_result r) (Hq : wy_M a_tally q) (hs : ∀ y : Int, (((30 : Nat) : Int) < y ∨ y < -((30 : Nat) : Int)) → p y = 0)
    (K : ∀ sc rs tl, fx_Sc rs (fun y => r y + sm_dp p (D - 1) y) → wy_M tl (fun l => q l + if D ≤ l then m k (l - D) else 0) → post (f_strands, f_count, f_joinings, f_known, a_word, a_partner, a_work, a_shut, a_closes, cj_fa L, a_seen, a_power, a_next, rs, sc, a_many, a_later, tl, a_matrix, a_track, a_component)) :
    ∀ d l a, l + d = D → 1 ≤ l → fx_Sc a (sm_dp p (l - 1)) → wX_collect_33 post (nI k) (d + 1) (nI l) f_strands f_count f_joinings f_known a_word a_partner a_work a_shut a_closes (cj_fa L) a_seen a_power a_next a_result a a_many a_later a_tally a_matrix a_track a_component := by
  have eD : cj_fa L (nI k).toNatClampNeg = nI D := by rw [nI_clamp (by omega), ← hD]; rfl
  intro d
  induction d with
  | zero =>
    intro l a h h1 H
    have : l = D := by omega
    subst this
    refine And.intro (vp_in_nI hk (by omega)) (br_t ?_ ?_)
    · rw [eD]
      exact nI_le (Nat.le_refl _) (by omega)
    · exact fx_55 hk hD hD4 Hm Hr H Hq (fun rs tl H1 H2 => K a rs tl H1 H2)
  | succ d ih =>
    intro l a h h1 H
    refine And.intro (vp_in_nI hk (by omega)) (br_f ?_ ?_)
    · rw [eD]
      exact nI_ge (by omega) (by omega)
    · refine fx_timesD (fun y hy => fx_dp_out hs _ y (by omega)) H (fun a1 H1 => ?_)
      refine nm_r (nI_1 l) (ih (l + 1) a1 (by omega) (by omega) ?_)
      have e : l + 1 - 1 = (l - 1) + 1 := by omega
      rw [e]
      exact H1
theorem fx_collect {post : SX → Prop} {n c k : Nat} {w : Nat → Int32} {q : Nat → Int} {r : Int → Int} (h2 : 2 ≤ n) (h4 : n ≤ 4) (hc : c ≤ 10) (hw : ∀ i, i < c → bk_L n (w i)) (hk : k < tb_J n) (Hp : fx_Row a_power (sm_p n w c)) (Hm : fx_Cnt a_many (sm_c n w c)) (Hr : fx_Sc a_result r) (Hq : wy_M a_tally q)
    (K : ∀ sc rs tl, fx_Sc rs (fun y => r y + sm_dp (sm_p n w c k) (ul_D n k - 1) y) → wy_M tl (fun l => q l + if ul_D n k ≤ l then sm_c n w c k (l - ul_D n k) else 0) → post (f_strands, f_count, f_joinings, f_known, a_word, a_partner, a_work, a_shut, a_closes, cj_fa (tb_D n), a_seen, a_power, a_next, rs, sc, a_many, a_later, tl, a_matrix, a_track, a_component)) :
    wpX_collect post (f_strands, f_count, f_joinings, f_known, a_word, a_partner, a_work, a_shut, a_closes, cj_fa (tb_D n), a_seen, a_power, a_next, a_result, a_scaled, a_many, a_later, a_tally, a_matrix, a_track, a_component) (nI k) := by
  have hJ := ul_J14 h2 h4
  obtain ⟨d1, d4⟩ := ul_Dr h2 h4 hk
  refine ⟨81 - 0 + 1, ?_⟩
  refine bk_fill (W := fun m x a => wX_collect_2 post (nI k) f_strands f_count f_joinings f_known m x a_word a_partner a_work a_shut a_closes (cj_fa (tb_D n)) a_seen a_power a_next a_result a a_many a_later a_tally a_matrix a_track a_component) 0 81 (by omega) (fun e => a_power (81 * k + e)) a_scaled (fun z => ?_) ?_
  · refine br_t (by decide) ⟨ul_D n k - 1 + 1, fx_33 (D := ul_D n k) (by omega) rfl d1 d4 Hm Hr Hq (fun y hy => sm_p_out h2 h4 hw (Nat.le_refl _) (by omega)) K (ul_D n k - 1) 1 _ (by omega) (by omega) (fun e he => ?_)⟩
    rw [bk_ff_in (by omega) he]
    exact Hp k e (by omega) he
  · intro m x a g1 g2 g3 g4
    have e1 : (81 : Int32) * nI k + nI x = nI (81 * k + x) := bk_ix 81 k x
    exact br_f (nI_ge (b := 81) (by omega) (by omega)) ⟨pk_in (81 * k + x) 1134 (by omega) e1, vp_in_nI (by omega) (by omega), nm_r (e' := upd a x (a_power (81 * k + x))) (by rw [e1, nI_clamp (by omega), nI_clamp (by omega)]) (nm_r (nI_1 x) g4)⟩
theorem fx_142 {post : SX → Prop} {n c : Nat} {w : Nat → Int32} (h2 : 2 ≤ n) (h4 : n ≤ 4) (hc : c ≤ 10) (hw : ∀ i, i < c → bk_L n (w i)) (Hp : fx_Row a_power (sm_p n w c)) (Hm : fx_Cnt a_many (sm_c n w c))
    (K : ∀ sc rs tl, fx_Sc rs (sm_B n c w) → wy_M tl (sm_T n c w) → post (f_strands, f_count, nI (tb_J n), f_known, a_word, a_partner, a_work, a_shut, a_closes, cj_fa (tb_D n), a_seen, a_power, a_next, rs, sc, a_many, a_later, tl, a_matrix, a_track, a_component)) :
    ∀ d k sc rs tl, k + d = tb_J n → fx_Sc rs (sm_BJ n c w k) → wy_M tl (sm_TJ n c w k) → wX_find_142 post (d + 1) (nI k) f_strands f_count (nI (tb_J n)) f_known a_word a_partner a_work a_shut a_closes (cj_fa (tb_D n)) a_seen a_power a_next rs sc a_many a_later tl a_matrix a_track a_component := by
  have hJ := ul_J14 h2 h4
  intro d
  induction d with
  | zero =>
    intro k sc rs tl h H1 H2
    have : k = tb_J n := by omega
    subst this
    refine br_t (nI_le (Nat.le_refl _) (by omega)) (K sc rs tl (fun e he => ?_) (fun l hl => ?_))
    · rw [H1 e he, sm_BE h2 h4 hw]
    · rw [H2 l hl, sm_TE h2 h4 hw]
  | succ d ih =>
    intro k sc rs tl h H1 H2
    refine br_f (nI_ge (by omega) (by omega)) ?_
    refine fx_collect h2 h4 hc hw (by omega) Hp Hm H1 H2 (fun sc1 rs1 tl1 H3 H4 => ?_)
    refine nm_r (nI_1 k) (ih (k + 1) sc1 rs1 tl1 (by omega) (fun e he => ?_) (fun l hl => ?_))
    · rw [H3 e he, sm_Bs h2 h4 (by omega)]
    · rw [H4 l hl, sm_Ts]
theorem fx_74 {post : SX → Prop} {n c : Nat} (h2 : 2 ≤ n) (h4 : n ≤ 4) (hc : c ≤ 10) (hw : ∀ i, i < c → bk_L n (a_word i))
    (K : ∀ pw nx mn lt, fx_Row pw (sm_p n a_word c) → fx_Cnt mn (sm_c n a_word c) → ∃ n100 : Nat, wX_find_100 post f_strands (nI c) (nI (tb_J n)) f_known n100 0 a_word a_partner a_work (cj_fa (tb_S n)) (cj_fa (tb_C n)) a_closed a_seen pw nx a_result a_scaled mn lt a_tally a_matrix a_track a_component) :
    ∀ d i pw nx mn lt, i + d = c → fx_Row pw (sm_p n a_word i) → fx_Cnt mn (sm_c n a_word i) → wX_find_74 post (d + 1) (nI i) f_strands (nI c) (nI (tb_J n)) f_known a_word a_partner a_work (cj_fa (tb_S n)) (cj_fa (tb_C n)) a_closed a_seen pw nx a_result a_scaled mn lt a_tally a_matrix a_track a_component := by
  intro d
  induction d with
  | zero =>
    intro i pw nx mn lt h H1 H2
    have : i = c := by omega
    subst this
    exact br_t (nI_le (Nat.le_refl _) (by omega)) (K pw nx mn lt H1 H2)
  | succ d ih =>
    intro i pw nx mn lt h H1 H2
    refine br_f (nI_ge (by omega) (by omega)) ⟨vp_in_nI (by omega) (by omega), ?_⟩
    rw [nI_clamp (by omega)]
    refine fx_work h2 h4 hc hw (by omega) H1 H2 (fun pw1 nx1 mn1 lt1 H3 H4 => ?_)
    exact nm_r (nI_1 i) (ih (i + 1) pw1 nx1 mn1 lt1 (by omega) H3 H4)
theorem fx_find {post : SX → Prop} {n c : Nat} (h2 : 2 ≤ n) (h4 : n ≤ 4) (hc : c ≤ 10) (hw : ∀ i, i < c → bk_L n (a_word i))
    (hk : f_known = 0 ∨ (f_known = 1 ∧ fx_Sc a_result (sm_B n c a_word) ∧ wy_M a_tally (sm_T n c a_word)))
    (K : ∀ pw nx rs sc mn lt tl, fx_Sc rs (sm_B n c a_word) → wy_M tl (sm_T n c a_word) → post (f_strands, nI c, nI (tb_J n), 1, a_word, a_partner, a_work, cj_fa (tb_S n), cj_fa (tb_C n), cj_fa (tb_D n), a_seen, pw, nx, rs, sc, mn, lt, tl, a_matrix, a_track, a_component)) :
    wpX_find post (f_strands, nI c, nI (tb_J n), f_known, a_word, a_partner, a_work, cj_fa (tb_S n), cj_fa (tb_C n), cj_fa (tb_D n), a_seen, a_power, a_next, a_result, a_scaled, a_many, a_later, a_tally, a_matrix, a_track, a_component) := by
  have hJ := ul_J14 h2 h4
  rcases hk with hk | ⟨hk, H1, H2⟩
  · refine br_t hk ⟨1134 - 0 + 1, ?_⟩
    refine bk_fill (W := fun m x a => wX_find_15 post f_strands (nI c) (nI (tb_J n)) 1 m x a_word a_partner a_work (cj_fa (tb_S n)) (cj_fa (tb_C n)) (cj_fa (tb_D n)) a_seen a a_next a_result a_scaled a_many a_later a_tally a_matrix a_track a_component) 0 1134 (by omega) (fun _ => 0) a_power (fun m => ?_) ?_
    · refine br_t (by decide) ⟨224 - 0 + 1, ?_⟩
      refine bk_fill (W := fun m x a => wX_find_37 post f_strands (nI c) (nI (tb_J n)) 1 m x a_word a_partner a_work (cj_fa (tb_S n)) (cj_fa (tb_C n)) (cj_fa (tb_D n)) a_seen (bk_ff 0 1134 (fun _ => 0) a_power) a_next a_result a_scaled a a_later a_tally a_matrix a_track a_component) 0 224 (by omega) (fun _ => 0) a_many (fun m => ?_) ?_
      · refine br_t (by decide) (nm_e (nm_e ⟨c + 1, ?_⟩))
        refine fx_74 (f_known := 1) h2 h4 hc hw (fun pw nx mn lt G1 G2 => ?_) c 0 _ _ _ _ (by omega) (fun k e hk he => ?_) (fun k l hk hl => ?_)
        · refine ⟨81 - 0 + 1, ?_⟩
          refine bk_fill (W := fun m x a => wX_find_100 post f_strands (nI c) (nI (tb_J n)) 1 m x a_word a_partner a_work (cj_fa (tb_S n)) (cj_fa (tb_C n)) (cj_fa (tb_D n)) a_seen pw nx a a_scaled mn lt a_tally a_matrix a_track a_component) 0 81 (by omega) (fun _ => 0) a_result (fun m => ?_) ?_
          · refine br_t (by decide) ⟨16 - 0 + 1, ?_⟩
            refine bk_fill (W := fun m x a => wX_find_121 post f_strands (nI c) (nI (tb_J n)) 1 m x a_word a_partner a_work (cj_fa (tb_S n)) (cj_fa (tb_C n)) (cj_fa (tb_D n)) a_seen pw nx (bk_ff 0 81 (fun _ => 0) a_result) a_scaled mn lt a a_matrix a_track a_component) 0 16 (by omega) (fun _ => 0) a_tally (fun m => ?_) ?_
            · refine br_t (by decide) ⟨tb_J n + 1, fx_142 h2 h4 hc hw G1 G2 (fun sc rs tl G3 G4 => K pw nx rs sc mn lt tl G3 G4) (tb_J n) 0 _ _ _ (by omega) (fun e he => ?_) (fun l hl => ?_)⟩
              · rw [bk_ff_in (by omega) he, sm_B0]; rfl
              · rw [bk_ff_in (by omega) hl, sm_T0]; rfl
            · intro m x a g1 g2 g3 g4
              exact br_f (nI_ge (b := 16) (by omega) (by omega)) ⟨vp_in_nI (by omega) (by omega), nm_r (e' := upd a x 0) (by rw [nI_clamp (by omega)]) (nm_r (nI_1 x) g4)⟩
          · intro m x a g1 g2 g3 g4
            exact br_f (nI_ge (b := 81) (by omega) (by omega)) ⟨vp_in_nI (by omega) (by omega), nm_r (e' := upd a x 0) (by rw [nI_clamp (by omega)]) (nm_r (nI_1 x) g4)⟩
        · rw [sm_p0]
          by_cases z : 81 * k + e = 40
          · rw [z, pk_us, if_pos (by omega)]; rfl
          · rw [pk_un z, bk_ff_in (by omega) (by omega), if_neg (by omega)]; rfl
        · rw [sm_c0]
          by_cases z : 16 * k + l = 0
          · rw [z, pk_us, if_pos (by omega)]; rfl
          · rw [pk_un z, bk_ff_in (by omega) (by omega), if_neg (by omega)]; rfl
      · intro m x a g1 g2 g3 g4
        exact br_f (nI_ge (b := 224) (by omega) (by omega)) ⟨vp_in_nI (by omega) (by omega), nm_r (e' := upd a x 0) (by rw [nI_clamp (by omega)]) (nm_r (nI_1 x) g4)⟩
    · intro m x a g1 g2 g3 g4
      exact br_f (nI_ge (b := 1134) (by omega) (by omega)) ⟨vp_in_nI (by omega) (by omega), nm_r (e' := upd a x 0) (by rw [nI_clamp (by omega)]) (nm_r (nI_1 x) g4)⟩
  · subst hk
    exact br_f (by decide) (K _ _ _ _ _ _ _ H1 H2)
end
end
section
-- answers out of the bracket: states, coefficient, least exponent, spread, determinant
theorem an_least (P : Nat → Prop) : ∀ N, (∃ k, k < N ∧ P k) → ∃ k, k < N ∧ P k ∧ ∀ j, j < k → ¬ P j := by
  intro N
  induction N with
  | zero => intro h; obtain ⟨k, h1, -⟩ := h; omega
  | succ N ih =>
    intro h
    by_cases q : ∃ k, k < N ∧ P k
    · obtain ⟨k, h1, h2, h3⟩ := ih q
      exact ⟨k, by omega, h2, h3⟩
    · obtain ⟨k, h1, h2⟩ := h
      have : k = N := by
        by_cases z : k < N
        · exact absurd ⟨k, z, h2⟩ q
        · omega
      subst this
      exact ⟨k, by omega, h2, fun j hj hp => q ⟨j, hj, hp⟩⟩
theorem an_lo {β : Int → Int32} (h : ∃ e : Nat, e < 81 ∧ β ((e : Int) - 40) ≠ 0) : ∃ lo hi : Nat, lo ≤ hi ∧ hi < 81 ∧ β ((lo : Int) - 40) ≠ 0 ∧ β ((hi : Int) - 40) ≠ 0 ∧ (∀ j : Nat, j < lo → β ((j : Int) - 40) = 0) ∧ (∀ j : Nat, hi < j → j < 81 → β ((j : Int) - 40) = 0) := by
  obtain ⟨lo, l1, l2, l3⟩ := an_least (fun e => β ((e : Int) - 40) ≠ 0) 81 h
  obtain ⟨h0, h1, h2, h3⟩ := an_least (fun e => β (((80 - e : Nat) : Int) - 40) ≠ 0) 81 (by
    obtain ⟨e, e1, e2⟩ := h
    refine ⟨80 - e, by omega, ?_⟩
    have z : 80 - (80 - e) = e := by omega
    rw [z]; exact e2)
  refine ⟨lo, 80 - h0, ?_, by omega, l2, h2, fun j hj => Classical.byContradiction (l3 j hj), fun j hj hj2 => Classical.byContradiction ?_⟩
  · refine Classical.byContradiction (fun z => l3 (80 - h0) (by omega) h2)
  · have := h3 (80 - j) (by omega)
    have z : 80 - (80 - j) = j := by omega
    rw [z] at this
    exact this
def an_g : Nat → Int32
  | 0 => 1
  | j + 1 => -an_g j
def an_S (β : Int → Int32) (lo : Nat) : Nat → Int32
  | 0 => 0
  | j + 1 => an_S β lo j + an_g j * β ((lo : Int) - 40 + 4 * (j : Int))
def an_abs (x : Int32) : Int32 := if 0 ≤ x then x else -x
theorem an_Sc {β : Int → Int32} {lo : Nat} (hz : ∀ y : Int, 40 < y → β y = 0) {j : Nat} (hj : 81 ≤ lo + 4 * j) : ∀ d, an_S β lo (j + d) = an_S β lo j := by
  intro d
  induction d with
  | zero => rfl
  | succ d ih =>
    rw [← Nat.add_assoc, an_S, ih, hz _ (by omega), Int32.mul_zero, Int32.add_zero]
theorem an_S26 {β : Int → Int32} {lo : Nat} (hz : ∀ y : Int, 40 < y → β y = 0) {j : Nat} (hj : 81 ≤ lo + 4 * j) (h26 : j ≤ 26) : an_S β lo j = an_S β lo 26 := by
  have := an_Sc hz hj (26 - j)
  rw [show j + (26 - j) = 26 by omega] at this
  exact this.symm
theorem an_i {z : Int} (h1 : -1000 ≤ z) (h2 : z ≤ 1000) : (Int32.ofInt z).toInt = z := Int32.toInt_ofInt_of_le (by omega) (by omega)
section
variable {f_strands f_count f_joinings f_known : Int32} {a_word a_partner a_work a_shut a_closes a_closed a_seen a_power a_next a_result a_scaled a_many a_later a_tally a_matrix a_track a_component : Nat → Int32}
theorem an_cX {post : Int32 → Prop} {B : Int → Int} {x : Int32} (H : fx_Sc a_result B) (hz : ∀ y : Int, (36 < y ∨ y < -36) → B y = 0) (P : post (Int32.ofInt (B x.toInt))) : wpX_coefficient post (f_strands, f_count, f_joinings, f_known, a_word, a_partner, a_work, a_shut, a_closes, a_closed, a_seen, a_power, a_next, a_result, a_scaled, a_many, a_later, a_tally, a_matrix, a_track, a_component) x := by
  have m40 : (-40 : Int32).toInt = -40 := by decide
  have p40 : (40 : Int32).toInt = 40 := by decide
  by_cases h1 : x < -40
  · have h1' := Int32.lt_iff_toInt_lt.mp h1
    rw [m40] at h1'
    rw [hz _ (by omega)] at P
    exact br_t h1 P
  · have h1' : ¬ x.toInt < -40 := fun z => h1 (Int32.lt_iff_toInt_lt.mpr (by rw [m40]; exact z))
    refine br_f h1 ?_
    by_cases h2 : x ≤ 40
    · have h2' := Int32.le_iff_toInt_le.mp h2
      rw [p40] at h2'
      obtain ⟨e, he⟩ : ∃ e : Nat, (e : Int) = 40 + x.toInt := ⟨(40 + x.toInt).toNat, by omega⟩
      have ex : 40 + x = nI e := by
        rw [← bk_oN e, he, Int32.ofInt_add, Int32.ofInt_toInt]; rfl
      refine br_t h2 ⟨pk_in e 81 (by omega) ex, ?_⟩
      rw [ex, nI_clamp (by omega), H e (by omega)]
      have z : (e : Int) - 40 = x.toInt := by omega
      rw [z]
      exact P
    · have h2' : ¬ x.toInt ≤ 40 := fun z => h2 (Int32.le_iff_toInt_le.mpr (by rw [p40]; exact z))
      rw [hz _ (by omega)] at P
      exact br_f h2 P
theorem an_leX {post : Int32 → Prop} {β : Int → Int32} {lo : Nat} (hlo : lo < 81) (H : ∀ e : Nat, e < 81 → a_result e = β ((e : Int) - 40)) (h1 : β ((lo : Int) - 40) ≠ 0) (h2 : ∀ j : Nat, j < lo → β ((j : Int) - 40) = 0) (P : post (nI lo)) : wpX_leastExponent post (f_strands, f_count, f_joinings, f_known, a_word, a_partner, a_work, a_shut, a_closes, a_closed, a_seen, a_power, a_next, a_result, a_scaled, a_many, a_later, a_tally, a_matrix, a_track, a_component) := by
  have L : ∀ d e, e + d = lo → wX_leastExponent_2 post f_strands f_count f_joinings f_known a_word a_partner a_work a_shut a_closes a_closed a_seen a_power a_next a_result a_scaled a_many a_later a_tally a_matrix a_track a_component (d + 1) (nI e) := by
    intro d
    induction d with
    | zero =>
      intro e h
      have : e = lo := by omega
      subst this
      refine pk_le 80 e (fun q => P) (fun q => ⟨vp_in_nI (by omega) (by omega), br_f ?_ P⟩)
      rw [nI_clamp (by omega), H e (by omega)]
      exact h1
    | succ d ih =>
      intro e h
      refine br_f (nI_ge (b := 80) (by omega) (by omega)) ⟨vp_in_nI (by omega) (by omega), br_t ?_ (nm_r (nI_1 e) (ih (e + 1) (by omega)))⟩
      rw [nI_clamp (by omega), H e (by omega)]
      exact h2 e (by omega)
  exact ⟨_, L lo 0 (by omega)⟩
theorem an_spX {post : Int32 → SX → Prop} {β : Int → Int32} {lo hi : Nat} (hl : lo ≤ hi) (hh : hi < 81) (H : ∀ e : Nat, e < 81 → a_result e = β ((e : Int) - 40)) (h1 : β ((hi : Int) - 40) ≠ 0) (h2 : ∀ j : Nat, hi < j → j < 81 → β ((j : Int) - 40) = 0) (P : post (nI hi - nI lo) (f_strands, f_count, f_joinings, f_known, a_word, a_partner, a_work, a_shut, a_closes, a_closed, a_seen, a_power, a_next, a_result, a_scaled, a_many, a_later, a_tally, a_matrix, a_track, a_component)) : ∃ n12 : Nat, wX_spread_12 post (nI lo) f_strands f_count f_joinings f_known a_word a_partner a_work a_shut a_closes a_closed a_seen a_power a_next a_result a_scaled a_many a_later a_tally a_matrix a_track a_component n12 80 := by
  have L : ∀ d e, hi + d = e → e < 81 → wX_spread_12 post (nI lo) f_strands f_count f_joinings f_known a_word a_partner a_work a_shut a_closes a_closed a_seen a_power a_next a_result a_scaled a_many a_later a_tally a_matrix a_track a_component (d + 1) (nI e) := by
    intro d
    induction d with
    | zero =>
      intro e h he
      have : e = hi := by omega
      subst this
      refine pk_le e lo (fun q => P) (fun q => ⟨vp_in_nI (by omega) (by omega), br_f ?_ P⟩)
      rw [nI_clamp (by omega), H e (by omega)]
      exact h1
    | succ d ih =>
      intro e h he
      refine br_f (nI_ge (by omega) (by omega)) ⟨vp_in_nI (by omega) (by omega), br_t ?_ (nm_r (sb_m1 (by omega)) (ih (e - 1) (by omega) (by omega)))⟩
      rw [nI_clamp (by omega), H e (by omega)]
      exact h2 e (by omega) he
  exact ⟨_, L (80 - hi) 80 (by omega) (by omega)⟩
theorem an_dtX {post : Int32 → SX → Prop} {β : Int → Int32} {lo : Nat} (hl : lo < 81) (H : ∀ e : Nat, e < 81 → a_result e = β ((e : Int) - 40)) (hz : ∀ y : Int, 40 < y → β y = 0) (P : post (an_abs (an_S β lo 26)) (f_strands, f_count, f_joinings, f_known, a_word, a_partner, a_work, a_shut, a_closes, a_closed, a_seen, a_power, a_next, a_result, a_scaled, a_many, a_later, a_tally, a_matrix, a_track, a_component)) : ∃ n13 : Nat, wX_determinant_13 post f_strands f_count f_joinings f_known a_word a_partner a_work a_shut a_closes a_closed a_seen a_power a_next a_result a_scaled a_many a_later a_tally a_matrix a_track a_component n13 0 1 (nI lo) := by
  have E : ((0 : Int32) ≤ an_S β lo 26 → post (an_S β lo 26) (f_strands, f_count, f_joinings, f_known, a_word, a_partner, a_work, a_shut, a_closes, a_closed, a_seen, a_power, a_next, a_result, a_scaled, a_many, a_later, a_tally, a_matrix, a_track, a_component)) ∧ (¬ (0 : Int32) ≤ an_S β lo 26 → post (-an_S β lo 26) (f_strands, f_count, f_joinings, f_known, a_word, a_partner, a_work, a_shut, a_closes, a_closed, a_seen, a_power, a_next, a_result, a_scaled, a_many, a_later, a_tally, a_matrix, a_track, a_component)) := by
    unfold an_abs at P
    refine br_c (fun q => ?_) (fun q => ?_)
    · rw [if_pos q] at P; exact P
    · rw [if_neg q] at P; exact P
  have L : ∀ d j, j + d = 26 → wX_determinant_13 post f_strands f_count f_joinings f_known a_word a_partner a_work a_shut a_closes a_closed a_seen a_power a_next a_result a_scaled a_many a_later a_tally a_matrix a_track a_component (d + 1) (an_S β lo j) (an_g j) (nI (lo + 4 * j)) := by
    intro d
    induction d with
    | zero =>
      intro j h
      have : j = 26 := by omega
      subst this
      exact br_t (nI_le (a := 81) (by omega) (by omega)) E
    | succ d ih =>
      intro j h
      refine pk_le 81 (lo + 4 * j) (fun q => ?_) (fun q => ⟨vp_in_nI (by omega) (by omega), nm_r (e' := an_S β lo (j + 1)) ?_ (nm_e (nm_r (nI_add (lo + 4 * j) 4) (ih (j + 1) (by omega))))⟩)
      · rw [an_S26 hz q (by omega)]
        exact E
      · rw [nI_clamp (by omega), H _ q, an_S]
        have z : ((lo + 4 * j : Nat) : Int) - 40 = (lo : Int) - 40 + 4 * (j : Int) := by omega
        rw [z]
  exact ⟨_, L 26 0 rfl⟩
end
section
variable {g_n g_len g_known : Int32} {b_word b_joined b_many b_coefficients b_colours b_component : Nat → Int32}
theorem an_cY {post : Int32 → Prop} {B : Int → Int} {x : Int32} (H : wy_C b_coefficients B) (hz : ∀ y : Int, (36 < y ∨ y < -36) → B y = 0) (P : post (Int32.ofInt (B x.toInt))) : wpY_coefficient post (g_n, g_len, g_known, b_word, b_joined, b_many, b_coefficients, b_colours, b_component) x := by
  have m40 : (-60 : Int32).toInt = -60 := by decide
  have p40 : (60 : Int32).toInt = 60 := by decide
  by_cases h1 : x < -60
  · have h1' := Int32.lt_iff_toInt_lt.mp h1
    rw [m40] at h1'
    rw [hz _ (by omega)] at P
    exact br_t h1 P
  · have h1' : ¬ x.toInt < -60 := fun z => h1 (Int32.lt_iff_toInt_lt.mpr (by rw [m40]; exact z))
    refine br_f h1 ?_
    by_cases h2 : x ≤ 60
    · have h2' := Int32.le_iff_toInt_le.mp h2
      rw [p40] at h2'
      obtain ⟨e, he⟩ : ∃ e : Nat, (e : Int) = 60 + x.toInt := ⟨(60 + x.toInt).toNat, by omega⟩
      have ex : 60 + x = nI e := by
        rw [← bk_oN e, he, Int32.ofInt_add, Int32.ofInt_toInt]; rfl
      refine br_t h2 ⟨pk_in e 121 (by omega) ex, ?_⟩
      rw [ex, nI_clamp (by omega), H e (by omega)]
      have z : (e : Int) - 60 = x.toInt := by omega
      rw [z]
      exact P
    · have h2' : ¬ x.toInt ≤ 60 := fun z => h2 (Int32.le_iff_toInt_le.mpr (by rw [p40]; exact z))
      rw [hz _ (by omega)] at P
      exact br_f h2 P
theorem an_loY {post : Int32 → Prop} {B : Int → Int} {lo : Nat} (hlo : lo < 81) (H : wy_C b_coefficients B) (hz : ∀ y : Int, (36 < y ∨ y < -36) → B y = 0) (h1 : Int32.ofInt (B ((lo : Int) - 40)) ≠ 0) (h2 : ∀ j : Nat, j < lo → Int32.ofInt (B ((j : Int) - 40)) = 0) (P : post (Int32.ofInt ((lo : Int) - 40))) : wpY_lowest post (g_n, g_len, g_known, b_word, b_joined, b_many, b_coefficients, b_colours, b_component) := by
  have L : ∀ d e, e + d = lo + 20 → wY_lowest_3 post g_n g_len g_known b_word b_joined b_many b_coefficients b_colours b_component (d + 1) (Int32.ofInt ((e : Int) - 60)) := by
    intro d
    induction d with
    | zero =>
      intro e h
      have z : (e : Int) - 60 = (lo : Int) - 40 := by omega
      rw [z]
      refine br_c (fun q => P) (fun q => ?_)
      refine an_cY H hz ?_
      rw [an_i (by omega) (by omega)]
      exact br_f h1 P
    | succ d ih =>
      intro e h
      have I := ih (e + 1) (by omega)
      refine br_f ?_ ?_
      · rw [Int32.le_iff_toInt_le, an_i (by omega) (by omega), show (60 : Int32).toInt = 60 by decide]
        omega
      · refine an_cY H hz ?_
        rw [an_i (by omega) (by omega)]
        refine br_t ?_ (nm_r (e' := Int32.ofInt (((e + 1 : Nat) : Int) - 60)) ?_ I)
        · by_cases q : e < 20
          · rw [hz _ (by omega)]; rfl
          · have := h2 (e - 20) (by omega)
            have z : ((e - 20 : Nat) : Int) - 40 = (e : Int) - 60 := by omega
            rw [z] at this
            exact this
        · have z : ((e + 1 : Nat) : Int) - 60 = (e : Int) - 60 + 1 := by omega
          rw [z, Int32.ofInt_add]; rfl
  exact ⟨_, L (lo + 20) 0 (by omega)⟩
theorem an_spY {post : Int32 → SY → Prop} {B : Int → Int} {lo hi : Nat} (hl : lo ≤ hi) (hh : hi < 81) (H : wy_C b_coefficients B) (hz : ∀ y : Int, (36 < y ∨ y < -36) → B y = 0) (h1 : Int32.ofInt (B ((lo : Int) - 40)) ≠ 0) (h2 : ∀ j : Nat, j < lo → Int32.ofInt (B ((j : Int) - 40)) = 0) (h3 : Int32.ofInt (B ((hi : Int) - 40)) ≠ 0) (h4 : ∀ j : Nat, hi < j → j < 81 → Int32.ofInt (B ((j : Int) - 40)) = 0) (P : post (nI hi - nI lo) (g_n, g_len, g_known, b_word, b_joined, b_many, b_coefficients, b_colours, b_component)) : ∃ n7 : Nat, wY_spread_7 post g_n g_len g_known b_word b_joined b_many b_coefficients b_colours b_component n7 60 := by
  have E : wY_spread_27 post (Int32.ofInt ((hi : Int) - 40)) g_n g_len g_known b_word b_joined b_many b_coefficients b_colours b_component := by
    unfold wY_spread_27
    refine an_loY (by omega) H hz h1 h2 ?_
    have z : Int32.ofInt ((hi : Int) - 40) - Int32.ofInt ((lo : Int) - 40) = nI hi - nI lo := by
      rw [← Int32.ofInt_sub, ← bk_oN hi, ← bk_oN lo, ← Int32.ofInt_sub]
      congr 1; omega
    rw [z]
    exact P
  have L : ∀ d e, hi + 20 + d = e → e < 121 → wY_spread_7 post g_n g_len g_known b_word b_joined b_many b_coefficients b_colours b_component (d + 1) (Int32.ofInt ((e : Int) - 60)) := by
    intro d
    induction d with
    | zero =>
      intro e h he
      have z : (e : Int) - 60 = (hi : Int) - 40 := by omega
      rw [z]
      refine br_c (fun q => E) (fun q => ?_)
      refine an_cY H hz ?_
      rw [an_i (by omega) (by omega)]
      exact br_f h3 E
    | succ d ih =>
      intro e h he
      have I := ih (e - 1) (by omega) (by omega)
      refine br_f ?_ ?_
      · rw [Int32.le_iff_toInt_le, an_i (by omega) (by omega), show (-60 : Int32).toInt = -60 by decide]
        omega
      · refine an_cY H hz ?_
        rw [an_i (by omega) (by omega)]
        refine br_t ?_ (nm_r (e' := Int32.ofInt (((e - 1 : Nat) : Int) - 60)) ?_ I)
        · by_cases q : 101 ≤ e
          · rw [hz _ (by omega)]; rfl
          · have := h4 (e - 20) (by omega) (by omega)
            have z : ((e - 20 : Nat) : Int) - 40 = (e : Int) - 60 := by omega
            rw [z] at this
            exact this
        · have z : ((e - 1 : Nat) : Int) - 60 = (e : Int) - 60 + -1 := by omega
          rw [z, Int32.ofInt_add]; rfl
  exact ⟨_, L (100 - hi) 120 (by omega) (by omega)⟩
theorem an_dtY {post : Int32 → SY → Prop} {B : Int → Int} {lo : Nat} (hl : lo < 81) (H : wy_C b_coefficients B) (hz : ∀ y : Int, (36 < y ∨ y < -36) → B y = 0) (P : post (an_abs (an_S (fun y => Int32.ofInt (B y)) lo 26)) (g_n, g_len, g_known, b_word, b_joined, b_many, b_coefficients, b_colours, b_component)) : ∃ n13 : Nat, wY_determinant_13 post g_n g_len g_known b_word b_joined b_many b_coefficients b_colours b_component n13 0 1 (Int32.ofInt ((lo : Int) - 40)) := by
  have hz2 : ∀ y : Int, 40 < y → Int32.ofInt (B y) = 0 := by
    intro y hy
    rw [hz y (by omega)]; rfl
  have e60 : (60 : Int32).toInt = 60 := by decide
  have E : ((0 : Int32) ≤ an_S (fun y => Int32.ofInt (B y)) lo 26 → post (an_S (fun y => Int32.ofInt (B y)) lo 26) (g_n, g_len, g_known, b_word, b_joined, b_many, b_coefficients, b_colours, b_component)) ∧ (¬ (0 : Int32) ≤ an_S (fun y => Int32.ofInt (B y)) lo 26 → post (-an_S (fun y => Int32.ofInt (B y)) lo 26) (g_n, g_len, g_known, b_word, b_joined, b_many, b_coefficients, b_colours, b_component)) := by
    unfold an_abs at P
    refine br_c (fun q => ?_) (fun q => ?_)
    · rw [if_pos q] at P; exact P
    · rw [if_neg q] at P; exact P
  have L : ∀ d j, j + d = 26 → wY_determinant_13 post g_n g_len g_known b_word b_joined b_many b_coefficients b_colours b_component (d + 1) (an_S (fun y => Int32.ofInt (B y)) lo j) (an_g j) (Int32.ofInt ((lo : Int) - 40 + 4 * (j : Int))) := by
    intro d
    induction d with
    | zero =>
      intro j h
      have : j = 26 := by omega
      subst this
      refine br_t ?_ E
      rw [Int32.lt_iff_toInt_lt, an_i (by omega) (by omega), e60]
      omega
    | succ d ih =>
      intro j h
      refine br_c (fun q => ?_) (fun q => ?_)
      · rw [Int32.lt_iff_toInt_lt, an_i (by omega) (by omega), e60] at q
        rw [an_S26 hz2 (by omega) (by omega)]
        exact E
      · refine an_cY H hz ?_
        rw [an_i (by omega) (by omega)]
        refine nm_r (e' := an_S (fun y => Int32.ofInt (B y)) lo (j + 1)) rfl (nm_e (nm_r (e' := Int32.ofInt ((lo : Int) - 40 + 4 * ((j + 1 : Nat) : Int))) ?_ (ih (j + 1) (by omega))))
        have z : (lo : Int) - 40 + 4 * ((j + 1 : Nat) : Int) = (lo : Int) - 40 + 4 * (j : Int) + 4 := by omega
        rw [z]
        exact (Int32.ofInt_add _ 4).symm
  have := L 26 0 rfl
  have z : (lo : Int) - 40 + 4 * ((0 : Nat) : Int) = (lo : Int) - 40 := by omega
  rw [z] at this
  exact ⟨_, this⟩
end
end
section
-- strands: tracks, ends, components
def pm_sw (p j : Nat) : Nat := if j = p then p - 1 else if j + 1 = p then p else j
theorem pm_sw_sw {p j : Nat} (h : 1 ≤ p) : pm_sw p (pm_sw p j) = j := by
  unfold pm_sw
  by_cases h1 : j = p
  · rw [if_pos h1, if_neg (by omega), if_pos (by omega)]; exact h1.symm
  · rw [if_neg h1]
    by_cases h2 : j + 1 = p
    · rw [if_pos h2, if_pos rfl]; omega
    · rw [if_neg h2, if_neg h1, if_neg h2]
theorem pm_sw_lt {p j n : Nat} (hp : p < n) (hj : j < n) : pm_sw p j < n := by
  unfold pm_sw
  split
  · omega
  · split <;> omega
theorem pm_sw_ge {p j n : Nat} (hp : p < n) (hj : n ≤ j) : pm_sw p j = j := by
  unfold pm_sw
  rw [if_neg (by omega), if_neg (by omega)]
def pm_t (w : Nat → Int32) : Nat → Nat → Nat
  | 0 => fun j => j
  | i + 1 => fun j => pm_t w i (pm_sw (bk_p (w i)) j)
def pm_e (w : Nat → Int32) : Nat → Nat → Nat
  | 0 => fun x => x
  | i + 1 => fun x => pm_sw (bk_p (w i)) (pm_e w i x)
theorem pm_te {n c : Nat} {w : Nat → Int32} (h4 : n ≤ 4) (hw : ∀ i, i < c → bk_L n (w i)) : ∀ i, i ≤ c → (∀ x, pm_t w i (pm_e w i x) = x) ∧ (∀ x, pm_e w i (pm_t w i x) = x) ∧ (∀ x, x < n → pm_t w i x < n ∧ pm_e w i x < n) ∧ (∀ x, n ≤ x → pm_t w i x = x ∧ pm_e w i x = x) := by
  intro i
  induction i with
  | zero => intro _; exact ⟨fun _ => rfl, fun _ => rfl, fun x h => ⟨h, h⟩, fun _ _ => ⟨rfl, rfl⟩⟩
  | succ i ih =>
    intro hi
    obtain ⟨a1, a2, a3, a4⟩ := ih (by omega)
    obtain ⟨p1, p2⟩ := bk_Lp (hw i (by omega)) h4
    refine ⟨fun x => ?_, fun x => ?_, fun x hx => ⟨?_, ?_⟩, fun x hx => ⟨?_, ?_⟩⟩
    · show pm_t w i (pm_sw _ (pm_sw _ (pm_e w i x))) = x
      rw [pm_sw_sw p1, a1]
    · show pm_sw _ (pm_e w i (pm_t w i (pm_sw _ x))) = x
      rw [a2, pm_sw_sw p1]
    · exact (a3 _ (pm_sw_lt p2 hx)).1
    · exact pm_sw_lt p2 (a3 x hx).2
    · show pm_t w i (pm_sw _ x) = x
      rw [pm_sw_ge p2 hx]; exact (a4 x hx).1
    · show pm_sw _ (pm_e w i x) = x
      rw [(a4 x hx).2, pm_sw_ge p2 hx]
def pm_T (a : Nat → Int32) (t : Nat → Nat) : Prop := ∀ j, j < 4 → a j = nI (t j) ∧ t j < 4
section
variable {f_strands f_count f_joinings f_known : Int32} {a_word a_partner a_work a_shut a_closes a_closed a_seen a_power a_next a_result a_scaled a_many a_later a_tally a_matrix a_track a_component : Nat → Int32}
theorem pm_start {post : SX → Prop} (K : ∀ a, pm_T a (fun j => j) → post (f_strands, f_count, f_joinings, f_known, a_word, a_partner, a_work, a_shut, a_closes, a_closed, a_seen, a_power, a_next, a_result, a_scaled, a_many, a_later, a_tally, a_matrix, a, a_component)) : wpX_startTracks post (f_strands, f_count, f_joinings, f_known, a_word, a_partner, a_work, a_shut, a_closes, a_closed, a_seen, a_power, a_next, a_result, a_scaled, a_many, a_later, a_tally, a_matrix, a_track, a_component) := by
  refine ⟨4 - 0 + 1, ?_⟩
  refine bk_fill (W := fun m x a => wX_startTracks_2 post f_strands f_count f_joinings f_known m x a_word a_partner a_work a_shut a_closes a_closed a_seen a_power a_next a_result a_scaled a_many a_later a_tally a_matrix a a_component) 0 4 (by omega) nI a_track (fun m => ?_) ?_
  · exact br_t (by decide) (K _ (fun j hj => ⟨bk_ff_in (by omega) hj, hj⟩))
  · intro m x a h1 h2 h3 h4
    exact br_f (nI_ge (b := 4) (by omega) (by omega)) ⟨vp_in_nI (by omega) (by omega), nm_r (e' := upd a x (nI x)) (by rw [nI_clamp (by omega), bk_nbb (by omega)]) (nm_r (nI_1 x) h4)⟩
theorem pm_cross {post : SX → Prop} {n : Nat} {x : Int32} {t : Nat → Nat} (h4 : n ≤ 4) (hx : bk_L n x) (H : pm_T a_track t) (K : ∀ a, pm_T a (fun j => t (pm_sw (bk_p x) j)) → post (f_strands, f_count, f_joinings, f_known, a_word, a_partner, a_work, a_shut, a_closes, a_closed, a_seen, a_power, a_next, a_result, a_scaled, a_many, a_later, a_tally, a_matrix, a, a_component)) : wpX_cross post (f_strands, f_count, f_joinings, f_known, a_word, a_partner, a_work, a_shut, a_closes, a_closed, a_seen, a_power, a_next, a_result, a_scaled, a_many, a_later, a_tally, a_matrix, a_track, a_component) x := by
  obtain ⟨p1, p2⟩ := bk_Lp hx h4
  unfold wpX_cross
  refine bk_posX hx h4 ?_
  generalize bk_p x = p at *
  obtain ⟨u1, u2⟩ := H (p - 1) (by omega)
  obtain ⟨v1, v2⟩ := H p (by omega)
  have e1 : nI p - 1 = nI (p - 1) := bk_s1 p1
  rw [e1, nI_clamp (by omega), nI_clamp (by omega)]
  refine ⟨vp_in_nI (by omega) (by omega), nm_r u1 ⟨vp_in_nI (by omega) (by omega), vp_in_nI (by omega) (by omega), nm_r (e' := upd a_track (p - 1) (nI (t p))) (by rw [v1, bk_nb (by omega)]) ⟨vp_in_nI (by omega) (by omega), nm_r (e' := upd (upd a_track (p - 1) (nI (t p))) p (nI (t (p - 1)))) (by rw [bk_nb (by omega)]) (K _ (fun j hj => ?_))⟩⟩⟩
  show upd (upd a_track (p - 1) (nI (t p))) p (nI (t (p - 1))) j = nI (t (pm_sw p j)) ∧ t (pm_sw p j) < 4
  by_cases j1 : j = p
  · subst j1
    have : pm_sw j j = j - 1 := if_pos rfl
    rw [pk_us, this]
    exact ⟨rfl, u2⟩
  · rw [pk_un j1]
    by_cases j2 : j = p - 1
    · subst j2
      have : pm_sw p (p - 1) = p := by unfold pm_sw; rw [if_neg j1, if_pos (by omega)]
      rw [pk_us, this]
      exact ⟨rfl, v2⟩
    · have : pm_sw p j = j := by unfold pm_sw; rw [if_neg j1, if_neg (by omega)]
      rw [pk_un j2, this]
      exact H j hj
theorem pm_6 {post : SX → Prop} {n c : Nat} (h4 : n ≤ 4) (hc : c ≤ 10) (hw : ∀ i, i < c → bk_L n (a_word i)) (K : ∀ a, pm_T a (pm_t a_word c) → post (f_strands, nI c, f_joinings, f_known, a_word, a_partner, a_work, a_shut, a_closes, a_closed, a_seen, a_power, a_next, a_result, a_scaled, a_many, a_later, a_tally, a_matrix, a, a_component)) :
    ∀ d i a, i + d = c → pm_T a (pm_t a_word i) → wX_findEnds_6 post (d + 1) (nI i) f_strands (nI c) f_joinings f_known a_word a_partner a_work a_shut a_closes a_closed a_seen a_power a_next a_result a_scaled a_many a_later a_tally a_matrix a a_component := by
  intro d
  induction d with
  | zero =>
    intro i a h H
    have : i = c := by omega
    subst this
    exact br_t (nI_le (Nat.le_refl _) (by omega)) (K a H)
  | succ d ih =>
    intro i a h H
    refine br_f (nI_ge (by omega) (by omega)) ⟨vp_in_nI (by omega) (by omega), ?_⟩
    rw [nI_clamp (by omega)]
    refine pm_cross h4 (hw i (by omega)) H (fun a1 H1 => ?_)
    exact nm_r (nI_1 i) (ih (i + 1) a1 (by omega) H1)
theorem pm_ends {post : SX → Prop} {n c : Nat} (h4 : n ≤ 4) (hc : c ≤ 10) (hw : ∀ i, i < c → bk_L n (a_word i)) (K : ∀ a, pm_T a (pm_t a_word c) → post (f_strands, nI c, f_joinings, f_known, a_word, a_partner, a_work, a_shut, a_closes, a_closed, a_seen, a_power, a_next, a_result, a_scaled, a_many, a_later, a_tally, a_matrix, a, a_component)) : wpX_findEnds post (f_strands, nI c, f_joinings, f_known, a_word, a_partner, a_work, a_shut, a_closes, a_closed, a_seen, a_power, a_next, a_result, a_scaled, a_many, a_later, a_tally, a_matrix, a_track, a_component) := by
  unfold wpX_findEnds
  refine pm_start (fun a H => ?_)
  exact ⟨c + 1, pm_6 h4 hc hw K c 0 a (by omega) H⟩
theorem pm_endX {post : Int32 → SX → Prop} {n c q : Nat} (h4 : n ≤ 4) (hw : ∀ i, i < c → bk_L n (a_word i)) (hq : q < n) (H : pm_T a_track (pm_t a_word c)) (P : post (nI (pm_e a_word c q)) (nI n, f_count, f_joinings, f_known, a_word, a_partner, a_work, a_shut, a_closes, a_closed, a_seen, a_power, a_next, a_result, a_scaled, a_many, a_later, a_tally, a_matrix, a_track, a_component)) : ∃ n20 : Nat, wX_ends_20 post (nI q) (nI n) f_count f_joinings f_known a_word a_partner a_work a_shut a_closes a_closed a_seen a_power a_next a_result a_scaled a_many a_later a_tally a_matrix a_track a_component n20 0 0 := by
  obtain ⟨a1, a2, a3, a4⟩ := pm_te h4 hw c (Nat.le_refl _)
  have hr := (a3 q hq).2
  have L : ∀ d i, i + d = n → wX_ends_20 post (nI q) (nI n) f_count f_joinings f_known a_word a_partner a_work a_shut a_closes a_closed a_seen a_power a_next a_result a_scaled a_many a_later a_tally a_matrix a_track a_component (d + 1) (nI (if pm_e a_word c q < i then pm_e a_word c q else 0)) (nI i) := by
    intro d
    induction d with
    | zero =>
      intro i h
      have : i = n := by omega
      subst this
      rw [if_pos hr]
      exact br_t (nI_le (Nat.le_refl _) (by omega)) P
    | succ d ih =>
      intro i h
      have I := ih (i + 1) (by omega)
      obtain ⟨u1, u2⟩ := H i (by omega)
      refine br_f (nI_ge (by omega) (by omega)) ⟨vp_in_nI (by omega) (by omega), ?_⟩
      rw [nI_clamp (by omega), u1]
      refine pk_eq (pm_t a_word c i) q (fun z => nm_r (nI_1 i) ?_) (fun z => nm_r (nI_1 i) ?_)
      · have : pm_e a_word c q = i := by rw [← z, a2]
        rw [this, if_pos (by omega)] at I
        exact I
      · have hne : pm_e a_word c q ≠ i := fun y => z (by rw [← y, a1])
        have : (if pm_e a_word c q < i + 1 then pm_e a_word c q else 0) = (if pm_e a_word c q < i then pm_e a_word c q else 0) := by
          by_cases y : pm_e a_word c q < i
          · rw [if_pos y, if_pos (by omega)]
          · rw [if_neg y, if_neg (by omega)]
        rw [this] at I
        exact I
  exact ⟨n + 1, L n 0 (by omega)⟩
end
section
variable {g_n g_len g_known : Int32} {b_word b_joined b_many b_coefficients b_colours b_component : Nat → Int32}
theorem pm_endY {post : Int32 → Prop} {n c q : Nat} (h4 : n ≤ 4) (hc : c ≤ 10) (hw : ∀ i, i < c → bk_L n (b_word i)) (hq : q < n) (P : post (nI (pm_e b_word c q))) : wpY_end post (g_n, nI c, g_known, b_word, b_joined, b_many, b_coefficients, b_colours, b_component) (nI q) := by
  have L : ∀ d i, i + d = c → wY_end_4 post g_n (nI c) g_known b_word b_joined b_many b_coefficients b_colours b_component (d + 1) (nI (pm_e b_word i q)) (nI i) := by
    intro d
    induction d with
    | zero =>
      intro i h
      have : i = c := by omega
      subst this
      exact br_t (nI_le (Nat.le_refl _) (by omega)) P
    | succ d ih =>
      intro i h
      have I := ih (i + 1) (by omega)
      obtain ⟨p1, p2⟩ := bk_Lp (hw i (by omega)) h4
      have hx := ((pm_te h4 hw i (by omega)).2.2.1 q hq).2
      refine br_f (nI_ge (by omega) (by omega)) ⟨vp_in_nI (by omega) (by omega), ?_⟩
      rw [nI_clamp (by omega)]
      refine bk_sizeY (hw i (by omega)) h4 ?_
      have e : pm_e b_word (i + 1) q = pm_sw (bk_p (b_word i)) (pm_e b_word i q) := rfl
      rw [e] at I
      generalize pm_e b_word i q = x at *
      generalize bk_p (b_word i) = p at *
      rw [bk_s1 p1]
      refine pk_eq x p (fun z => nm_e (nm_r (nI_1 i) ?_)) (fun z => pk_eq x (p - 1) (fun y => nm_r (nI_1 i) ?_) (fun y => nm_r (nI_1 i) ?_))
      · rw [show pm_sw p x = p - 1 from if_pos z] at I
        exact I
      · rw [show pm_sw p x = p by unfold pm_sw; rw [if_neg z, if_pos (by omega)]] at I
        exact I
      · rw [show pm_sw p x = x by unfold pm_sw; rw [if_neg z, if_neg (by omega)]] at I
        exact I
  exact ⟨_, L c 0 (by omega)⟩
end
end
section
-- components
def pm_li (f : Nat → Nat) : List Nat := [f 0, f 1, f 2, f 3]
theorem pm_lig {f : Nat → Nat} {j : Nat} (h : j < 4) : (pm_li f).getD j 0 = f j := by
  have : j = 0 ∨ j = 1 ∨ j = 2 ∨ j = 3 := by omega
  rcases this with rfl | rfl | rfl | rfl <;> rfl
def pm_mn (t C : List Nat) (i : Nat) : Nat := if C.getD (t.getD i 0) 0 ≤ C.getD i 0 then C.getD (t.getD i 0) 0 else C.getD i 0
def pm_cs (t C : List Nat) (i : Nat) : List Nat := (C.set i (pm_mn t C i)).set (t.getD i 0) (pm_mn t C i)
def pm_cr (t C : List Nat) : Nat → List Nat
  | 0 => C
  | i + 1 => pm_cs t (pm_cr t C i) i
def pm_cR (n : Nat) (t C : List Nat) : Nat → List Nat
  | 0 => C
  | r + 1 => pm_cr t (pm_cR n t C r) n
/-- the array holds the list's first N entries, all below 4 -/
def pm_A (N : Nat) (a : Nat → Int32) (C : List Nat) : Prop := C.length = 4 ∧ ∀ j, j < N → a j = nI (C.getD j 0) ∧ C.getD j 0 < 4
theorem pm_getset {C : List Nat} {i v j : Nat} (h : i < C.length) : (C.set i v).getD j 0 = if j = i then v else C.getD j 0 := by
  rw [List.getD_eq_getElem?_getD, List.getElem?_set]
  by_cases e : j = i
  · subst e
    rw [if_pos rfl, if_pos rfl, if_pos h]; rfl
  · rw [if_neg (Ne.symm e), if_neg e, List.getD_eq_getElem?_getD]
theorem pm_Aset {N : Nat} {a : Nat → Int32} {C : List Nat} {i v : Nat} (h : pm_A N a C) (hi : i < 4) (hv : v < 4) : pm_A N (upd a i (nI v)) (C.set i v) := by
  refine ⟨by rw [List.length_set]; exact h.1, fun j hj => ?_⟩
  rw [pm_getset (by rw [h.1]; exact hi)]
  by_cases e : j = i
  · subst e
    rw [pk_us, if_pos rfl]
    exact ⟨rfl, hv⟩
  · rw [pk_un e, if_neg e]
    exact h.2 j hj
theorem pm_Amn {N : Nat} {a : Nat → Int32} {t C : List Nat} {i : Nat} (h : pm_A N a C) (hi : i < N) (ht : t.getD i 0 < N) : pm_mn t C i < 4 := by
  unfold pm_mn
  split
  · exact (h.2 _ ht).2
  · exact (h.2 _ hi).2
theorem pm_A0 {N : Nat} {a : Nat → Int32} (h : ∀ j, j < N → a j = nI j) (hN : N ≤ 4) : pm_A N a [0, 1, 2, 3] := by
  refine ⟨rfl, fun j hj => ?_⟩
  have e : ∀ j, j < 4 → ([0, 1, 2, 3] : List Nat).getD j 0 = j := by decide
  rw [e j (by omega)]
  exact ⟨h j hj, by omega⟩
section
variable {f_strands f_count f_joinings f_known : Int32} {a_word a_partner a_work a_shut a_closes a_closed a_seen a_power a_next a_result a_scaled a_many a_later a_tally a_matrix a_track a_component : Nat → Int32}
theorem pm_34X {post : SX → Prop} {J : Int32 → (Nat → Int32) → (Nat → Int32) → (Nat → Int32) → (Nat → Int32) → (Nat → Int32) → (Nat → Int32) → (Nat → Int32) → (Nat → Int32) → (Nat → Int32) → (Nat → Int32) → (Nat → Int32) → (Nat → Int32) → (Nat → Int32) → (Nat → Int32) → (Nat → Int32) → (Nat → Int32) → (Nat → Int32) → Prop} {n r : Nat} {t : Nat → Nat} {C : List Nat} (h4 : n ≤ 4) (H : pm_T a_track t) (K : ∀ a, pm_A 4 a (pm_cr (pm_li t) C n) → J (nI (r + 1)) a_word a_partner a_work a_shut a_closes a_closed a_seen a_power a_next a_result a_scaled a_many a_later a_tally a_matrix a_track a) :
    ∀ d i a, i + d = n → pm_A 4 a (pm_cr (pm_li t) C i) → wX_findComponents_34 post J (nI r) (nI n) f_count f_joinings f_known (d + 1) (nI i) a_word a_partner a_work a_shut a_closes a_closed a_seen a_power a_next a_result a_scaled a_many a_later a_tally a_matrix a_track a := by
  intro d
  induction d with
  | zero =>
    intro i a h HA
    have : i = n := by omega
    subst this
    exact br_t (nI_le (Nat.le_refl _) (by omega)) (nm_r (nI_1 r) (K a HA))
  | succ d ih =>
    intro i a h HA
    obtain ⟨u1, u2⟩ := H i (by omega)
    have hg : (pm_li t).getD i 0 = t i := pm_lig (by omega)
    have hm := pm_Amn (t := pm_li t) HA (i := i) (by omega) (by rw [hg]; exact u2)
    obtain ⟨v1, v2⟩ := HA.2 i (by omega)
    obtain ⟨x1, x2⟩ := HA.2 (t i) u2
    have I := fun a1 h1 => ih (i + 1) a1 (by omega) h1
    have S : ∀ z, z = pm_mn (pm_li t) (pm_cr (pm_li t) C i) i → wX_findComponents_74 post J (wX_findComponents_34 post J (nI r) (nI n) f_count f_joinings f_known (d + 1)) (nI r) (nI i) (nI z) (nI n) f_count f_joinings f_known a_word a_partner a_work a_shut a_closes a_closed a_seen a_power a_next a_result a_scaled a_many a_later a_tally a_matrix a_track a := by
      intro z hz
      subst hz
      refine And.intro (vp_in_nI (by omega) (by omega)) (nm_r (e' := upd a i (nI (pm_mn (pm_li t) (pm_cr (pm_li t) C i) i))) (by rw [nI_clamp (by omega), bk_nbb (by omega)]) ⟨vp_in_nI (by omega) (by omega), ?_⟩)
      rw [nI_clamp (by omega), u1]
      refine ⟨vp_in_nI u2 (by omega), nm_r (e' := upd (upd a i (nI (pm_mn (pm_li t) (pm_cr (pm_li t) C i) i))) (t i) (nI (pm_mn (pm_li t) (pm_cr (pm_li t) C i) i))) (by rw [nI_clamp (by omega), bk_nbb (by omega)]) (nm_r (nI_1 i) (I _ ?_))⟩
      rw [pm_cr, pm_cs, hg]
      exact pm_Aset (pm_Aset HA (by omega) hm) u2 hm
    refine br_f (nI_ge (by omega) (by omega)) ⟨vp_in_nI (by omega) (by omega), nm_r (e' := nI ((pm_cr (pm_li t) C i).getD i 0)) (by rw [nI_clamp (by omega), v1]) ⟨vp_in_nI (by omega) (by omega), ?_⟩⟩
    rw [nI_clamp (by omega), u1]
    refine ⟨vp_in_nI u2 (by omega), nm_r (e' := nI ((pm_cr (pm_li t) C i).getD (t i) 0)) (by rw [nI_clamp (by omega), x1]) ?_⟩
    refine pk_le _ _ (fun q => S _ ?_) (fun q => S _ ?_)
    · unfold pm_mn
      rw [hg, if_pos q]
    · unfold pm_mn
      rw [hg, if_neg (by omega)]
theorem pm_27X {post : SX → Prop} {n : Nat} {t : Nat → Nat} {C : List Nat} (h4 : n ≤ 4) (H : pm_T a_track t) (K : ∀ a, pm_A 4 a (pm_cR n (pm_li t) C 4) → post (nI n, f_count, f_joinings, f_known, a_word, a_partner, a_work, a_shut, a_closes, a_closed, a_seen, a_power, a_next, a_result, a_scaled, a_many, a_later, a_tally, a_matrix, a_track, a)) :
    ∀ d r a, r + d = 4 → pm_A 4 a (pm_cR n (pm_li t) C r) → wX_findComponents_27 post (nI n) f_count f_joinings f_known (d + 1) (nI r) a_word a_partner a_work a_shut a_closes a_closed a_seen a_power a_next a_result a_scaled a_many a_later a_tally a_matrix a_track a := by
  intro d
  induction d with
  | zero =>
    intro r a h HA
    have : r = 4 := by omega
    subst this
    exact br_t (by decide) (K a HA)
  | succ d ih =>
    intro r a h HA
    exact br_f (nI_ge (b := 4) (by omega) (by omega)) ⟨n + 1, pm_34X h4 H (fun a1 H1 => ih (r + 1) a1 (by omega) H1) n 0 a (by omega) HA⟩
/-- the least position of a strand's component -/
def pm_k (n c : Nat) (w : Nat → Int32) : List Nat := pm_cR n (pm_li (pm_t w c)) [0, 1, 2, 3] 4
theorem pm_compX {post : SX → Prop} {n c : Nat} (h4 : n ≤ 4) (hc : c ≤ 10) (hw : ∀ i, i < c → bk_L n (a_word i)) (K : ∀ tr cp, pm_A 4 cp (pm_k n c a_word) → post (nI n, nI c, f_joinings, f_known, a_word, a_partner, a_work, a_shut, a_closes, a_closed, a_seen, a_power, a_next, a_result, a_scaled, a_many, a_later, a_tally, a_matrix, tr, cp)) : wpX_findComponents post (nI n, nI c, f_joinings, f_known, a_word, a_partner, a_work, a_shut, a_closes, a_closed, a_seen, a_power, a_next, a_result, a_scaled, a_many, a_later, a_tally, a_matrix, a_track, a_component) := by
  unfold wpX_findComponents
  refine pm_ends h4 hc hw (fun tr H => ?_)
  refine ⟨4 - 0 + 1, ?_⟩
  refine bk_fill (W := fun m x a => wX_findComponents_6 post (nI n) (nI c) f_joinings f_known m x a_word a_partner a_work a_shut a_closes a_closed a_seen a_power a_next a_result a_scaled a_many a_later a_tally a_matrix tr a) 0 4 (by omega) nI a_component (fun m => ?_) ?_
  · refine br_t (by decide) ⟨5, pm_27X h4 H (fun a HA => K tr a HA) 4 0 _ rfl (pm_A0 (fun j hj => bk_ff_in (by omega) hj) (Nat.le_refl _))⟩
  · intro m x a h1 h2 h3 h4
    exact br_f (nI_ge (b := 4) (by omega) (by omega)) ⟨vp_in_nI (by omega) (by omega), nm_r (e' := upd a x (nI x)) (by rw [nI_clamp (by omega), bk_nbb (by omega)]) (nm_r (nI_1 x) h4)⟩
def pm_n (C : List Nat) : Nat → Nat
  | 0 => 0
  | i + 1 => pm_n C i + (if C.getD i 0 = i then 1 else 0)
theorem pm_8X {post : Int32 → SX → Prop} {n : Nat} {C : List Nat} (h4 : n ≤ 4) (HA : pm_A n a_component C) (P : post (nI (pm_n C n)) (nI n, f_count, f_joinings, f_known, a_word, a_partner, a_work, a_shut, a_closes, a_closed, a_seen, a_power, a_next, a_result, a_scaled, a_many, a_later, a_tally, a_matrix, a_track, a_component)) : ∃ n8 : Nat, wX_components_8 post (nI n) f_count f_joinings f_known a_word a_partner a_work a_shut a_closes a_closed a_seen a_power a_next a_result a_scaled a_many a_later a_tally a_matrix a_track a_component n8 0 0 := by
  have L : ∀ d i, i + d = n → wX_components_8 post (nI n) f_count f_joinings f_known a_word a_partner a_work a_shut a_closes a_closed a_seen a_power a_next a_result a_scaled a_many a_later a_tally a_matrix a_track a_component (d + 1) (nI (pm_n C i)) (nI i) := by
    intro d
    induction d with
    | zero =>
      intro i h
      have : i = n := by omega
      subst this
      exact br_t (nI_le (Nat.le_refl _) (by omega)) P
    | succ d ih =>
      intro i h
      have I := ih (i + 1) (by omega)
      rw [pm_n] at I
      obtain ⟨u1, u2⟩ := HA.2 i (by omega)
      refine br_f (nI_ge (by omega) (by omega)) ⟨vp_in_nI (by omega) (by omega), ?_⟩
      rw [nI_clamp (by omega), u1]
      refine pk_eq _ i (fun z => nm_r (nI_1 _) (nm_r (nI_1 i) ?_)) (fun z => nm_r (nI_1 i) ?_)
      · rw [if_pos z] at I; exact I
      · rw [if_neg z] at I; exact I
  exact ⟨n + 1, L n 0 (by omega)⟩
end
section
variable {g_n g_len g_known : Int32} {b_word b_joined b_many b_coefficients b_colours b_component : Nat → Int32}
theorem pm_35Y {post : SY → Prop} {J : Int32 → (Nat → Int32) → (Nat → Int32) → (Nat → Int32) → (Nat → Int32) → (Nat → Int32) → (Nat → Int32) → Prop} {n c r : Nat} {C : List Nat} (h4 : n ≤ 4) (hc : c ≤ 10) (hw : ∀ i, i < c → bk_L n (b_word i)) (K : ∀ a, pm_A n a (pm_cr (pm_li (pm_e b_word c)) C n) → J (nI (r + 1)) b_word b_joined b_many b_coefficients b_colours a) :
    ∀ d i a, i + d = n → pm_A n a (pm_cr (pm_li (pm_e b_word c)) C i) → wY_group_35 post J (nI r) (nI n) (nI c) g_known (d + 1) (nI i) b_word b_joined b_many b_coefficients b_colours a := by
  intro d
  induction d with
  | zero =>
    intro i a h HA
    have : i = n := by omega
    subst this
    exact br_t (nI_le (Nat.le_refl _) (by omega)) (nm_r (nI_1 r) (K a HA))
  | succ d ih =>
    intro i a h HA
    have u2 := ((pm_te h4 hw c (Nat.le_refl _)).2.2.1 i (by omega)).2
    have hg : (pm_li (pm_e b_word c)).getD i 0 = pm_e b_word c i := pm_lig (by omega)
    refine br_f (nI_ge (by omega) (by omega)) (pm_endY h4 hc hw (by omega) ?_)
    have I := fun a1 h1 => ih (i + 1) a1 (by omega) h1
    generalize pm_li (pm_e b_word c) = t at *
    generalize pm_e b_word c i = q at *
    have hm := pm_Amn (t := t) HA (i := i) (by omega) (by rw [hg]; exact u2)
    obtain ⟨v1, v2⟩ := HA.2 i (by omega)
    obtain ⟨x1, x2⟩ := HA.2 q u2
    have S : ∀ z, z = pm_mn t (pm_cr t C i) i → wY_group_79 post J (wY_group_35 post J (nI r) (nI n) (nI c) g_known (d + 1)) (nI r) (nI i) (nI q) (nI z) (nI n) (nI c) g_known b_word b_joined b_many b_coefficients b_colours a := by
      intro z hz
      subst hz
      refine And.intro (vp_in_nI (by omega) (by omega)) (nm_r (e' := upd a i (nI (pm_mn t (pm_cr t C i) i))) (by rw [nI_clamp (by omega)]) ⟨vp_in_nI (by omega) (by omega), nm_r (e' := upd (upd a i (nI (pm_mn t (pm_cr t C i) i))) q (nI (pm_mn t (pm_cr t C i) i))) (by rw [nI_clamp (by omega)]) (nm_r (nI_1 i) (I _ ?_))⟩)
      rw [pm_cr, pm_cs, hg]
      exact pm_Aset (pm_Aset HA (by omega) hm) (by omega) hm
    refine ⟨vp_in_nI (by omega) (by omega), vp_in_nI (by omega) (by omega), ?_⟩
    rw [nI_clamp (by omega), nI_clamp (by omega), x1, v1]
    refine pk_le ((pm_cr t C i).getD q 0) ((pm_cr t C i).getD i 0) (fun y => ⟨vp_in_nI (by omega) (by omega), S _ ?_⟩) (fun y => ⟨vp_in_nI (by omega) (by omega), S _ ?_⟩)
    · unfold pm_mn
      rw [hg, if_pos y]
    · unfold pm_mn
      rw [hg, if_neg (by omega)]
theorem pm_25Y {post : SY → Prop} {n c : Nat} {C : List Nat} (h4 : n ≤ 4) (hc : c ≤ 10) (hw : ∀ i, i < c → bk_L n (b_word i)) (K : ∀ a, pm_A n a (pm_cR n (pm_li (pm_e b_word c)) C n) → post (nI n, nI c, g_known, b_word, b_joined, b_many, b_coefficients, b_colours, a)) :
    ∀ d r a, r + d = n → pm_A n a (pm_cR n (pm_li (pm_e b_word c)) C r) → wY_group_25 post (nI n) (nI c) g_known (d + 1) (nI r) b_word b_joined b_many b_coefficients b_colours a := by
  intro d
  induction d with
  | zero =>
    intro r a h HA
    have : r = n := by omega
    subst this
    exact br_t (nI_le (Nat.le_refl _) (by omega)) (K a HA)
  | succ d ih =>
    intro r a h HA
    exact br_f (nI_ge (by omega) (by omega)) ⟨n + 1, pm_35Y h4 hc hw (fun a1 H1 => ih (r + 1) a1 (by omega) H1) n 0 a (by omega) HA⟩
end
def pm_iv (t : List Nat) (x : Nat) : Nat := if t.getD 0 0 = x then 0 else if t.getD 1 0 = x then 1 else if t.getD 2 0 = x then 2 else 3
def pm_ok (n t0 t1 t2 t3 : Nat) : Bool := (decide (t0 = t1) || decide (t0 = t2) || decide (t0 = t3) || decide (t1 = t2) || decide (t1 = t3) || decide (t2 = t3) || (decide (n ≤ 2) && !decide (t2 = 2)) || (decide (n ≤ 3) && !decide (t3 = 3))) || (List.range n).all fun j => decide ((pm_cR n [t0, t1, t2, t3] [0, 1, 2, 3] 4).getD j 0 = (pm_cR n (pm_li (pm_iv [t0, t1, t2, t3])) [0, 1, 2, 3] n).getD j 0)
theorem pm_ok2 : ∀ t0, t0 < 4 → ∀ t1, t1 < 4 → ∀ t2, t2 < 4 → ∀ t3, t3 < 4 → pm_ok 2 t0 t1 t2 t3 = true := by decide +kernel
theorem pm_ok3 : ∀ t0, t0 < 4 → ∀ t1, t1 < 4 → ∀ t2, t2 < 4 → ∀ t3, t3 < 4 → pm_ok 3 t0 t1 t2 t3 = true := by decide +kernel
theorem pm_ok4 : ∀ t0, t0 < 4 → ∀ t1, t1 < 4 → ∀ t2, t2 < 4 → ∀ t3, t3 < 4 → pm_ok 4 t0 t1 t2 t3 = true := by decide +kernel
theorem pm_same {n c : Nat} {w : Nat → Int32} (h2 : 2 ≤ n) (h4 : n ≤ 4) (hw : ∀ i, i < c → bk_L n (w i)) : ∀ j, j < n → (pm_cR n (pm_li (pm_e w c)) [0, 1, 2, 3] n).getD j 0 = (pm_k n c w).getD j 0 := by
  obtain ⟨a1, a2, a3, a4⟩ := pm_te h4 hw c (Nat.le_refl _)
  have lt : ∀ x, x < 4 → pm_t w c x < 4 := by
    intro x hx
    by_cases q : x < n
    · have := (a3 x q).1; omega
    · rw [(a4 x (by omega)).1]; exact hx
  have inj : ∀ x y, pm_t w c x = pm_t w c y → x = y := by
    intro x y h
    have := congrArg (pm_e w c) h
    rw [a2, a2] at this
    exact this
  have elt : ∀ x, x < 4 → pm_e w c x < 4 := by
    intro x hx
    by_cases q : x < n
    · have := (a3 x q).2; omega
    · rw [(a4 x (by omega)).2]; exact hx
  have ei : pm_li (pm_e w c) = pm_li (pm_iv (pm_li (pm_t w c))) := by
    have e : ∀ x, x < 4 → pm_e w c x = pm_iv (pm_li (pm_t w c)) x := by
      intro x hx
      unfold pm_iv
      rw [pm_lig (by omega), pm_lig (by omega), pm_lig (by omega)]
      by_cases q0 : pm_t w c 0 = x
      · rw [if_pos q0, ← q0, a2]
      · rw [if_neg q0]
        by_cases q1 : pm_t w c 1 = x
        · rw [if_pos q1, ← q1, a2]
        · rw [if_neg q1]
          by_cases q2 : pm_t w c 2 = x
          · rw [if_pos q2, ← q2, a2]
          · rw [if_neg q2]
            have hl := elt x hx
            have hx1 := a1 x
            have : pm_e w c x = 0 ∨ pm_e w c x = 1 ∨ pm_e w c x = 2 ∨ pm_e w c x = 3 := by omega
            rcases this with z | z | z | z
            · rw [z] at hx1; exact absurd hx1 q0
            · rw [z] at hx1; exact absurd hx1 q1
            · rw [z] at hx1; exact absurd hx1 q2
            · exact z
    unfold pm_li
    rw [e 0 (by omega), e 1 (by omega), e 2 (by omega), e 3 (by omega)]
    rfl
  have ok : pm_ok n (pm_t w c 0) (pm_t w c 1) (pm_t w c 2) (pm_t w c 3) = true := by
    have : n = 2 ∨ n = 3 ∨ n = 4 := by omega
    rcases this with rfl | rfl | rfl
    · exact pm_ok2 _ (lt 0 (by omega)) _ (lt 1 (by omega)) _ (lt 2 (by omega)) _ (lt 3 (by omega))
    · exact pm_ok3 _ (lt 0 (by omega)) _ (lt 1 (by omega)) _ (lt 2 (by omega)) _ (lt 3 (by omega))
    · exact pm_ok4 _ (lt 0 (by omega)) _ (lt 1 (by omega)) _ (lt 2 (by omega)) _ (lt 3 (by omega))
  unfold pm_ok at ok
  have n01 : ¬ pm_t w c 0 = pm_t w c 1 := fun z => absurd (inj _ _ z) (by decide)
  have n02 : ¬ pm_t w c 0 = pm_t w c 2 := fun z => absurd (inj _ _ z) (by decide)
  have n03 : ¬ pm_t w c 0 = pm_t w c 3 := fun z => absurd (inj _ _ z) (by decide)
  have n12 : ¬ pm_t w c 1 = pm_t w c 2 := fun z => absurd (inj _ _ z) (by decide)
  have n13 : ¬ pm_t w c 1 = pm_t w c 3 := fun z => absurd (inj _ _ z) (by decide)
  have n23 : ¬ pm_t w c 2 = pm_t w c 3 := fun z => absurd (inj _ _ z) (by decide)
  have m2 : (decide (n ≤ 2) && !decide (pm_t w c 2 = 2)) = false := by
    by_cases q : n ≤ 2
    · rw [decide_eq_true (a4 2 q).1]; exact Bool.and_false _
    · rw [decide_eq_false q]; rfl
  have m3 : (decide (n ≤ 3) && !decide (pm_t w c 3 = 3)) = false := by
    by_cases q : n ≤ 3
    · rw [decide_eq_true (a4 3 q).1]; exact Bool.and_false _
    · rw [decide_eq_false q]; rfl
  rw [decide_eq_false n01, decide_eq_false n02, decide_eq_false n03, decide_eq_false n12, decide_eq_false n13, decide_eq_false n23, m2, m3] at ok
  intro j hj
  have h := List.all_eq_true.mp ok j (List.mem_range.mpr hj)
  rw [ei]
  exact (of_decide_eq_true h).symm
section
variable {g_n g_len g_known : Int32} {b_word b_joined b_many b_coefficients b_colours b_component : Nat → Int32}
theorem pm_groupY {post : SY → Prop} {n c : Nat} (h2 : 2 ≤ n) (h4 : n ≤ 4) (hc : c ≤ 10) (hw : ∀ i, i < c → bk_L n (b_word i)) (K : ∀ cp, (∀ j, j < n → cp j = nI ((pm_k n c b_word).getD j 0)) → post (nI n, nI c, g_known, b_word, b_joined, b_many, b_coefficients, b_colours, cp)) : wpY_group post (nI n, nI c, g_known, b_word, b_joined, b_many, b_coefficients, b_colours, b_component) := by
  refine ⟨n - 0 + 1, ?_⟩
  refine bk_fill (W := fun m x a => wY_group_2 post (nI n) (nI c) g_known m x b_word b_joined b_many b_coefficients b_colours a) 0 n (by omega) nI b_component (fun m => ?_) ?_
  · refine br_t (nI_le (Nat.le_refl _) (by omega)) ⟨n + 1, pm_25Y h4 hc hw (fun a HA => K a (fun j hj => ?_)) n 0 _ (by omega) (pm_A0 (fun j hj => bk_ff_in (by omega) hj) h4)⟩
    rw [(HA.2 j hj).1, pm_same h2 h4 hw j hj]
  · intro m x a h1 h2 h3 h4
    exact br_f (nI_ge (by omega) (by omega)) ⟨vp_in_nI (by omega) (by omega), nm_r (e' := upd a x (nI x)) (by rw [nI_clamp (by omega)]) (nm_r (nI_1 x) h4)⟩
theorem pm_8Y {post : Int32 → SY → Prop} {n : Nat} {C : List Nat} (h4 : n ≤ 4) (HA : ∀ j, j < n → b_component j = nI (C.getD j 0)) (HC : ∀ j, j < n → C.getD j 0 < 4) (P : post (nI (pm_n C n)) (nI n, g_len, g_known, b_word, b_joined, b_many, b_coefficients, b_colours, b_component)) : ∃ n8 : Nat, wY_components_8 post (nI n) g_len g_known b_word b_joined b_many b_coefficients b_colours b_component n8 0 0 := by
  have L : ∀ d i, i + d = n → wY_components_8 post (nI n) g_len g_known b_word b_joined b_many b_coefficients b_colours b_component (d + 1) (nI (pm_n C i)) (nI i) := by
    intro d
    induction d with
    | zero =>
      intro i h
      have : i = n := by omega
      subst this
      exact br_t (nI_le (Nat.le_refl _) (by omega)) P
    | succ d ih =>
      intro i h
      have I := ih (i + 1) (by omega)
      rw [pm_n] at I
      have u1 := HA i (by omega)
      have u2 := HC i (by omega)
      refine br_f (nI_ge (by omega) (by omega)) ⟨vp_in_nI (by omega) (by omega), ?_⟩
      rw [nI_clamp (by omega), u1]
      refine pk_eq _ i (fun z => nm_r (nI_1 _) (nm_r (nI_1 i) ?_)) (fun z => nm_r (nI_1 i) ?_)
      · rw [if_pos z] at I; exact I
      · rw [if_neg z] at I; exact I
  exact ⟨n + 1, L n 0 (by omega)⟩
end
end
section
-- linking numbers
def pm_q (C : List Nat) (A B : Nat) (t : Nat → Nat) (p : Nat) : Bool := decide ((C.getD (t (p - 1)) 0 = A ∧ C.getD (t p) 0 = B) ∨ (C.getD (t (p - 1)) 0 = B ∧ C.getD (t p) 0 = A))
def pm_ls (C : List Nat) (A B : Nat) (w : Nat → Int32) : Nat → Int
  | 0 => 0
  | k + 1 => pm_ls C A B w k + (if pm_q C A B (pm_t w k) (bk_p (w k)) = true then bk_g (w k) else 0)
section
variable {f_strands f_count f_joinings f_known : Int32} {a_word a_partner a_work a_shut a_closes a_closed a_seen a_power a_next a_result a_scaled a_many a_later a_tally a_matrix a_track a_component : Nat → Int32}
theorem pm_59 {post : Int32 → SX → Prop} {n c A B : Nat} {C : List Nat} (h4 : n ≤ 4) (hc : c ≤ 10) (hw : ∀ i, i < c → bk_L n (a_word i)) (hA : A < 4) (hB : B < 4) (HC : pm_A 4 a_component C) (P : ∀ tr, post (Int32.ofInt (pm_ls C A B a_word c) / 2) (f_strands, nI c, f_joinings, f_known, a_word, a_partner, a_work, a_shut, a_closes, a_closed, a_seen, a_power, a_next, a_result, a_scaled, a_many, a_later, a_tally, a_matrix, tr, a_component)) :
    ∀ d i a, i + d = c → pm_T a (pm_t a_word i) → wX_linking_59 post (nI A) (nI B) (d + 1) (Int32.ofInt (pm_ls C A B a_word i)) (nI i) f_strands (nI c) f_joinings f_known a_word a_partner a_work a_shut a_closes a_closed a_seen a_power a_next a_result a_scaled a_many a_later a_tally a_matrix a a_component := by
  intro d
  induction d with
  | zero =>
    intro i a h H
    have : i = c := by omega
    subst this
    exact br_t (nI_le (Nat.le_refl _) (by omega)) ⟨by decide, P a⟩
  | succ d ih =>
    intro i a h H
    have hL := hw i (by omega)
    obtain ⟨p1, p2⟩ := bk_Lp hL h4
    have ew : a_word (nI i).toNatClampNeg = a_word i := by rw [nI_clamp (by omega)]
    have c172 : ∀ z : Int, z = pm_ls C A B a_word (i + 1) → wX_linking_172 post (wX_linking_59 post (nI A) (nI B) (d + 1)) (nI A) (nI B) (nI i) (Int32.ofInt z) f_strands (nI c) f_joinings f_known a_word a_partner a_work a_shut a_closes a_closed a_seen a_power a_next a_result a_scaled a_many a_later a_tally a_matrix a a_component := by
      intro z hz
      subst hz
      refine And.intro (vp_in_nI (by omega) (by omega)) ?_
      rw [ew]
      refine pm_cross h4 hL H (fun a1 H1 => ?_)
      exact nm_r (nI_1 i) (ih (i + 1) a1 (by omega) H1)
    have yes : pm_q C A B (pm_t a_word i) (bk_p (a_word i)) = true → wX_linking_137 post (wX_linking_59 post (nI A) (nI B) (d + 1)) (nI A) (nI B) (Int32.ofInt (pm_ls C A B a_word i)) (nI i) f_strands (nI c) f_joinings f_known a_word a_partner a_work a_shut a_closes a_closed a_seen a_power a_next a_result a_scaled a_many a_later a_tally a_matrix a a_component := by
      intro hq
      unfold wX_linking_137 wX_linking_142
      refine br_f (by decide) ⟨vp_in_nI (by omega) (by omega), ?_⟩
      rw [ew]
      rcases bk_L6 hL h4 with ⟨-, g1, -, g4⟩ | ⟨-, g1, -, g4⟩
      · refine br_f g1 ?_
        unfold wX_linking_166
        have := c172 (pm_ls C A B a_word i + 1) (by rw [pm_ls, if_pos hq, g4])
        rw [Int32.ofInt_add] at this
        exact this
      · refine br_t g1 ?_
        unfold wX_linking_166
        have := c172 (pm_ls C A B a_word i + -1) (by rw [pm_ls, if_pos hq, g4])
        rw [Int32.ofInt_add] at this
        exact this
    have no : pm_q C A B (pm_t a_word i) (bk_p (a_word i)) = false → wX_linking_141 post (wX_linking_59 post (nI A) (nI B) (d + 1)) (nI A) (nI B) (Int32.ofInt (pm_ls C A B a_word i)) (nI i) f_strands (nI c) f_joinings f_known a_word a_partner a_work a_shut a_closes a_closed a_seen a_power a_next a_result a_scaled a_many a_later a_tally a_matrix a a_component := by
      intro hq
      unfold wX_linking_141 wX_linking_142
      refine br_t rfl (c172 _ ?_)
      rw [pm_ls, hq]
      exact (Int.add_zero _).symm
    refine br_f (nI_ge (by omega) (by omega)) ⟨vp_in_nI (by omega) (by omega), ?_⟩
    rw [ew]
    refine bk_posX hL h4 ?_
    unfold pm_q at yes no
    generalize bk_p (a_word i) = p at *
    obtain ⟨u1, u2⟩ := H (p - 1) (by omega)
    obtain ⟨v1, v2⟩ := H p (by omega)
    obtain ⟨x1, x2⟩ := HC.2 _ u2
    obtain ⟨y1, y2⟩ := HC.2 _ v2
    have e1 : nI p - 1 = nI (p - 1) := bk_s1 p1
    rw [e1, nI_clamp (by omega), nI_clamp (by omega), u1, v1]
    refine ⟨vp_in_nI (by omega) (by omega), vp_in_nI u2 (by omega), nm_r (e' := nI (C.getD (pm_t a_word i (p - 1)) 0)) (by rw [nI_clamp (by omega), x1]) ⟨vp_in_nI (by omega) (by omega), vp_in_nI v2 (by omega), nm_r (e' := nI (C.getD (pm_t a_word i p) 0)) (by rw [nI_clamp (by omega), y1]) ?_⟩⟩
    generalize C.getD (pm_t a_word i (p - 1)) 0 = X at *
    generalize C.getD (pm_t a_word i p) 0 = Y at *
    have c124 : ¬ (X = A ∧ Y = B) → wX_linking_124 post (wX_linking_59 post (nI A) (nI B) (d + 1)) (nI A) (nI B) (Int32.ofInt (pm_ls C A B a_word i)) (nI i) (nI X) (nI Y) f_strands (nI c) f_joinings f_known a_word a_partner a_work a_shut a_closes a_closed a_seen a_power a_next a_result a_scaled a_many a_later a_tally a_matrix a a_component := by
      intro hn
      unfold wX_linking_124
      refine pk_eq X B (fun z1 => pk_eq Y A (fun z2 => yes (decide_eq_true (Or.inr ⟨z1, z2⟩))) (fun z2 => no (decide_eq_false ?_))) (fun z1 => no (decide_eq_false ?_))
      · intro z; rcases z with z | z
        · exact hn z
        · exact z2 z.2
      · intro z; rcases z with z | z
        · exact hn z
        · exact z1 z.1
    exact pk_eq X A (fun z1 => pk_eq Y B (fun z2 => yes (decide_eq_true (Or.inl ⟨z1, z2⟩))) (fun z2 => c124 (fun z => z2 z.2))) (fun z1 => c124 (fun z => z1 z.1))
end
section
variable {g_n g_len g_known : Int32} {b_word b_joined b_many b_coefficients b_colours b_component : Nat → Int32}
theorem pm_87 {post : Int32 → SY → Prop} {n c A B : Nat} {C : List Nat} (h4 : n ≤ 4) (hc : c ≤ 10) (hw : ∀ i, i < c → bk_L n (b_word i)) (hA : A < 4) (hB : B < 4) (HC : ∀ j, j < n → C.getD j 0 < 4) (P : ∀ co, post (Int32.ofInt (pm_ls C A B b_word c) / 2) (g_n, nI c, g_known, b_word, b_joined, b_many, b_coefficients, co, b_component)) :
    ∀ d i a, i + d = c → (∀ j, j < n → a j = nI (C.getD (pm_t b_word i j) 0)) → wY_linking_87 post (nI A) (nI B) g_n (nI c) g_known (d + 1) (Int32.ofInt (pm_ls C A B b_word i)) (nI i) b_word b_joined b_many b_coefficients a b_component := by
  intro d
  induction d with
  | zero =>
    intro i a h H
    have : i = c := by omega
    subst this
    exact br_t (nI_le (Nat.le_refl _) (by omega)) ⟨by decide, P a⟩
  | succ d ih =>
    intro i a h H
    have hL := hw i (by omega)
    obtain ⟨p1, p2⟩ := bk_Lp hL h4
    have a3 := (pm_te h4 hw i (by omega)).2.2.1
    have ew : b_word (nI i).toNatClampNeg = b_word i := by rw [nI_clamp (by omega)]
    have I := fun a1 h1 => ih (i + 1) a1 (by omega) h1
    have es : ∀ j, pm_t b_word (i + 1) j = pm_t b_word i (pm_sw (bk_p (b_word i)) j) := fun j => rfl
    have hls : pm_ls C A B b_word (i + 1) = pm_ls C A B b_word i + (if pm_q C A B (pm_t b_word i) (bk_p (b_word i)) = true then bk_g (b_word i) else 0) := rfl
    refine br_f (nI_ge (by omega) (by omega)) ⟨vp_in_nI (by omega) (by omega), ?_⟩
    rw [ew]
    refine bk_sizeY hL h4 ?_
    unfold pm_q at hls
    generalize bk_p (b_word i) = p at *
    have x1 := H (p - 1) (by omega)
    have y1 := H p (by omega)
    have x2 := HC _ (a3 (p - 1) (by omega)).1
    have y2 := HC _ (a3 p (by omega)).1
    have e1 : nI p - 1 = nI (p - 1) := bk_s1 p1
    have c171 : ∀ z : Int, z = pm_ls C A B b_word (i + 1) → wY_linking_171 post (wY_linking_87 post (nI A) (nI B) g_n (nI c) g_known (d + 1)) (nI A) (nI B) (Int32.ofInt z) (nI i) (nI p) (nI (C.getD (pm_t b_word i (p - 1)) 0)) (nI (C.getD (pm_t b_word i p) 0)) g_n (nI c) g_known b_word b_joined b_many b_coefficients a b_component := by
      intro z hz
      subst hz
      refine And.intro (pk_in (p - 1) 4 (by omega) e1) (nm_r (e' := upd a (p - 1) (nI (C.getD (pm_t b_word i p) 0))) (by rw [e1, nI_clamp (by omega)]) ⟨vp_in_nI (by omega) (by omega), nm_r (e' := upd (upd a (p - 1) (nI (C.getD (pm_t b_word i p) 0))) p (nI (C.getD (pm_t b_word i (p - 1)) 0))) (by rw [nI_clamp (by omega)]) (nm_r (nI_1 i) (I _ (fun j hj => ?_)))⟩)
      rw [es]
      by_cases j1 : j = p
      · subst j1
        have : pm_sw j j = j - 1 := if_pos rfl
        rw [pk_us, this]
      · rw [pk_un j1]
        by_cases j2 : j = p - 1
        · subst j2
          have : pm_sw p (p - 1) = p := by unfold pm_sw; rw [if_neg j1, if_pos (by omega)]
          rw [pk_us, this]
        · have : pm_sw p j = j := by unfold pm_sw; rw [if_neg j1, if_neg (by omega)]
          rw [pk_un j2, this]
          exact H j hj
    rw [e1, nI_clamp (by omega), nI_clamp (by omega)]
    refine ⟨vp_in_nI (by omega) (by omega), nm_r x1 ⟨vp_in_nI (by omega) (by omega), nm_r y1 ?_⟩⟩
    generalize C.getD (pm_t b_word i (p - 1)) 0 = X at *
    generalize C.getD (pm_t b_word i p) 0 = Y at *
    have yes : ((X = A ∧ Y = B) ∨ (X = B ∧ Y = A)) → wY_linking_155 post (wY_linking_87 post (nI A) (nI B) g_n (nI c) g_known (d + 1)) (nI A) (nI B) (Int32.ofInt (pm_ls C A B b_word i)) (nI i) (nI p) (nI X) (nI Y) g_n (nI c) g_known b_word b_joined b_many b_coefficients a b_component := by
      intro hq
      refine And.intro (vp_in_nI (by omega) (by omega)) ?_
      rw [ew]
      refine bk_signY ?_
      refine nm_r (Int32.ofInt_add _ _).symm (c171 _ ?_)
      rw [hls, decide_eq_true hq, if_pos rfl]
    have no : ¬ ((X = A ∧ Y = B) ∨ (X = B ∧ Y = A)) → wY_linking_171 post (wY_linking_87 post (nI A) (nI B) g_n (nI c) g_known (d + 1)) (nI A) (nI B) (Int32.ofInt (pm_ls C A B b_word i)) (nI i) (nI p) (nI X) (nI Y) g_n (nI c) g_known b_word b_joined b_many b_coefficients a b_component := by
      intro hq
      refine c171 _ ?_
      rw [hls, decide_eq_false hq]
      exact (Int.add_zero _).symm
    have c142 : ¬ (X = A ∧ Y = B) → wY_linking_142 post (wY_linking_87 post (nI A) (nI B) g_n (nI c) g_known (d + 1)) (nI A) (nI B) (Int32.ofInt (pm_ls C A B b_word i)) (nI i) (nI p) (nI X) (nI Y) g_n (nI c) g_known b_word b_joined b_many b_coefficients a b_component := by
      intro hn
      unfold wY_linking_142
      refine pk_eq X B (fun z1 => pk_eq Y A (fun z2 => yes (Or.inr ⟨z1, z2⟩)) (fun z2 => no ?_)) (fun z1 => no ?_)
      · intro z; rcases z with z | z
        · exact hn z
        · exact z2 z.2
      · intro z; rcases z with z | z
        · exact hn z
        · exact z1 z.1
    exact pk_eq X A (fun z1 => pk_eq Y B (fun z2 => yes (Or.inl ⟨z1, z2⟩)) (fun z2 => c142 (fun z => z2 z.2))) (fun z1 => c142 (fun z => z1 z.1))
theorem pm_52 {post : Int32 → SY → Prop} {n c A B : Nat} {C : List Nat} (h4 : n ≤ 4) (hc : c ≤ 10) (hw : ∀ i, i < c → bk_L n (b_word i)) (hA : A < 4) (hB : B < 4) (H : ∀ j, j < n → b_component j = nI (C.getD j 0)) (HC : ∀ j, j < n → C.getD j 0 < 4) (P : ∀ co, post (Int32.ofInt (pm_ls C A B b_word c) / 2) (nI n, nI c, g_known, b_word, b_joined, b_many, b_coefficients, co, b_component)) :
    ∃ n52 : Nat, wY_linking_52 post (nI A) (nI B) (nI n) (nI c) g_known n52 0 b_word b_joined b_many b_coefficients b_colours b_component := by
  refine ⟨n - 0 + 1, ?_⟩
  refine bk_fill (W := fun m x a => wY_linking_52 post (nI A) (nI B) (nI n) (nI c) g_known m x b_word b_joined b_many b_coefficients a b_component) 0 n (by omega) b_component b_colours (fun m => ?_) ?_
  · refine br_t (nI_le (Nat.le_refl _) (by omega)) ⟨c + 1, pm_87 h4 hc hw hA hB HC P c 0 _ (by omega) (fun j hj => ?_)⟩
    rw [bk_ff_in (by omega) hj]
    exact H j hj
  · intro m x a h1 h2 h3 h4
    exact br_f (nI_ge (by omega) (by omega)) ⟨vp_in_nI (by omega) (by omega), vp_in_nI (by omega) (by omega), nm_r (e' := upd a x (b_component x)) (by rw [nI_clamp (by omega)]) (nm_r (nI_1 x) h4)⟩
end
end
section
-- linear equations modulo p: counting solutions column by column
def cl_P (p : Nat) : Prop := p = 2 ∨ p = 3 ∨ p = 5 ∨ p = 7
theorem cl_Pr {p : Nat} (h : cl_P p) : 2 ≤ p ∧ p ≤ 7 := by
  unfold cl_P at h
  omega
/-- a row, from column c on, m columns, at the digits of t -/
def cl_ev (p : Nat) (ρ : Nat → Int) : Nat → Nat → Nat → Int
  | 0, _, _ => 0
  | m + 1, c, t => ρ c * ((t % p : Nat) : Int) + cl_ev p ρ m (c + 1) (t / p)
theorem cl_lin {p : Nat} {ρ1 ρ2 ρ3 : Nat → Int} {α β : Int} : ∀ m c t, (∀ j, c ≤ j → j < c + m → (p : Int) ∣ ρ3 j - (α * ρ1 j + β * ρ2 j)) → (p : Int) ∣ cl_ev p ρ3 m c t - (α * cl_ev p ρ1 m c t + β * cl_ev p ρ2 m c t) := by
  intro m
  induction m with
  | zero =>
    intro c t _
    have : cl_ev p ρ3 0 c t - (α * cl_ev p ρ1 0 c t + β * cl_ev p ρ2 0 c t) = 0 := by
      show (0 : Int) - (α * 0 + β * 0) = 0
      rw [Int.mul_zero, Int.mul_zero]; rfl
    rw [this]
    exact Int.dvd_zero _
  | succ m ih =>
    intro c t h
    have h1 := h c (Nat.le_refl _) (by omega)
    have h2 := ih (c + 1) (t / p) (fun j hj hj2 => h j (by omega) (by omega))
    rw [cl_ev, cl_ev, cl_ev]
    generalize cl_ev p ρ1 m (c + 1) (t / p) = a at *
    generalize cl_ev p ρ2 m (c + 1) (t / p) = b at *
    generalize cl_ev p ρ3 m (c + 1) (t / p) = d at *
    generalize ((t % p : Nat) : Int) = x at *
    have e : ρ3 c * x + d - (α * (ρ1 c * x + a) + β * (ρ2 c * x + b)) = (ρ3 c - (α * ρ1 c + β * ρ2 c)) * x + (d - (α * a + β * b)) := by grind
    rw [e]
    exact Int.dvd_add (Int.dvd_mul_of_dvd_left h1) h2
theorem cl_congr {p : Nat} {ρ1 ρ3 : Nat → Int} (m c t : Nat) (h : ∀ j, c ≤ j → j < c + m → ρ3 j = ρ1 j) : cl_ev p ρ3 m c t = cl_ev p ρ1 m c t := by
  induction m generalizing c t with
  | zero => rfl
  | succ m ih => rw [cl_ev, cl_ev, h c (Nat.le_refl _) (by omega), ih (c + 1) (t / p) (fun j hj hj2 => h j (by omega) (by omega))]
/-- what is left of t behind q digits -/
def cl_r (p t : Nat) : Nat → Nat
  | 0 => t
  | q + 1 => cl_r p t q / p
theorem cl_rs (p t : Nat) : ∀ q, cl_r p (t / p) q = cl_r p t (q + 1) := by
  intro q
  induction q with
  | zero => rfl
  | succ q ih => rw [cl_r, ih]; rfl
theorem cl_unit {p : Nat} : ∀ m c t q, c ≤ q → q < c + m → cl_ev p (fun j => if j = q then 1 else 0) m c t = ((cl_r p t (q - c) % p : Nat) : Int) := by
  intro m
  induction m with
  | zero => intro c t q h1 h2; omega
  | succ m ih =>
    intro c t q h1 h2
    rw [cl_ev]
    by_cases e : c = q
    · subst e
      rw [if_pos rfl, Int.one_mul, Nat.sub_self]
      have z : cl_ev p (fun j => if j = c then 1 else 0) m (c + 1) (t / p) = cl_ev p (fun _ => 0) m (c + 1) (t / p) := cl_congr m (c + 1) (t / p) (fun j hj _ => if_neg (by omega))
      have z0 : ∀ m c t, cl_ev p (fun _ => 0) m c t = 0 := by
        intro m
        induction m with
        | zero => intro c t; rfl
        | succ m ih => intro c t; rw [cl_ev, ih, Int.zero_mul]; rfl
      rw [z, z0, Int.add_zero]
      rfl
    · rw [if_neg e, Int.zero_mul, Int.zero_add, ih (c + 1) (t / p) q (by omega) (by omega), cl_rs]
      congr 3; omega
def cl_cnt (f : Nat → Bool) : Nat → Nat
  | 0 => 0
  | n + 1 => cl_cnt f n + (if f n = true then 1 else 0)
theorem cl_cntc {f g : Nat → Bool} : ∀ n, (∀ i, i < n → f i = g i) → cl_cnt f n = cl_cnt g n := by
  intro n
  induction n with
  | zero => intro _; rfl
  | succ n ih => intro h; rw [cl_cnt, cl_cnt, ih (fun i hi => h i (by omega)), h n (by omega)]
theorem cl_cnta (f : Nat → Bool) (a : Nat) : ∀ b, cl_cnt f (a + b) = cl_cnt f a + cl_cnt (fun i => f (a + i)) b := by
  intro b
  induction b with
  | zero => rfl
  | succ b ih => rw [← Nat.add_assoc, cl_cnt, cl_cnt, ih]; omega
theorem cl_cnt1 {f : Nat → Bool} : ∀ n, (∀ i, i < n → f i = true) → cl_cnt f n = n := by
  intro n
  induction n with
  | zero => intro _; rfl
  | succ n ih => intro h; rw [cl_cnt, ih (fun i hi => h i (by omega)), h n (by omega)]; rfl
theorem cl_cnt0 {f : Nat → Bool} : ∀ n, (∀ i, i < n → f i = false) → cl_cnt f n = 0 := by
  intro n
  induction n with
  | zero => intro _; rfl
  | succ n ih => intro h; rw [cl_cnt, ih (fun i hi => h i (by omega)), h n (by omega)]; rfl
theorem cl_free {f g : Nat → Bool} {p : Nat} : ∀ M, (∀ t x, t < M → x < p → f (p * t + x) = g t) → cl_cnt f (p * M) = p * cl_cnt g M := by
  intro M
  induction M with
  | zero => intro _; rfl
  | succ M ih =>
    intro h
    rw [Nat.mul_succ, cl_cnta, ih (fun t x ht hx => h t x (by omega) hx), cl_cnt, Nat.mul_add]
    congr 1
    cases e : g M with
    | false => rw [cl_cnt0 p (fun x hx => by rw [h M x (by omega) hx]; exact e), if_neg (by decide), Nat.mul_zero]
    | true => rw [cl_cnt1 p (fun x hx => by rw [h M x (by omega) hx]; exact e), if_pos rfl, Nat.mul_one]
theorem cl_piv {f g : Nat → Bool} {p : Nat} : ∀ M, (∀ t, t < M → cl_cnt (fun x => f (p * t + x)) p = if g t = true then 1 else 0) → cl_cnt f (p * M) = cl_cnt g M := by
  intro M
  induction M with
  | zero => intro _; rfl
  | succ M ih =>
    intro h
    rw [Nat.mul_succ, cl_cnta, ih (fun t ht => h t (by omega)), cl_cnt, h M (by omega)]
theorem cl_one2 : ∀ a : Nat, a < 2 → 1 ≤ a → ∀ g : Nat, g < 2 → cl_cnt (fun x => decide (((a : Int) * (x : Int) + (g : Int)) % ((2 : Nat) : Int) = 0)) 2 = 1 := by decide +kernel
theorem cl_one3 : ∀ a : Nat, a < 3 → 1 ≤ a → ∀ g : Nat, g < 3 → cl_cnt (fun x => decide (((a : Int) * (x : Int) + (g : Int)) % ((3 : Nat) : Int) = 0)) 3 = 1 := by decide +kernel
theorem cl_one5 : ∀ a : Nat, a < 5 → 1 ≤ a → ∀ g : Nat, g < 5 → cl_cnt (fun x => decide (((a : Int) * (x : Int) + (g : Int)) % ((5 : Nat) : Int) = 0)) 5 = 1 := by decide +kernel
theorem cl_one7 : ∀ a : Nat, a < 7 → 1 ≤ a → ∀ g : Nat, g < 7 → cl_cnt (fun x => decide (((a : Int) * (x : Int) + (g : Int)) % ((7 : Nat) : Int) = 0)) 7 = 1 := by decide +kernel
theorem cl_one {p a : Nat} (hp : cl_P p) (ha : a < p) (ha1 : 1 ≤ a) (G : Int) : cl_cnt (fun x => decide (((a : Int) * (x : Int) + G) % (p : Int) = 0)) p = 1 := by
  have hr := cl_Pr hp
  have h0 : 0 ≤ G % (p : Int) := Int.emod_nonneg _ (by omega)
  have h1 : G % (p : Int) < p := Int.emod_lt_of_pos _ (by omega)
  obtain ⟨g, hg⟩ : ∃ g : Nat, (g : Int) = G % (p : Int) := ⟨(G % (p : Int)).toNat, by omega⟩
  have e : (fun x : Nat => decide (((a : Int) * (x : Int) + G) % (p : Int) = 0)) = (fun x : Nat => decide (((a : Int) * (x : Int) + (g : Int)) % (p : Int) = 0)) := by
    funext x
    rw [hg, Int.add_emod_emod]
  rw [e]
  have hg2 : g < p := by omega
  unfold cl_P at hp
  rcases hp with rfl | rfl | rfl | rfl
  · exact cl_one2 a ha ha1 g hg2
  · exact cl_one3 a ha ha1 g hg2
  · exact cl_one5 a ha ha1 g hg2
  · exact cl_one7 a ha ha1 g hg2
/-- all rows from r on hold at the digits of t, from column c on -/
def cl_Q (n p : Nat) (M : Nat → Nat → Nat) (r c t : Nat) : Bool := (List.range n).all fun q => decide (q < r) || decide (cl_ev p (fun j => (M q j : Int)) (n - c) c t % (p : Int) = 0)
theorem cl_Qi {n p : Nat} {M : Nat → Nat → Nat} {r c t : Nat} : cl_Q n p M r c t = true ↔ ∀ q, r ≤ q → q < n → (p : Int) ∣ cl_ev p (fun j => (M q j : Int)) (n - c) c t := by
  unfold cl_Q
  rw [List.all_eq_true]
  constructor
  · intro h q h1 h2
    have := h q (List.mem_range.mpr h2)
    rw [decide_eq_false (by omega), Bool.false_or] at this
    exact Int.dvd_of_emod_eq_zero (of_decide_eq_true this)
  · intro h q hq
    have hq := List.mem_range.mp hq
    by_cases e : q < r
    · rw [decide_eq_true e]; rfl
    · rw [decide_eq_false e, Bool.false_or]
      exact decide_eq_true (Int.emod_eq_zero_of_dvd (h q (by omega) hq))
theorem cl_Qe {n p : Nat} {M M' : Nat → Nat → Nat} {r r' c c' t t' : Nat} (h : (∀ q, r ≤ q → q < n → (p : Int) ∣ cl_ev p (fun j => (M q j : Int)) (n - c) c t) ↔ (∀ q, r' ≤ q → q < n → (p : Int) ∣ cl_ev p (fun j => (M' q j : Int)) (n - c') c' t')) : cl_Q n p M r c t = cl_Q n p M' r' c' t' := by
  rw [Bool.eq_iff_iff, cl_Qi, cl_Qi]
  exact h
def cl_N (n p : Nat) (M : Nat → Nat → Nat) (r c : Nat) : Nat := cl_cnt (cl_Q n p M r c) (p ^ (n - c))
theorem cl_Nn {n p : Nat} {M : Nat → Nat → Nat} {r : Nat} : cl_N n p M r n = 1 := by
  unfold cl_N
  rw [Nat.sub_self]
  show 0 + (if cl_Q n p M r n 0 = true then 1 else 0) = 1
  rw [if_pos]
  rw [cl_Qi]
  intro q _ _
  rw [Nat.sub_self]
  exact Int.dvd_zero _
theorem cl_dig {p t x : Nat} (hx : x < p) : (p * t + x) % p = x ∧ (p * t + x) / p = t := by
  constructor
  · rw [Nat.mul_add_mod]; exact Nat.mod_eq_of_lt hx
  · rw [Nat.mul_add_div (by omega), Nat.div_eq_of_lt hx]; rfl
theorem cl_N0 {n p : Nat} {M : Nat → Nat → Nat} {r c : Nat} (hc : c < n) (h : ∀ q, r ≤ q → q < n → M q c = 0) : cl_N n p M r c = p * cl_N n p M r (c + 1) := by
  unfold cl_N
  obtain ⟨m, hm⟩ : ∃ m, n - c = m + 1 := ⟨n - c - 1, by omega⟩
  have hm2 : n - (c + 1) = m := by omega
  rw [hm, hm2, Nat.pow_succ, Nat.mul_comm]
  refine cl_free _ (fun t x ht hx => cl_Qe ?_)
  obtain ⟨d1, d2⟩ := cl_dig (t := t) hx
  constructor
  · intro H q h1 h2
    have := H q h1 h2
    rw [hm, cl_ev, d1, d2, h q h1 h2, Int.natCast_zero, Int.zero_mul, Int.zero_add] at this
    rw [hm2]
    exact this
  · intro H q h1 h2
    have := H q h1 h2
    rw [hm2] at this
    rw [hm, cl_ev, d1, d2, h q h1 h2, Int.natCast_zero, Int.zero_mul, Int.zero_add]
    exact this
theorem cl_N1 {n p : Nat} {M : Nat → Nat → Nat} {r c : Nat} (hp : cl_P p) (hc : c < n) (hr : r < n) (h1 : 1 ≤ M r c) (h2 : M r c < p) (h : ∀ q, r < q → q < n → M q c = 0) : cl_N n p M r c = cl_N n p M (r + 1) (c + 1) := by
  unfold cl_N
  obtain ⟨m, hm⟩ : ∃ m, n - c = m + 1 := ⟨n - c - 1, by omega⟩
  have hm2 : n - (c + 1) = m := by omega
  rw [hm, hm2, Nat.pow_succ, Nat.mul_comm]
  refine cl_piv _ (fun t ht => ?_)
  have key : ∀ x, x < p → cl_Q n p M r c (p * t + x) = (decide (((M r c : Int) * (x : Int) + cl_ev p (fun j => (M r j : Int)) m (c + 1) t) % (p : Int) = 0) && cl_Q n p M (r + 1) (c + 1) t) := by
    intro x hx
    obtain ⟨d1, d2⟩ := cl_dig (t := t) hx
    rw [Bool.eq_iff_iff, Bool.and_eq_true, cl_Qi, cl_Qi, decide_eq_true_eq, hm, hm2]
    constructor
    · intro H
      refine ⟨?_, fun q a b => ?_⟩
      · have := H r (Nat.le_refl _) hr
        rw [cl_ev, d1, d2] at this
        exact Int.emod_eq_zero_of_dvd this
      · have := H q (by omega) b
        rw [cl_ev, d1, d2, h q (by omega) b, Int.natCast_zero, Int.zero_mul, Int.zero_add] at this
        exact this
    · intro H q a b
      rw [cl_ev, d1, d2]
      by_cases e : q = r
      · subst e
        exact Int.dvd_of_emod_eq_zero H.1
      · rw [h q (by omega) b, Int.natCast_zero, Int.zero_mul, Int.zero_add]
        exact H.2 q (by omega) b
  rw [cl_cntc p key]
  cases e : cl_Q n p M (r + 1) (c + 1) t with
  | false => rw [cl_cnt0 p (fun x _ => Bool.and_false _)]; rfl
  | true =>
    rw [cl_cntc (g := fun x => decide (((M r c : Int) * (x : Int) + cl_ev p (fun j => (M r j : Int)) m (c + 1) t) % (p : Int) = 0)) p (fun x _ => Bool.and_true _), cl_one hp h2 h1]
    rfl
theorem cl_Neq {n p : Nat} {M M' : Nat → Nat → Nat} {r c : Nat} (h : ∀ t, ((∀ q, r ≤ q → q < n → (p : Int) ∣ cl_ev p (fun j => (M q j : Int)) (n - c) c t) ↔ (∀ q, r ≤ q → q < n → (p : Int) ∣ cl_ev p (fun j => (M' q j : Int)) (n - c) c t))) : cl_N n p M r c = cl_N n p M' r c :=
  cl_cntc _ (fun t _ => cl_Qe (h t))
theorem cl_Nsw {n p : Nat} {M M' : Nat → Nat → Nat} {r s c : Nat} (hrs : r ≤ s) (hs : s < n) (h1 : ∀ j, j < n → M' r j = M s j) (h2 : ∀ j, j < n → M' s j = M r j) (h3 : ∀ q j, q < n → q ≠ r → q ≠ s → j < n → M' q j = M q j) (hc : c ≤ n) : cl_N n p M r c = cl_N n p M' r c := by
  refine cl_Neq (fun t => ?_)
  have e1 : cl_ev p (fun j => (M' r j : Int)) (n - c) c t = cl_ev p (fun j => (M s j : Int)) (n - c) c t := cl_congr _ _ _ (fun j a b => by rw [h1 j (by omega)])
  have e2 : cl_ev p (fun j => (M' s j : Int)) (n - c) c t = cl_ev p (fun j => (M r j : Int)) (n - c) c t := cl_congr _ _ _ (fun j a b => by rw [h2 j (by omega)])
  have e3 : ∀ q, q < n → q ≠ r → q ≠ s → cl_ev p (fun j => (M' q j : Int)) (n - c) c t = cl_ev p (fun j => (M q j : Int)) (n - c) c t := fun q a b d => cl_congr _ _ _ (fun j x y => by rw [h3 q j a b d (by omega)])
  constructor
  · intro H q a b
    by_cases q1 : q = r
    · subst q1; rw [e1]; exact H s hrs hs
    · by_cases q2 : q = s
      · subst q2; rw [e2]; exact H r (Nat.le_refl _) (by omega)
      · rw [e3 q b q1 q2]; exact H q a b
  · intro H q a b
    by_cases q1 : q = r
    · subst q1; rw [← e2]; exact H s hrs hs
    · by_cases q2 : q = s
      · subst q2; rw [← e1]; exact H r (Nat.le_refl _) (by omega)
      · rw [← e3 q b q1 q2]; exact H q a b
theorem cl_Ncl {n p : Nat} {M M' : Nat → Nat → Nat} {r c : Nat} {τ : Nat → Int} (hr : r < n) (h1 : ∀ j, j < n → M' r j = M r j) (h3 : ∀ q j, r < q → q < n → j < n → (p : Int) ∣ (M' q j : Int) - (1 * (M q j : Int) + -τ q * (M r j : Int))) (hc : c ≤ n) : cl_N n p M r c = cl_N n p M' r c := by
  refine cl_Neq (fun t => ?_)
  have e1 : cl_ev p (fun j => (M' r j : Int)) (n - c) c t = cl_ev p (fun j => (M r j : Int)) (n - c) c t := cl_congr _ _ _ (fun j a b => by rw [h1 j (by omega)])
  have e2 : ∀ q, r < q → q < n → (p : Int) ∣ cl_ev p (fun j => (M' q j : Int)) (n - c) c t - (1 * cl_ev p (fun j => (M q j : Int)) (n - c) c t + -τ q * cl_ev p (fun j => (M r j : Int)) (n - c) c t) := fun q a b => cl_lin (ρ1 := fun j => (M q j : Int)) (ρ2 := fun j => (M r j : Int)) (ρ3 := fun j => (M' q j : Int)) _ _ _ (fun j x y => h3 q j a b (by omega))
  constructor
  · intro H q a b
    by_cases q1 : q = r
    · subst q1; rw [e1]; exact H _ (Nat.le_refl _) b
    · have x := e2 q (by omega) b
      have y := H q a b
      have z := H r (Nat.le_refl _) hr
      have w : (p : Int) ∣ 1 * cl_ev p (fun j => (M q j : Int)) (n - c) c t + -τ q * cl_ev p (fun j => (M r j : Int)) (n - c) c t := Int.dvd_add (Int.dvd_mul_of_dvd_right y) (Int.dvd_mul_of_dvd_right z)
      have := Int.dvd_add x w
      rw [Int.sub_add_cancel] at this
      exact this
  · intro H q a b
    by_cases q1 : q = r
    · subst q1; rw [← e1]; exact H _ (Nat.le_refl _) b
    · have x := e2 q (by omega) b
      have y := H q a b
      have z := H r (Nat.le_refl _) hr
      rw [e1] at z
      have w := Int.dvd_sub (Int.dvd_sub y x) (Int.dvd_mul_of_dvd_right (b := -τ q) z)
      have e : cl_ev p (fun j => (M' q j : Int)) (n - c) c t - (cl_ev p (fun j => (M' q j : Int)) (n - c) c t - (1 * cl_ev p (fun j => (M q j : Int)) (n - c) c t + -τ q * cl_ev p (fun j => (M r j : Int)) (n - c) c t)) - -τ q * cl_ev p (fun j => (M r j : Int)) (n - c) c t = cl_ev p (fun j => (M q j : Int)) (n - c) c t := by
        generalize cl_ev p (fun j => (M' q j : Int)) (n - c) c t = A
        generalize cl_ev p (fun j => (M q j : Int)) (n - c) c t = B
        generalize -τ q * cl_ev p (fun j => (M r j : Int)) (n - c) c t = C
        omega
      rw [e] at w
      exact w
end
section
-- colourings: the component's matrix
def cl_rf (v p : Int32) : Int32 := if 0 ≤ v - v / p * p then v - v / p * p else v - v / p * p + p
theorem cl_rd2 : ∀ k : Nat, k < 121 → cl_rf (Int32.ofInt ((k : Int) - 60)) (nI 2) = nI (((k : Int) - 60) % ((2 : Nat) : Int)).toNat := by decide +kernel
theorem cl_rd3 : ∀ k : Nat, k < 121 → cl_rf (Int32.ofInt ((k : Int) - 60)) (nI 3) = nI (((k : Int) - 60) % ((3 : Nat) : Int)).toNat := by decide +kernel
theorem cl_rd5 : ∀ k : Nat, k < 121 → cl_rf (Int32.ofInt ((k : Int) - 60)) (nI 5) = nI (((k : Int) - 60) % ((5 : Nat) : Int)).toNat := by decide +kernel
theorem cl_rd7 : ∀ k : Nat, k < 121 → cl_rf (Int32.ofInt ((k : Int) - 60)) (nI 7) = nI (((k : Int) - 60) % ((7 : Nat) : Int)).toNat := by decide +kernel
theorem cl_rd {p : Nat} {z : Int} (hp : cl_P p) (h1 : -60 ≤ z) (h2 : z ≤ 60) : cl_rf (Int32.ofInt z) (nI p) = nI (z % (p : Int)).toNat := by
  obtain ⟨k, hk⟩ : ∃ k : Nat, (k : Int) - 60 = z := ⟨(z + 60).toNat, by omega⟩
  rw [← hk]
  unfold cl_P at hp
  rcases hp with rfl | rfl | rfl | rfl
  · exact cl_rd2 k (by omega)
  · exact cl_rd3 k (by omega)
  · exact cl_rd5 k (by omega)
  · exact cl_rd7 k (by omega)
theorem cl_mlt {p : Nat} (hp : cl_P p) (z : Int) : (z % (p : Int)).toNat < p := by
  have hr := cl_Pr hp
  have h0 : 0 ≤ z % (p : Int) := Int.emod_nonneg _ (by omega)
  have h1 : z % (p : Int) < p := Int.emod_lt_of_pos _ (by omega)
  omega
/-- a 4 by 4 matrix of residues in the array -/
def cl_M (p : Nat) (a : Nat → Int32) (M : Nat → Nat → Nat) : Prop := ∀ q j, q < 4 → j < 4 → a (4 * q + j) = nI (M q j) ∧ M q j < p
theorem cl_Mc {p : Nat} {a : Nat → Int32} {M M' : Nat → Nat → Nat} (h : cl_M p a M) (e : ∀ q j, q < 4 → j < 4 → M' q j = M q j) : cl_M p a M' := by
  intro q j hq hj
  rw [e q j hq hj]
  exact h q j hq hj
theorem cl_Mu {p : Nat} {a : Nat → Int32} {M : Nat → Nat → Nat} {q0 j0 v x : Nat} (h : cl_M p a M) (hx : x = 4 * q0 + j0) (hj0 : j0 < 4) (hv : v < p) : cl_M p (upd a x (nI v)) (fun q j => if q = q0 ∧ j = j0 then v else M q j) := by
  intro q j hq hj
  dsimp only
  by_cases e : q = q0 ∧ j = j0
  · rw [if_pos e]
    have : 4 * q + j = x := by omega
    rw [this, pk_us]
    exact ⟨rfl, hv⟩
  · rw [if_neg e, pk_un (by omega)]
    exact h q j hq hj
def cl_st (p : Nat) (x : Int32) (f : Nat → Nat) (q : Nat) : Nat :=
  if 0 ≤ x then (if q = bk_p x then f (bk_p x - 1) else if q + 1 = bk_p x then ((2 * (f (bk_p x - 1) : Int) - (f (bk_p x) : Int)) % (p : Int)).toNat else f q)
  else (if q + 1 = bk_p x then f (bk_p x) else if q = bk_p x then ((2 * (f (bk_p x) : Int) - (f (bk_p x - 1) : Int)) % (p : Int)).toNat else f q)
section
variable {f_strands f_count f_joinings f_known : Int32} {a_word a_partner a_work a_shut a_closes a_closed a_seen a_power a_next a_result a_scaled a_many a_later a_tally a_matrix a_track a_component : Nat → Int32}
theorem cl_red {post : Int32 → Prop} {p : Nat} {z : Int} {v : Int32} (hp : cl_P p) (hv : v = Int32.ofInt z) (h1 : -60 ≤ z) (h2 : z ≤ 60) (P : post (nI (z % (p : Int)).toNat)) : wpX_reduce post (f_strands, f_count, f_joinings, f_known, a_word, a_partner, a_work, a_shut, a_closes, a_closed, a_seen, a_power, a_next, a_result, a_scaled, a_many, a_later, a_tally, a_matrix, a_track, a_component) v (nI p) := by
  have hr := cl_Pr hp
  subst hv
  rw [← cl_rd hp h1 h2] at P
  unfold cl_rf at P
  refine And.intro (nI_ne0 (by omega) (by omega)) (nm_e (br_c (fun q => ?_) (fun q => ?_)))
  · rw [if_pos q] at P; exact P
  · rw [if_neg q] at P; exact P
theorem cl_cross {post : SX → Prop} {n p : Nat} {x : Int32} {M : Nat → Nat → Nat} (h4 : n ≤ 4) (hp : cl_P p) (hx : bk_L n x) (H : cl_M p a_matrix M) (K : ∀ a, cl_M p a (fun q j => if j < n then cl_st p x (fun q => M q j) q else M q j) → post (nI n, f_count, f_joinings, f_known, a_word, a_partner, a_work, a_shut, a_closes, a_closed, a_seen, a_power, a_next, a_result, a_scaled, a_many, a_later, a_tally, a, a_track, a_component)) : wpX_crossRows post (nI n, f_count, f_joinings, f_known, a_word, a_partner, a_work, a_shut, a_closes, a_closed, a_seen, a_power, a_next, a_result, a_scaled, a_many, a_later, a_tally, a_matrix, a_track, a_component) x (nI p) := by
  obtain ⟨p1, p2⟩ := bk_Lp hx h4
  have hr := cl_Pr hp
  have h6 := bk_L6 hx h4
  unfold wpX_crossRows
  refine bk_posX hx h4 ?_
  have L : ∀ d c a, c + d = n → cl_M p a (fun q j => if j < c then cl_st p x (fun q => M q j) q else M q j) → wX_crossRows_9 post x (nI p) (nI (bk_p x)) (nI n) f_count f_joinings f_known (d + 1) (nI c) a_word a_partner a_work a_shut a_closes a_closed a_seen a_power a_next a_result a_scaled a_many a_later a_tally a a_track a_component := by
    intro d
    induction d with
    | zero =>
      intro c a h HA
      have : c = n := by omega
      subst this
      exact br_t (nI_le (Nat.le_refl _) (by omega)) (K a HA)
    | succ d ih =>
      intro c a h HA
      have I := fun a1 h1 => ih (c + 1) a1 (by omega) h1
      have hst : ∀ q, cl_st p x (fun q => M q c) q = if 0 ≤ x then (if q = bk_p x then M (bk_p x - 1) c else if q + 1 = bk_p x then ((2 * (M (bk_p x - 1) c : Int) - (M (bk_p x) c : Int)) % (p : Int)).toNat else M q c) else (if q + 1 = bk_p x then M (bk_p x) c else if q = bk_p x then ((2 * (M (bk_p x) c : Int) - (M (bk_p x - 1) c : Int)) % (p : Int)).toNat else M q c) := fun q => rfl
      obtain ⟨u1, u2⟩ := HA (bk_p x - 1) c (by omega) (by omega)
      obtain ⟨v1, v2⟩ := HA (bk_p x) c (by omega) (by omega)
      dsimp only at u1 u2 v1 v2
      rw [if_neg (Nat.lt_irrefl c)] at u1 u2 v1 v2
      generalize hP : bk_p x = P at *
      have e1 : nI P - 1 = nI (P - 1) := bk_s1 p1
      have e2 : (4 : Int32) * nI (P - 1) + nI c = nI (4 * (P - 1) + c) := bk_ix 4 (P - 1) c
      have e3 : (4 : Int32) * nI P + nI c = nI (4 * P + c) := bk_ix 4 P c
      refine br_f (nI_ge (by omega) (by omega)) ?_
      rw [e1, e2, e3, nI_clamp (by omega), nI_clamp (by omega)]
      refine ⟨vp_in_nI (by omega) (by omega), nm_r u1 ⟨vp_in_nI (by omega) (by omega), nm_r v1 ?_⟩⟩
      generalize hA0 : M (P - 1) c = A0 at *
      generalize hB0 : M P c = B0 at *
      rcases h6 with ⟨g0, g1, -, -⟩ | ⟨g0, g1, -, -⟩
      · refine br_f g1 ⟨vp_in_nI (by omega) (by omega), nm_r (e' := upd a (4 * P + c) (nI A0)) (by rw [bk_nbb (by omega)]) (cl_red (z := 2 * (A0 : Int) - (B0 : Int)) hp ?_ (by omega) (by omega) ?_)⟩
        · rw [Int32.ofInt_sub, Int32.ofInt_mul, bk_oN, bk_oN]; rfl
        · have hm := cl_mlt hp (2 * (A0 : Int) - (B0 : Int))
          refine ⟨vp_in_nI (by omega) (by omega), nm_r (e' := upd (upd a (4 * P + c) (nI A0)) (4 * (P - 1) + c) (nI ((2 * (A0 : Int) - (B0 : Int)) % (p : Int)).toNat)) (by rw [bk_nbb (by omega)]) (nm_r (nI_1 c) (I _ ?_))⟩
          refine cl_Mc (cl_Mu (cl_Mu HA rfl (by omega) u2) rfl (by omega) hm) (fun q j hq hj => ?_)
          by_cases j1 : j = c
          · subst j1
            rw [if_pos (by omega), hst, if_pos g0]
            by_cases q1 : q = P
            · rw [if_pos q1, if_neg (by omega), if_pos ⟨q1, rfl⟩]
            · rw [if_neg q1]
              by_cases q2 : q + 1 = P
              · rw [if_pos q2, if_pos ⟨by omega, rfl⟩]
              · rw [if_neg q2, if_neg (by omega), if_neg (fun z => q1 z.1), if_neg (by omega)]
          · rw [if_neg (fun z => j1 z.2 : ¬ (q = P - 1 ∧ j = c)), if_neg (fun z => j1 z.2 : ¬ (q = P ∧ j = c))]
            by_cases j2 : j < c
            · rw [if_pos j2, if_pos (by omega)]
            · rw [if_neg j2, if_neg (by omega)]
      · refine br_t g1 ⟨vp_in_nI (by omega) (by omega), nm_r (e' := upd a (4 * (P - 1) + c) (nI B0)) (by rw [bk_nbb (by omega)]) (cl_red (z := 2 * (B0 : Int) - (A0 : Int)) hp ?_ (by omega) (by omega) ?_)⟩
        · rw [Int32.ofInt_sub, Int32.ofInt_mul, bk_oN, bk_oN]; rfl
        · have hm := cl_mlt hp (2 * (B0 : Int) - (A0 : Int))
          refine ⟨vp_in_nI (by omega) (by omega), nm_r (e' := upd (upd a (4 * (P - 1) + c) (nI B0)) (4 * P + c) (nI ((2 * (B0 : Int) - (A0 : Int)) % (p : Int)).toNat)) (by rw [bk_nbb (by omega)]) (nm_r (nI_1 c) (I _ ?_))⟩
          refine cl_Mc (cl_Mu (cl_Mu HA rfl (by omega) v2) rfl (by omega) hm) (fun q j hq hj => ?_)
          by_cases j1 : j = c
          · subst j1
            rw [if_pos (by omega), hst, if_neg g0]
            by_cases q2 : q + 1 = P
            · rw [if_pos q2, if_neg (by omega), if_pos ⟨by omega, rfl⟩]
            · rw [if_neg q2]
              by_cases q1 : q = P
              · rw [if_pos q1, if_pos ⟨q1, rfl⟩]
              · rw [if_neg q1, if_neg (fun z => q1 z.1), if_neg (by omega), if_neg (by omega)]
          · rw [if_neg (fun z => j1 z.2 : ¬ (q = P ∧ j = c)), if_neg (fun z => j1 z.2 : ¬ (q = P - 1 ∧ j = c))]
            by_cases j2 : j < c
            · rw [if_pos j2, if_pos (by omega)]
            · rw [if_neg j2, if_neg (by omega)]
  exact ⟨n + 1, L n 0 a_matrix (by omega) (cl_Mc H (fun q j _ _ => if_neg (by omega)))⟩
theorem cl_swap {post : SX → Prop} {p r s : Nat} {M : Nat → Nat → Nat} (hp : p ≤ 7) (hr : r < 4) (hs : s < 4) (H : cl_M p a_matrix M) (K : ∀ a, cl_M p a (fun q j => if q = r then M s j else if q = s then M r j else M q j) → post (f_strands, f_count, f_joinings, f_known, a_word, a_partner, a_work, a_shut, a_closes, a_closed, a_seen, a_power, a_next, a_result, a_scaled, a_many, a_later, a_tally, a, a_track, a_component)) : wpX_swapRows post (f_strands, f_count, f_joinings, f_known, a_word, a_partner, a_work, a_shut, a_closes, a_closed, a_seen, a_power, a_next, a_result, a_scaled, a_many, a_later, a_tally, a_matrix, a_track, a_component) (nI r) (nI s) := by
  have L : ∀ d c a, c + d = 4 → cl_M p a (fun q j => if j < c then (if q = r then M s j else if q = s then M r j else M q j) else M q j) → wX_swapRows_2 post (nI r) (nI s) f_strands f_count f_joinings f_known (d + 1) (nI c) a_word a_partner a_work a_shut a_closes a_closed a_seen a_power a_next a_result a_scaled a_many a_later a_tally a a_track a_component := by
    intro d
    induction d with
    | zero =>
      intro c a h HA
      have : c = 4 := by omega
      subst this
      exact br_t (by decide) (K a (cl_Mc HA (fun q j hq hj => (if_pos hj).symm)))
    | succ d ih =>
      intro c a h HA
      have I := fun a1 h1 => ih (c + 1) a1 (by omega) h1
      obtain ⟨u1, u2⟩ := HA r c hr (by omega)
      obtain ⟨v1, v2⟩ := HA s c hs (by omega)
      dsimp only at u1 u2 v1 v2
      rw [if_neg (Nat.lt_irrefl c)] at u1 u2 v1 v2
      have e2 : (4 : Int32) * nI r + nI c = nI (4 * r + c) := bk_ix 4 r c
      have e3 : (4 : Int32) * nI s + nI c = nI (4 * s + c) := bk_ix 4 s c
      refine br_f (nI_ge (b := 4) (by omega) (by omega)) ?_
      rw [e2, e3, nI_clamp (by omega), nI_clamp (by omega)]
      refine ⟨vp_in_nI (by omega) (by omega), nm_r u1 ⟨vp_in_nI (by omega) (by omega), vp_in_nI (by omega) (by omega), nm_r (e' := upd a (4 * r + c) (nI (M s c))) (by rw [v1, bk_nb (by omega)]) ⟨vp_in_nI (by omega) (by omega), nm_r (e' := upd (upd a (4 * r + c) (nI (M s c))) (4 * s + c) (nI (M r c))) (by rw [bk_nb (by omega)]) (nm_r (nI_1 c) (I _ ?_))⟩⟩⟩
      refine cl_Mc (cl_Mu (cl_Mu HA rfl (by omega) v2) rfl (by omega) u2) (fun q j hq hj => ?_)
      by_cases j1 : j = c
      · subst j1
        rw [if_pos (by omega)]
        by_cases q1 : q = r
        · rw [if_pos q1]
          by_cases q2 : q = s
          · rw [if_pos ⟨q2, rfl⟩, ← q1, ← q2]
          · rw [if_neg (fun z => q2 z.1), if_pos ⟨q1, rfl⟩]
        · rw [if_neg q1]
          by_cases q2 : q = s
          · rw [if_pos q2, if_pos ⟨q2, rfl⟩]
          · rw [if_neg q2, if_neg (fun z => q2 z.1), if_neg (fun z => q1 z.1), if_neg (by omega)]
      · rw [if_neg (fun z => j1 z.2 : ¬ (q = s ∧ j = c)), if_neg (fun z => j1 z.2 : ¬ (q = r ∧ j = c))]
        by_cases j2 : j < c
        · rw [if_pos j2, if_pos (by omega)]
        · rw [if_neg j2, if_neg (by omega)]
  exact ⟨5, L 4 0 a_matrix rfl (cl_Mc H (fun q j _ _ => if_neg (by omega)))⟩
theorem cl_inv {post : Int32 → Prop} {p a u : Nat} (hp : cl_P p) (ha : a < p) (hu1 : 1 ≤ u) (hu : u < p) (h1 : a * u % p = 1) (h2 : ∀ e, 1 ≤ e → e < u → ¬ a * e % p = 1) (P : post (nI u)) : wpX_inverse post (f_strands, f_count, f_joinings, f_known, a_word, a_partner, a_work, a_shut, a_closes, a_closed, a_seen, a_power, a_next, a_result, a_scaled, a_many, a_later, a_tally, a_matrix, a_track, a_component) (nI a) (nI p) := by
  have hr := cl_Pr hp
  have L : ∀ d e, e + d = u → 1 ≤ e → wX_inverse_2 post (nI a) (nI p) f_strands f_count f_joinings f_known a_word a_partner a_work a_shut a_closes a_closed a_seen a_power a_next a_result a_scaled a_many a_later a_tally a_matrix a_track a_component (d + 1) (nI e) := by
    intro d
    induction d with
    | zero =>
      intro e h he
      have : e = u := by omega
      subst this
      have hb : a * e ≤ 7 * 7 := Nat.mul_le_mul (by omega) (by omega)
      refine br_f (nI_ge hu (by omega)) ⟨nI_ne0 (by omega) (by omega), br_t ?_ P⟩
      rw [pk_mul, pk_rem (by omega) (by omega) (by omega), h1]
      rfl
    | succ d ih =>
      intro e h he
      have hb : a * e ≤ 7 * 7 := Nat.mul_le_mul (by omega) (by omega)
      refine br_f (nI_ge (by omega) (by omega)) ⟨nI_ne0 (by omega) (by omega), br_f ?_ (nm_r (nI_1 e) (ih (e + 1) (by omega) (by omega)))⟩
      rw [pk_mul, pk_rem (by omega) (by omega) (by omega)]
      intro z
      have hm : a * e % p < p := Nat.mod_lt _ (by omega)
      exact h2 e he (by omega) ((nI_eq (b := 1) (by omega) (by omega)).mp z)
  exact ⟨_, L (u - 1) 1 (by omega) (by omega)⟩
end
end
section
-- colourings: rank
theorem cl_ui2 : ∀ a, a < 2 → 1 ≤ a → ∃ u, u < 2 ∧ (1 ≤ u ∧ a * u % 2 = 1) := by decide +kernel
theorem cl_ui3 : ∀ a, a < 3 → 1 ≤ a → ∃ u, u < 3 ∧ (1 ≤ u ∧ a * u % 3 = 1) := by decide +kernel
theorem cl_ui5 : ∀ a, a < 5 → 1 ≤ a → ∃ u, u < 5 ∧ (1 ≤ u ∧ a * u % 5 = 1) := by decide +kernel
theorem cl_ui7 : ∀ a, a < 7 → 1 ≤ a → ∃ u, u < 7 ∧ (1 ≤ u ∧ a * u % 7 = 1) := by decide +kernel
theorem cl_ui {p a : Nat} (hp : cl_P p) (ha : a < p) (h1 : 1 ≤ a) : ∃ u, u < p ∧ (1 ≤ u ∧ a * u % p = 1) ∧ ∀ e, e < u → ¬ (1 ≤ e ∧ a * e % p = 1) := by
  refine an_least (fun u => 1 ≤ u ∧ a * u % p = 1) p ?_
  unfold cl_P at hp
  rcases hp with rfl | rfl | rfl | rfl
  · exact cl_ui2 a ha h1
  · exact cl_ui3 a ha h1
  · exact cl_ui5 a ha h1
  · exact cl_ui7 a ha h1
theorem cl_z2 : ∀ m : Nat, m < 2 → ∀ a : Nat, a < 2 → ∀ u : Nat, u < 2 → a * u % 2 = 1 → ((m : Int) - ((m * u % 2 : Nat) : Int) * (a : Int)) % ((2 : Nat) : Int) = 0 := by decide +kernel
theorem cl_z3 : ∀ m : Nat, m < 3 → ∀ a : Nat, a < 3 → ∀ u : Nat, u < 3 → a * u % 3 = 1 → ((m : Int) - ((m * u % 3 : Nat) : Int) * (a : Int)) % ((3 : Nat) : Int) = 0 := by decide +kernel
theorem cl_z5 : ∀ m : Nat, m < 5 → ∀ a : Nat, a < 5 → ∀ u : Nat, u < 5 → a * u % 5 = 1 → ((m : Int) - ((m * u % 5 : Nat) : Int) * (a : Int)) % ((5 : Nat) : Int) = 0 := by decide +kernel
theorem cl_z7 : ∀ m : Nat, m < 7 → ∀ a : Nat, a < 7 → ∀ u : Nat, u < 7 → a * u % 7 = 1 → ((m : Int) - ((m * u % 7 : Nat) : Int) * (a : Int)) % ((7 : Nat) : Int) = 0 := by decide +kernel
theorem cl_z {p m a u : Nat} (hp : cl_P p) (hm : m < p) (ha : a < p) (hu : u < p) (h : a * u % p = 1) : ((m : Int) - ((m * u % p : Nat) : Int) * (a : Int)) % (p : Int) = 0 := by
  unfold cl_P at hp
  rcases hp with rfl | rfl | rfl | rfl
  · exact cl_z2 m hm a ha u hu h
  · exact cl_z3 m hm a ha u hu h
  · exact cl_z5 m hm a ha u hu h
  · exact cl_z7 m hm a ha u hu h
def cl_v (p : Nat) (M : Nat → Nat → Nat) (r c u q j : Nat) : Nat := (((M q j : Int) - ((M q c * u % p : Nat) : Int) * (M r j : Int)) % (p : Int)).toNat
def cl_cm (n p : Nat) (M : Nat → Nat → Nat) (r c u s : Nat) : Nat → Nat → Nat := fun q j => if r < q ∧ q < s ∧ j < n then cl_v p M r c u q j else M q j
def cl_ci (n p : Nat) (M : Nat → Nat → Nat) (r c u s j0 : Nat) : Nat → Nat → Nat := fun q j => if (r < q ∧ q < s ∧ j < n) ∨ (q = s ∧ j < j0) then cl_v p M r c u q j else M q j
theorem cl_pow {p a b : Nat} : p * p ^ a = p ^ (a + 1) := by rw [Nat.pow_succ, Nat.mul_comm]
section
variable {f_strands f_count f_joinings f_known : Int32} {a_word a_partner a_work a_shut a_closes a_closed a_seen a_power a_next a_result a_scaled a_many a_later a_tally a_matrix a_track a_component : Nat → Int32}
theorem cl_52 {post : SX → Prop} {J : Int32 → (Nat → Int32) → (Nat → Int32) → (Nat → Int32) → (Nat → Int32) → (Nat → Int32) → (Nat → Int32) → (Nat → Int32) → (Nat → Int32) → (Nat → Int32) → (Nat → Int32) → (Nat → Int32) → (Nat → Int32) → (Nat → Int32) → (Nat → Int32) → (Nat → Int32) → (Nat → Int32) → (Nat → Int32) → Prop} {n p r c u s : Nat} {M : Nat → Nat → Nat} {x4 : Int32} (h4 : n ≤ 4) (hp : cl_P p) (hrs : r < s) (hs : s < n) (hM : ∀ q j, q < 4 → j < 4 → M q j < p)
    (K : ∀ a, cl_M p a (cl_cm n p M r c u (s + 1)) → J (nI (s + 1)) a_word a_partner a_work a_shut a_closes a_closed a_seen a_power a_next a_result a_scaled a_many a_later a_tally a a_track a_component) :
    ∀ d j0 a, j0 + d = n → cl_M p a (cl_ci n p M r c u s j0) → wX_clearColumn_52 post J (nI r) (nI c) (nI p) x4 (nI s) (nI (M s c * u % p)) (nI n) f_count f_joinings f_known (d + 1) (nI j0) a_word a_partner a_work a_shut a_closes a_closed a_seen a_power a_next a_result a_scaled a_many a_later a_tally a a_track a_component := by
  have hr := cl_Pr hp
  intro d
  induction d with
  | zero =>
    intro j0 a h HA
    have : j0 = n := by omega
    subst this
    refine br_t (nI_le (Nat.le_refl _) (by omega)) (nm_r (nI_1 s) (K a (cl_Mc HA (fun q j hq hj => ?_))))
    unfold cl_cm cl_ci
    by_cases e : r < q ∧ q < s + 1 ∧ j < j0
    · rw [if_pos e, if_pos (by omega)]
    · rw [if_neg e, if_neg (by omega)]
  | succ d ih =>
    intro j0 a h HA
    have I := fun a1 h1 => ih (j0 + 1) a1 (by omega) h1
    obtain ⟨u1, u2⟩ := HA s j0 (by omega) (by omega)
    obtain ⟨v1, v2⟩ := HA r j0 (by omega) (by omega)
    have f1 : cl_ci n p M r c u s j0 s j0 = M s j0 := if_neg (by omega)
    have f2 : cl_ci n p M r c u s j0 r j0 = M r j0 := if_neg (by omega)
    rw [f1] at u1 u2
    rw [f2] at v1 v2
    have e2 : (4 : Int32) * nI s + nI j0 = nI (4 * s + j0) := bk_ix 4 s j0
    have e3 : (4 : Int32) * nI r + nI j0 = nI (4 * r + j0) := bk_ix 4 r j0
    have ht : M s c * u % p < p := Nat.mod_lt _ (by omega)
    have hb : M s c * u % p * M r j0 ≤ 6 * 6 := Nat.mul_le_mul (by omega) (by omega)
    have hc : ((M s c * u % p : Nat) : Int) * (M r j0 : Int) = ((M s c * u % p * M r j0 : Nat) : Int) := (Int.natCast_mul _ _).symm
    refine br_f (nI_ge (by omega) (by omega)) ?_
    rw [e2, e3, nI_clamp (by omega), nI_clamp (by omega), u1, v1]
    refine ⟨vp_in_nI (by omega) (by omega), vp_in_nI (by omega) (by omega), cl_red (z := (M s j0 : Int) - ((M s c * u % p : Nat) : Int) * (M r j0 : Int)) hp ?_ (by rw [hc]; omega) (by rw [hc]; omega) ?_⟩
    · rw [Int32.ofInt_sub, Int32.ofInt_mul, bk_oN, bk_oN, bk_oN]
    · have hm := cl_mlt hp ((M s j0 : Int) - ((M s c * u % p : Nat) : Int) * (M r j0 : Int))
      refine ⟨vp_in_nI (by omega) (by omega), nm_r (e' := upd a (4 * s + j0) (nI (cl_v p M r c u s j0))) (by rw [bk_nbb (by omega)]; rfl) (nm_r (nI_1 j0) (I _ ?_))⟩
      refine cl_Mc (cl_Mu HA rfl (by omega) hm) (fun q j hq hj => ?_)
      unfold cl_ci
      by_cases e : q = s ∧ j = j0
      · rw [if_pos e, if_pos (by omega), e.1, e.2]
      · rw [if_neg e]
        by_cases e5 : (r < q ∧ q < s ∧ j < n) ∨ (q = s ∧ j < j0)
        · rw [if_pos e5, if_pos (by omega)]
        · rw [if_neg e5, if_neg (by omega)]
theorem cl_22 {post : SX → Prop} {n p r c u : Nat} {M : Nat → Nat → Nat} (h4 : n ≤ 4) (hp : cl_P p) (hr : r < n) (hc : c < n) (hu : u < p) (hM : ∀ q j, q < 4 → j < 4 → M q j < p)
    (K : ∀ a, cl_M p a (cl_cm n p M r c u n) → post (nI n, f_count, f_joinings, f_known, a_word, a_partner, a_work, a_shut, a_closes, a_closed, a_seen, a_power, a_next, a_result, a_scaled, a_many, a_later, a_tally, a, a_track, a_component)) :
    ∀ d s a, s + d = n → r < s → cl_M p a (cl_cm n p M r c u s) → wX_clearColumn_22 post (nI r) (nI c) (nI p) (nI u) (nI n) f_count f_joinings f_known (d + 1) (nI s) a_word a_partner a_work a_shut a_closes a_closed a_seen a_power a_next a_result a_scaled a_many a_later a_tally a a_track a_component := by
  have hpr := cl_Pr hp
  intro d
  induction d with
  | zero =>
    intro s a h hrs HA
    have : s = n := by omega
    subst this
    exact br_t (nI_le (Nat.le_refl _) (by omega)) (K a HA)
  | succ d ih =>
    intro s a h hrs HA
    obtain ⟨u1, u2⟩ := HA s c (by omega) (by omega)
    have f1 : cl_cm n p M r c u s s c = M s c := if_neg (by omega)
    rw [f1] at u1 u2
    have e2 : (4 : Int32) * nI s + nI c = nI (4 * s + c) := bk_ix 4 s c
    have hb : M s c * u ≤ 7 * 7 := Nat.mul_le_mul (by omega) (by omega)
    refine br_f (nI_ge (by omega) (by omega)) ?_
    rw [e2, nI_clamp (by omega), u1, pk_mul, pk_rem (by omega) (by omega) (by omega)]
    refine ⟨vp_in_nI (by omega) (by omega), nI_ne0 (by omega) (by omega), nm_e ⟨n + 1, cl_52 h4 hp hrs (by omega) hM (fun a1 H1 => ih (s + 1) a1 (by omega) (by omega) H1) n 0 a (by omega) (cl_Mc HA (fun q j hq hj => ?_))⟩⟩
    unfold cl_cm cl_ci
    by_cases e : r < q ∧ q < s ∧ j < n
    · rw [if_pos e, if_pos (Or.inl e)]
    · rw [if_neg e, if_neg (by omega)]
theorem cl_col {post : SX → Prop} {n p r c : Nat} {M : Nat → Nat → Nat} (h4 : n ≤ 4) (hp : cl_P p) (hr : r < n) (hc : c < n) (H : cl_M p a_matrix M) (h1 : 1 ≤ M r c)
    (K : ∀ a u, u < p → M r c * u % p = 1 → cl_M p a (cl_cm n p M r c u n) → post (nI n, f_count, f_joinings, f_known, a_word, a_partner, a_work, a_shut, a_closes, a_closed, a_seen, a_power, a_next, a_result, a_scaled, a_many, a_later, a_tally, a, a_track, a_component)) : wpX_clearColumn post (nI n, f_count, f_joinings, f_known, a_word, a_partner, a_work, a_shut, a_closes, a_closed, a_seen, a_power, a_next, a_result, a_scaled, a_many, a_later, a_tally, a_matrix, a_track, a_component) (nI r) (nI c) (nI p) := by
  have hpr := cl_Pr hp
  obtain ⟨u1, u2⟩ := H r c (by omega) (by omega)
  obtain ⟨u, hu, ⟨hu1, hu2⟩, hu3⟩ := cl_ui hp u2 h1
  have e2 : (4 : Int32) * nI r + nI c = nI (4 * r + c) := bk_ix 4 r c
  refine And.intro (pk_in (4 * r + c) 16 (by omega) e2) ?_
  rw [e2, nI_clamp (by omega), u1]
  refine cl_inv hp u2 hu1 hu hu2 (fun e x y z => hu3 e y ⟨x, z⟩) (nm_r (nI_1 r) ⟨n - (r + 1) + 1, ?_⟩)
  refine cl_22 h4 hp hr hc hu (fun q j hq hj => (H q j hq hj).2) (fun a HA => K a u hu hu2 HA) (n - (r + 1)) (r + 1) a_matrix (by omega) (by omega) (cl_Mc H (fun q j hq hj => if_neg (by omega)))
theorem cl_4 {post : Int32 → SX → Prop} {n p : Nat} (h4 : n ≤ 4) (hp : cl_P p) :
    ∀ d c r M a, c + d = n → r ≤ c → cl_M p a M → (∀ rf af, r ≤ rf → rf ≤ r + d → cl_N n p M r c = p ^ (d - (rf - r)) → post (nI rf) (nI n, f_count, f_joinings, f_known, a_word, a_partner, a_work, a_shut, a_closes, a_closed, a_seen, a_power, a_next, a_result, a_scaled, a_many, a_later, a_tally, af, a_track, a_component)) → wX_rank_4 post (nI p) (d + 1) (nI r) (nI c) (nI n) f_count f_joinings f_known a_word a_partner a_work a_shut a_closes a_closed a_seen a_power a_next a_result a_scaled a_many a_later a_tally a a_track a_component := by
  have hpr := cl_Pr hp
  intro d
  induction d with
  | zero =>
    intro c r M a h hrc H K
    have : c = n := by omega
    subst this
    refine br_t (nI_le (Nat.le_refl _) (by omega)) (K r a (Nat.le_refl _) (Nat.le_refl _) ?_)
    rw [cl_Nn, Nat.sub_self]
    rfl
  | succ d ih =>
    intro c r M a h hrc H K
    refine br_f (nI_ge (by omega) (by omega)) ⟨n - r + 1, ?_⟩
    have L : ∀ f s, s + f = n → r ≤ s → (∀ q, r ≤ q → q < s → M q c = 0) → wX_rank_15 post (wX_rank_4 post (nI p) (d + 1)) (nI p) (nI r) (nI c) (nI n) f_count f_joinings f_known a_word a_partner a_work a_shut a_closes a_closed a_seen a_power a_next a_result a_scaled a_many a_later a_tally a a_track a_component (f + 1) (nI s) := by
      intro f
      induction f with
      | zero =>
        intro s hs hrs hz
        have : s = n := by omega
        subst this
        refine br_t (nI_le (Nat.le_refl _) (by omega)) (br_t (nI_le (Nat.le_refl _) (by omega)) (nm_r (nI_1 c) (ih (c + 1) r M a (by omega) (by omega) H (fun rf af k1 k2 k3 => K rf af k1 (by omega) ?_))))
        rw [cl_N0 (by omega) hz, k3, cl_pow (b := 0)]
        congr 1; omega
      | succ f ihf =>
        intro s hs hrs hz
        obtain ⟨u1, u2⟩ := H s c (by omega) (by omega)
        have e2 : (4 : Int32) * nI s + nI c = nI (4 * s + c) := bk_ix 4 s c
        refine br_f (nI_ge (by omega) (by omega)) ⟨pk_in (4 * s + c) 16 (by omega) e2, ?_⟩
        rw [e2, nI_clamp (by omega), u1]
        refine pk_eq (M s c) 0 (fun z => nm_r (nI_1 s) (ihf (s + 1) (by omega) (by omega) (fun q a1 a2 => ?_))) (fun z => br_f (nI_ge (by omega) (by omega)) ?_)
        · by_cases e : q = s
          · rw [e]; exact z
          · exact hz q a1 (by omega)
        · refine cl_swap (by omega) (by omega) (by omega) H (fun a1 H1 => ?_)
          generalize hM1 : (fun q j => if q = r then M s j else if q = s then M r j else M q j) = M1 at H1
          have m1 : ∀ j, M1 r j = M s j := fun j => by rw [← hM1]; exact if_pos rfl
          have m2 : ∀ j, M1 s j = M r j := fun j => by
            rw [← hM1]
            show (if s = r then M s j else if s = s then M r j else M s j) = M r j
            by_cases e : s = r
            · rw [if_pos e, e]
            · rw [if_neg e, if_pos rfl]
          have m3 : ∀ q j, q ≠ r → q ≠ s → M1 q j = M q j := fun q j a b => by
            rw [← hM1]
            show (if q = r then M s j else if q = s then M r j else M q j) = M q j
            rw [if_neg a, if_neg b]
          have N1 : cl_N n p M r c = cl_N n p M1 r c := cl_Nsw hrs (by omega) (fun j _ => m1 j) (fun j _ => m2 j) (fun q j _ b d _ => m3 q j b d) (by omega)
          refine cl_col h4 hp (by omega) (by omega) H1 (by rw [m1]; omega) (fun a2 u hu hu1 H2 => ?_)
          refine nm_r (nI_1 r) (nm_r (nI_1 c) (ih (c + 1) (r + 1) _ a2 (by omega) (by omega) H2 (fun rf af k1 k2 k3 => K rf af (by omega) (by omega) ?_)))
          have hlt := fun q j hq hj => (H1 q j hq hj).2
          have N2 : cl_N n p M1 r c = cl_N n p (cl_cm n p M1 r c u n) r c := by
            refine cl_Ncl (τ := fun q => ((M1 q c * u % p : Nat) : Int)) (by omega) (fun j _ => if_neg (by omega)) (fun q j a b d => ?_) (by omega)
            have e : cl_cm n p M1 r c u n q j = cl_v p M1 r c u q j := if_pos ⟨a, b, d⟩
            rw [e]
            unfold cl_v
            have h0 := Int.emod_nonneg ((M1 q j : Int) - ((M1 q c * u % p : Nat) : Int) * (M1 r j : Int)) (b := (p : Int)) (by omega)
            rw [Int.toNat_of_nonneg h0]
            have e2 : (1 * (M1 q j : Int) + -((M1 q c * u % p : Nat) : Int) * (M1 r j : Int)) = (M1 q j : Int) - ((M1 q c * u % p : Nat) : Int) * (M1 r j : Int) := by
              rw [Int.one_mul, Int.neg_mul]; rfl
            rw [e2]
            generalize (M1 q j : Int) - ((M1 q c * u % p : Nat) : Int) * (M1 r j : Int) = zz
            refine ⟨-(zz / (p : Int)), ?_⟩
            have := Int.emod_add_mul_ediv zz (p : Int)
            rw [Int.mul_neg]
            omega
          have N3 : cl_N n p (cl_cm n p M1 r c u n) r c = cl_N n p (cl_cm n p M1 r c u n) (r + 1) (c + 1) := by
            have er : cl_cm n p M1 r c u n r c = M1 r c := if_neg (by omega)
            refine cl_N1 hp (by omega) (by omega) (by rw [er, m1]; omega) (by rw [er]; exact hlt r c (by omega) (by omega)) (fun q a b => ?_)
            have e : cl_cm n p M1 r c u n q c = cl_v p M1 r c u q c := if_pos ⟨a, b, by omega⟩
            rw [e]
            unfold cl_v
            rw [cl_z hp (hlt q c (by omega) (by omega)) (hlt r c (by omega) (by omega)) hu hu1]
            rfl
          rw [N1, N2, N3, k3]
          congr 1; omega
    have L0 := L (n - r) r (by omega) (Nat.le_refl _) (fun q a b => by omega)
    exact L0
end
end
section
-- colourings: both sides count the solutions of the same equations
theorem cl_md {p : Nat} (hp : cl_P p) (z : Int) : (p : Int) ∣ ((z % (p : Int)).toNat : Int) - z := by
  have hr := cl_Pr hp
  have h0 := Int.emod_nonneg z (b := (p : Int)) (by omega)
  rw [Int.toNat_of_nonneg h0]
  refine ⟨-(z / (p : Int)), ?_⟩
  have := Int.emod_add_mul_ediv z (p : Int)
  rw [Int.mul_neg]
  omega
def cl_mat (n p : Nat) (w : Nat → Int32) : Nat → Nat → Nat → Nat
  | 0 => fun q j => if q = j then 1 else 0
  | i + 1 => fun q j => if j < n then cl_st p (w i) (fun q => cl_mat n p w i q j) q else cl_mat n p w i q j
def cl_A (n p c : Nat) (w : Nat → Int32) : Nat → Nat → Nat := fun q j => if q = j ∧ q < n then (((cl_mat n p w c q j : Int) - 1) % (p : Int)).toNat else cl_mat n p w c q j
def cl_vec (p : Nat) (w : Nat → Int32) (t : Nat) : Nat → Nat → Nat
  | 0 => fun q => cl_r p t q % p
  | i + 1 => cl_st p (w i) (cl_vec p w t i)
theorem cl_st_lt {n p : Nat} {x : Int32} {f : Nat → Nat} (h4 : n ≤ 4) (hp : cl_P p) (hx : bk_L n x) (hf : ∀ q, q < n → f q < p) : ∀ q, q < n → cl_st p x f q < p := by
  obtain ⟨p1, p2⟩ := bk_Lp hx h4
  intro q hq
  unfold cl_st
  split
  · split
    · exact hf _ (by omega)
    · split
      · exact cl_mlt hp _
      · exact hf _ hq
  · split
    · exact hf _ (by omega)
    · split
      · exact cl_mlt hp _
      · exact hf _ hq
theorem cl_vec_lt {n p c : Nat} {w : Nat → Int32} {t : Nat} (h4 : n ≤ 4) (hp : cl_P p) (hw : ∀ i, i < c → bk_L n (w i)) : ∀ i, i ≤ c → ∀ q, q < n → cl_vec p w t i q < p := by
  have hr := cl_Pr hp
  intro i
  induction i with
  | zero => intro _ q _; exact Nat.mod_lt _ (by omega)
  | succ i ih => intro hi; exact cl_st_lt h4 hp (hw i (by omega)) (ih (by omega))
theorem cl_linst {n p : Nat} {x : Int32} {t : Nat} {M : Nat → Nat → Nat} {f : Nat → Nat} (h4 : n ≤ 4) (hp : cl_P p) (hx : bk_L n x) (H : ∀ q, q < n → (p : Int) ∣ cl_ev p (fun j => (M q j : Int)) n 0 t - (f q : Int)) :
    ∀ q, q < n → (p : Int) ∣ cl_ev p (fun j => ((if j < n then cl_st p x (fun q => M q j) q else M q j : Nat) : Int)) n 0 t - (cl_st p x f q : Int) := by
  obtain ⟨p1, p2⟩ := bk_Lp hx h4
  intro q hq
  have e0 : cl_ev p (fun j => ((if j < n then cl_st p x (fun q => M q j) q else M q j : Nat) : Int)) n 0 t = cl_ev p (fun j => (cl_st p x (fun q => M q j) q : Int)) n 0 t := cl_congr _ _ _ (fun j _ b => by rw [if_pos (by omega)])
  rw [e0]
  have comb : ∀ a b : Nat, a < n → b < n → (p : Int) ∣ cl_ev p (fun j => (((2 * (M a j : Int) - (M b j : Int)) % (p : Int)).toNat : Int)) n 0 t - (((2 * (f a : Int) - (f b : Int)) % (p : Int)).toNat : Int) := by
    intro a b ha hb
    have l := cl_lin (p := p) (ρ1 := fun j => (M a j : Int)) (ρ2 := fun j => (M b j : Int)) (ρ3 := fun j => (((2 * (M a j : Int) - (M b j : Int)) % (p : Int)).toNat : Int)) (α := 2) (β := -1) n 0 t (fun j _ _ => by
      have := cl_md hp (2 * (M a j : Int) - (M b j : Int))
      have e : 2 * (M a j : Int) + -1 * (M b j : Int) = 2 * (M a j : Int) - (M b j : Int) := by omega
      rw [e]
      exact this)
    have x1 := H a ha
    have x2 := H b hb
    have x3 := cl_md hp (2 * (f a : Int) - (f b : Int))
    generalize cl_ev p (fun j => (((2 * (M a j : Int) - (M b j : Int)) % (p : Int)).toNat : Int)) n 0 t = E at *
    generalize cl_ev p (fun j => (M a j : Int)) n 0 t = Ea at *
    generalize cl_ev p (fun j => (M b j : Int)) n 0 t = Eb at *
    generalize (((2 * (f a : Int) - (f b : Int)) % (p : Int)).toNat : Int) = F at *
    have y1 := Int.dvd_mul_of_dvd_right (b := 2) x1
    have y := Int.dvd_sub (Int.dvd_sub (Int.dvd_add l y1) x2) x3
    have e : E - (2 * Ea + -1 * Eb) + 2 * (Ea - (f a : Int)) - (Eb - (f b : Int)) - (F - (2 * (f a : Int) - (f b : Int))) = E - F := by omega
    rw [e] at y
    exact y
  unfold cl_st
  by_cases g : 0 ≤ x
  · simp only [if_pos g]
    by_cases q1 : q = bk_p x
    · simp only [if_pos q1]
      exact H _ (by omega)
    · simp only [if_neg q1]
      by_cases q2 : q + 1 = bk_p x
      · simp only [if_pos q2]
        exact comb _ _ (by omega) p2
      · simp only [if_neg q2]
        exact H q hq
  · simp only [if_neg g]
    by_cases q2 : q + 1 = bk_p x
    · simp only [if_pos q2]
      exact H _ p2
    · simp only [if_neg q2]
      by_cases q1 : q = bk_p x
      · simp only [if_pos q1]
        exact comb _ _ p2 (by omega)
      · simp only [if_neg q1]
        exact H q hq
theorem cl_evmat {n p c : Nat} {w : Nat → Int32} {t : Nat} (h4 : n ≤ 4) (hp : cl_P p) (hw : ∀ i, i < c → bk_L n (w i)) : ∀ i, i ≤ c → ∀ q, q < n → (p : Int) ∣ cl_ev p (fun j => (cl_mat n p w i q j : Int)) n 0 t - (cl_vec p w t i q : Int) := by
  intro i
  induction i with
  | zero =>
    intro _ q hq
    have e : cl_ev p (fun j => (cl_mat n p w 0 q j : Int)) n 0 t = cl_ev p (fun j => if j = q then 1 else 0) n 0 t := by
      refine cl_congr _ _ _ (fun j _ _ => ?_)
      show ((if q = j then 1 else 0 : Nat) : Int) = if j = q then 1 else 0
      by_cases z : j = q
      · rw [if_pos z, if_pos z.symm]; rfl
      · rw [if_neg z, if_neg (Ne.symm z)]; rfl
    rw [e, cl_unit n 0 t q (by omega) (by omega)]
    have z : ((cl_r p t (q - 0) % p : Nat) : Int) - (cl_vec p w t 0 q : Int) = 0 := by
      show ((cl_r p t q % p : Nat) : Int) - ((cl_r p t q % p : Nat) : Int) = 0
      omega
    rw [z]
    exact Int.dvd_zero _
  | succ i ih =>
    intro hi
    exact cl_linst h4 hp (hw i (by omega)) (ih (by omega))
theorem cl_evA {n p c : Nat} {w : Nat → Int32} {t : Nat} (h4 : n ≤ 4) (hp : cl_P p) (hw : ∀ i, i < c → bk_L n (w i)) (q : Nat) (hq : q < n) : (p : Int) ∣ cl_ev p (fun j => (cl_A n p c w q j : Int)) n 0 t ↔ cl_vec p w t c q = cl_r p t q % p := by
  have hr := cl_Pr hp
  have h1 := cl_evmat (t := t) h4 hp hw c (Nat.le_refl _) q hq
  have h2 := cl_lin (p := p) (ρ1 := fun j => (cl_mat n p w c q j : Int)) (ρ2 := fun j => if j = q then 1 else 0) (ρ3 := fun j => (cl_A n p c w q j : Int)) (α := 1) (β := -1) n 0 t (fun j _ _ => by
    show (p : Int) ∣ ((if q = j ∧ q < n then (((cl_mat n p w c q j : Int) - 1) % (p : Int)).toNat else cl_mat n p w c q j : Nat) : Int) - (1 * (cl_mat n p w c q j : Int) + -1 * (if j = q then 1 else 0))
    by_cases e : j = q
    · rw [if_pos ⟨e.symm, hq⟩, if_pos e]
      have := cl_md hp ((cl_mat n p w c q j : Int) - 1)
      have z : 1 * (cl_mat n p w c q j : Int) + -1 * 1 = (cl_mat n p w c q j : Int) - 1 := by omega
      rw [z]
      exact this
    · rw [if_neg (fun z => e z.1.symm), if_neg e]
      have z : (cl_mat n p w c q j : Int) - (1 * (cl_mat n p w c q j : Int) + -1 * 0) = 0 := by omega
      rw [z]
      exact Int.dvd_zero _)
  rw [cl_unit n 0 t q (by omega) (by omega)] at h2
  have h3 := cl_vec_lt (t := t) h4 hp hw c (Nat.le_refl _) q hq
  have h4' : cl_r p t (q - 0) % p = cl_r p t q % p := rfl
  rw [h4'] at h2
  have h5 : cl_r p t q % p < p := Nat.mod_lt _ (by omega)
  generalize cl_ev p (fun j => (cl_A n p c w q j : Int)) n 0 t = EA at *
  generalize cl_ev p (fun j => (cl_mat n p w c q j : Int)) n 0 t = EM at *
  generalize cl_vec p w t c q = V at *
  generalize cl_r p t q % p = D at *
  have h6 : (p : Int) ∣ EA - ((V : Int) - (D : Int)) := by
    have y := Int.dvd_add h2 h1
    have e : EA - (1 * EM + -1 * (D : Int)) + (EM - (V : Int)) = EA - ((V : Int) - (D : Int)) := by omega
    rw [e] at y
    exact y
  constructor
  · intro h
    have y := Int.dvd_sub h h6
    have e : EA - (EA - ((V : Int) - (D : Int))) = (V : Int) - (D : Int) := by omega
    rw [e] at y
    have z := Int.emod_eq_zero_of_dvd y
    unfold cl_P at hp
    rcases hp with rfl | rfl | rfl | rfl <;> omega
  · intro h
    subst h
    have e : EA - ((V : Int) - (V : Int)) = EA := by omega
    rw [e] at h6
    exact h6
def cl_fit (n p c : Nat) (w : Nat → Int32) (t : Nat) : Bool := (List.range n).all fun q => decide (cl_vec p w t c q = cl_r p t q % p)
theorem cl_law {n p c : Nat} {w : Nat → Int32} (h4 : n ≤ 4) (hp : cl_P p) (hw : ∀ i, i < c → bk_L n (w i)) : cl_cnt (cl_fit n p c w) (p ^ n) = cl_N n p (cl_A n p c w) 0 0 := by
  unfold cl_N
  rw [Nat.sub_zero]
  refine cl_cntc _ (fun t _ => ?_)
  rw [Bool.eq_iff_iff, cl_Qi]
  unfold cl_fit
  rw [List.all_eq_true, Nat.sub_zero]
  constructor
  · intro h q _ hq
    exact (cl_evA h4 hp hw q hq).mpr (of_decide_eq_true (h q (List.mem_range.mpr hq)))
  · intro h q hq
    have hq := List.mem_range.mp hq
    exact decide_eq_true ((cl_evA h4 hp hw q hq).mp (h q (by omega) hq))
theorem cl_5 : ∀ q, q < 4 → ∀ j, j < 4 → (if (4 * q + j) % 5 = 0 then 1 else 0) = (if q = j then 1 else 0) := by decide
section
variable {f_strands f_count f_joinings f_known : Int32} {a_word a_partner a_work a_shut a_closes a_closed a_seen a_power a_next a_result a_scaled a_many a_later a_tally a_matrix a_track a_component : Nat → Int32}
theorem cl_140 {post : Int32 → SX → Prop} {p f : Nat} (hp : cl_P p) (hf : f ≤ 4) (P : post (nI (p ^ f)) (f_strands, f_count, f_joinings, f_known, a_word, a_partner, a_work, a_shut, a_closes, a_closed, a_seen, a_power, a_next, a_result, a_scaled, a_many, a_later, a_tally, a_matrix, a_track, a_component)) : ∃ n140 : Nat, wX_colourings_140 post (nI p) (nI f) f_strands f_count f_joinings f_known a_word a_partner a_work a_shut a_closes a_closed a_seen a_power a_next a_result a_scaled a_many a_later a_tally a_matrix a_track a_component n140 1 0 := by
  have L : ∀ d i, i + d = f → wX_colourings_140 post (nI p) (nI f) f_strands f_count f_joinings f_known a_word a_partner a_work a_shut a_closes a_closed a_seen a_power a_next a_result a_scaled a_many a_later a_tally a_matrix a_track a_component (d + 1) (nI (p ^ i)) (nI i) := by
    intro d
    induction d with
    | zero =>
      intro i h
      have : i = f := by omega
      subst this
      exact br_t (nI_le (Nat.le_refl _) (by omega)) P
    | succ d ih =>
      intro i h
      exact br_f (nI_ge (by omega) (by omega)) (nm_r (e' := nI (p ^ (i + 1))) (by rw [pk_mul, Nat.pow_succ]) (nm_r (nI_1 i) (ih (i + 1) (by omega))))
  exact ⟨f + 1, L f 0 (by omega)⟩
theorem cl_86 {post : Int32 → SX → Prop} {n p c : Nat} {w : Nat → Int32} (h4 : n ≤ 4) (hp : cl_P p) (P : ∀ a, post (nI (cl_N n p (cl_A n p c w) 0 0)) (nI n, f_count, f_joinings, f_known, a_word, a_partner, a_work, a_shut, a_closes, a_closed, a_seen, a_power, a_next, a_result, a_scaled, a_many, a_later, a_tally, a, a_track, a_component)) :
    ∀ d i a, i + d = n → cl_M p a (fun q j => if q = j ∧ q < i then (((cl_mat n p w c q j : Int) - 1) % (p : Int)).toNat else cl_mat n p w c q j) → wX_colourings_86 post (nI p) (nI n) f_count f_joinings f_known (d + 1) (nI i) a_word a_partner a_work a_shut a_closes a_closed a_seen a_power a_next a_result a_scaled a_many a_later a_tally a a_track a_component := by
  have hpr := cl_Pr hp
  intro d
  induction d with
  | zero =>
    intro i a h H
    have : i = n := by omega
    subst this
    refine br_t (nI_le (Nat.le_refl _) (by omega)) ⟨i + 1, ?_⟩
    refine cl_4 h4 hp i 0 0 (cl_A i p c w) a (by omega) (Nat.le_refl _) H (fun rf af k1 k2 k3 => ?_)
    refine nm_r (e' := nI (i - rf)) (pk_sub (by omega)) ?_
    have Pa := P af
    rw [k3] at Pa
    exact cl_140 hp (by omega) Pa
  | succ d ih =>
    intro i a h H
    obtain ⟨u1, u2⟩ := H i i (by omega) (by omega)
    dsimp only at u1 u2
    rw [if_neg (by omega)] at u1 u2
    have e0 : 4 * i + i = 5 * i := by omega
    rw [e0] at u1
    have e5 : (5 : Int32) * nI i = nI (5 * i) := pk_mul 5 i
    refine br_f (nI_ge (by omega) (by omega)) ?_
    rw [e5, nI_clamp (by omega), u1]
    have hm := cl_mlt hp ((cl_mat n p w c i i : Int) - 1)
    refine ⟨vp_in_nI (by omega) (by omega), cl_red (z := (cl_mat n p w c i i : Int) - 1) hp ?_ (by omega) (by omega) ⟨vp_in_nI (by omega) (by omega), nm_r (e' := upd a (5 * i) (nI (((cl_mat n p w c i i : Int) - 1) % (p : Int)).toNat)) (by rw [bk_nbb (by omega)]) (nm_r (nI_1 i) (ih (i + 1) _ (by omega) ?_))⟩⟩
    · rw [Int32.ofInt_sub, bk_oN]; rfl
    · refine cl_Mc (cl_Mu H e0.symm (by omega) hm) (fun q j hq hj => ?_)
      by_cases e : q = i ∧ j = i
      · rw [if_pos e, if_pos (by omega), e.1, e.2]
      · rw [if_neg e]
        by_cases e1 : q = j ∧ q < i
        · rw [if_pos e1, if_pos (by omega)]
        · rw [if_neg e1, if_neg (by omega)]
theorem cl_59 {post : Int32 → SX → Prop} {n p c : Nat} (h4 : n ≤ 4) (hc : c ≤ 10) (hp : cl_P p) (hw : ∀ i, i < c → bk_L n (a_word i)) (P : ∀ a, post (nI (cl_N n p (cl_A n p c a_word) 0 0)) (nI n, nI c, f_joinings, f_known, a_word, a_partner, a_work, a_shut, a_closes, a_closed, a_seen, a_power, a_next, a_result, a_scaled, a_many, a_later, a_tally, a, a_track, a_component)) :
    ∀ d i a, i + d = c → cl_M p a (cl_mat n p a_word i) → wX_colourings_59 post (nI p) (d + 1) (nI i) (nI n) (nI c) f_joinings f_known a_word a_partner a_work a_shut a_closes a_closed a_seen a_power a_next a_result a_scaled a_many a_later a_tally a a_track a_component := by
  intro d
  induction d with
  | zero =>
    intro i a h H
    have : i = c := by omega
    subst this
    exact br_t (nI_le (Nat.le_refl _) (by omega)) ⟨n + 1, cl_86 h4 hp P n 0 a (by omega) (cl_Mc H (fun q j _ _ => if_neg (by omega)))⟩
  | succ d ih =>
    intro i a h H
    refine br_f (nI_ge (by omega) (by omega)) ⟨vp_in_nI (by omega) (by omega), ?_⟩
    rw [nI_clamp (by omega)]
    refine cl_cross h4 hp (hw i (by omega)) H (fun a1 H1 => ?_)
    exact nm_r (nI_1 i) (ih (i + 1) a1 (by omega) H1)
theorem cl_X {post : Int32 → SX → Prop} {n p c : Nat} (h4 : n ≤ 4) (hc : c ≤ 10) (hp : cl_P p) (hw : ∀ i, i < c → bk_L n (a_word i)) (P : ∀ a, post (nI (cl_N n p (cl_A n p c a_word) 0 0)) (nI n, nI c, f_joinings, f_known, a_word, a_partner, a_work, a_shut, a_closes, a_closed, a_seen, a_power, a_next, a_result, a_scaled, a_many, a_later, a_tally, a, a_track, a_component)) :
    ∃ n27 : Nat, wX_colourings_27 post (nI p) (nI n) (nI c) f_joinings f_known n27 0 a_word a_partner a_work a_shut a_closes a_closed a_seen a_power a_next a_result a_scaled a_many a_later a_tally a_matrix a_track a_component := by
  have hpr := cl_Pr hp
  refine ⟨16 - 0 + 1, ?_⟩
  refine bk_fill (W := fun m x a => wX_colourings_27 post (nI p) (nI n) (nI c) f_joinings f_known m x a_word a_partner a_work a_shut a_closes a_closed a_seen a_power a_next a_result a_scaled a_many a_later a_tally a a_track a_component) 0 16 (by omega) (fun k => nI (if k % 5 = 0 then 1 else 0)) a_matrix (fun m => ?_) ?_
  · refine br_t (by decide) ⟨c + 1, cl_59 h4 hc hp hw P c 0 _ (by omega) (fun q j hq hj => ?_)⟩
    rw [bk_ff_in (by omega) (by omega)]
    show nI (if (4 * q + j) % 5 = 0 then 1 else 0) = nI (if q = j then 1 else 0) ∧ (if q = j then 1 else 0) < p
    rw [cl_5 q hq j hj]
    refine ⟨rfl, ?_⟩
    split <;> omega
  · intro m x a g1 g2 g3 g4
    have em : nI x - nI x / 5 * 5 = nI (x % 5) := pk_rem (d := 5) (by omega) (by omega) (by omega)
    refine br_f (nI_ge (b := 16) (by omega) (by omega)) ⟨by decide, ?_⟩
    rw [em]
    refine pk_eq (x % 5) 0 (fun z => ⟨vp_in_nI (by omega) (by omega), nm_r (e' := upd a x (nI 1)) (by rw [nI_clamp (by omega)]; exact congrArg _ (bk_nbb (n := 1) (by omega))) (nm_r (nI_1 x) ?_)⟩) (fun z => ⟨vp_in_nI (by omega) (by omega), nm_r (e' := upd a x (nI 0)) (by rw [nI_clamp (by omega)]; exact congrArg _ (bk_nbb (n := 0) (by omega))) (nm_r (nI_1 x) ?_)⟩)
    · rw [if_pos z] at g4; exact g4
    · rw [if_neg z] at g4; exact g4
end
end
section
-- colourings: the reference's walk
theorem cl_am2 : ∀ a : Nat, a < 2 → ∀ b : Nat, b < 2 → (2 * a + 2 - b) % 2 = ((2 * (a : Int) - (b : Int)) % ((2 : Nat) : Int)).toNat := by decide +kernel
theorem cl_am3 : ∀ a : Nat, a < 3 → ∀ b : Nat, b < 3 → (2 * a + 3 - b) % 3 = ((2 * (a : Int) - (b : Int)) % ((3 : Nat) : Int)).toNat := by decide +kernel
theorem cl_am5 : ∀ a : Nat, a < 5 → ∀ b : Nat, b < 5 → (2 * a + 5 - b) % 5 = ((2 * (a : Int) - (b : Int)) % ((5 : Nat) : Int)).toNat := by decide +kernel
theorem cl_am7 : ∀ a : Nat, a < 7 → ∀ b : Nat, b < 7 → (2 * a + 7 - b) % 7 = ((2 * (a : Int) - (b : Int)) % ((7 : Nat) : Int)).toNat := by decide +kernel
theorem cl_am {p a b : Nat} (hp : cl_P p) (ha : a < p) (hb : b < p) : 2 * nI a - nI b + nI p - (2 * nI a - nI b + nI p) / nI p * nI p = nI ((2 * (a : Int) - (b : Int)) % (p : Int)).toNat := by
  have hr := cl_Pr hp
  have e : 2 * nI a - nI b + nI p = nI (2 * a + p - b) := by
    rw [← bk_oN (2 * a + p - b)]
    have z : ((2 * a + p - b : Nat) : Int) = 2 * (a : Int) - (b : Int) + (p : Int) := by omega
    rw [z, Int32.ofInt_add, Int32.ofInt_sub, Int32.ofInt_mul, bk_oN, bk_oN, bk_oN]
    rfl
  rw [e, pk_rem (by omega) (by omega) (by omega)]
  congr 1
  unfold cl_P at hp
  rcases hp with rfl | rfl | rfl | rfl
  · exact cl_am2 a ha b hb
  · exact cl_am3 a ha b hb
  · exact cl_am5 a ha b hb
  · exact cl_am7 a ha b hb
theorem cl_r_lt {p t : Nat} : ∀ q, cl_r p t q ≤ t := by
  intro q
  induction q with
  | zero => exact Nat.le_refl _
  | succ q ih => exact Nat.le_trans (Nat.div_le_self _ _) ih
section
variable {g_n g_len g_known : Int32} {b_word b_joined b_many b_coefficients b_colours b_component : Nat → Int32}
theorem cl_158 {post : Int32 → SY → Prop} {n p t : Nat} {f : Nat → Nat} (h4 : n ≤ 4) (hp : cl_P p) (ht : t < 2 ^ 31) (H : ∀ j, j < n → b_colours j = nI (f j) ∧ f j < p) (P1 : (∀ j, j < n → f j = cl_r p t j % p) → post 1 (nI n, g_len, g_known, b_word, b_joined, b_many, b_coefficients, b_colours, b_component)) (P0 : ∀ j, j < n → ¬ f j = cl_r p t j % p → post 0 (nI n, g_len, g_known, b_word, b_joined, b_many, b_coefficients, b_colours, b_component)) :
    ∀ d q, q + d = n → (∀ j, j < q → f j = cl_r p t j % p) → wY_fits_158 post (nI p) (nI n) g_len g_known b_word b_joined b_many b_coefficients b_colours b_component (d + 1) (nI (cl_r p t q)) (nI q) := by
  have hr := cl_Pr hp
  intro d
  induction d with
  | zero =>
    intro q h hq
    have : q = n := by omega
    subst this
    exact br_t (nI_le (Nat.le_refl _) (by omega)) (P1 hq)
  | succ d ih =>
    intro q h hq
    obtain ⟨u1, u2⟩ := H q (by omega)
    have hl := cl_r_lt (p := p) (t := t) q
    have hm : cl_r p t q % p < p := Nat.mod_lt _ (by omega)
    refine br_f (nI_ge (by omega) (by omega)) ?_
    rw [nI_clamp (by omega), u1, pk_rem (by omega) (by omega) (by omega)]
    refine ⟨vp_in_nI (by omega) (by omega), nI_ne0 (by omega) (by omega), pk_eq (f q) (cl_r p t q % p) (fun z => ⟨nI_ne0 (by omega) (by omega), nm_r (pk_div (by omega) (by omega) (by omega)) (nm_r (nI_1 q) (ih (q + 1) (by omega) (fun j hj => ?_)))⟩) (fun z => P0 q (by omega) z)⟩
    by_cases e : j = q
    · rw [e]; exact z
    · exact hq j (by omega)
theorem cl_37 {post : Int32 → SY → Prop} {n p c t : Nat} {x1 : Int32} (h4 : n ≤ 4) (hc : c ≤ 10) (hp : cl_P p) (hw : ∀ i, i < c → bk_L n (b_word i)) (K : ∀ a, (∀ j, j < n → a j = nI (cl_vec p b_word t c j) ∧ cl_vec p b_word t c j < p) → ∃ n158 : Nat, wY_fits_158 post (nI p) (nI n) (nI c) g_known b_word b_joined b_many b_coefficients a b_component n158 x1 0) :
    ∀ d i a, i + d = c → (∀ j, j < n → a j = nI (cl_vec p b_word t i j) ∧ cl_vec p b_word t i j < p) → wY_fits_37 post x1 (nI p) (nI n) (nI c) g_known (d + 1) (nI i) b_word b_joined b_many b_coefficients a b_component := by
  have hr := cl_Pr hp
  intro d
  induction d with
  | zero =>
    intro i a h H
    have : i = c := by omega
    subst this
    exact br_t (nI_le (Nat.le_refl _) (by omega)) (K a H)
  | succ d ih =>
    intro i a h H
    have hL := hw i (by omega)
    obtain ⟨p1, p2⟩ := bk_Lp hL h4
    have h6 := bk_L6 hL h4
    have ew : b_word (nI i).toNatClampNeg = b_word i := by rw [nI_clamp (by omega)]
    have hlt := cl_vec_lt (t := t) h4 hp hw (i + 1) (by omega)
    have I := fun a1 h1 => ih (i + 1) a1 (by omega) h1
    have es : ∀ q, cl_vec p b_word t (i + 1) q = if 0 ≤ b_word i then (if q = bk_p (b_word i) then cl_vec p b_word t i (bk_p (b_word i) - 1) else if q + 1 = bk_p (b_word i) then ((2 * (cl_vec p b_word t i (bk_p (b_word i) - 1) : Int) - (cl_vec p b_word t i (bk_p (b_word i)) : Int)) % (p : Int)).toNat else cl_vec p b_word t i q) else (if q + 1 = bk_p (b_word i) then cl_vec p b_word t i (bk_p (b_word i)) else if q = bk_p (b_word i) then ((2 * (cl_vec p b_word t i (bk_p (b_word i)) : Int) - (cl_vec p b_word t i (bk_p (b_word i) - 1) : Int)) % (p : Int)).toNat else cl_vec p b_word t i q) := fun q => rfl
    refine br_f (nI_ge (by omega) (by omega)) ⟨vp_in_nI (by omega) (by omega), ?_⟩
    rw [ew]
    refine bk_sizeY hL h4 ?_
    generalize bk_p (b_word i) = P at *
    obtain ⟨u1, u2⟩ := H (P - 1) (by omega)
    obtain ⟨v1, v2⟩ := H P (by omega)
    have e1 : nI P - 1 = nI (P - 1) := bk_s1 p1
    rw [e1, nI_clamp (by omega), nI_clamp (by omega)]
    refine ⟨vp_in_nI (by omega) (by omega), nm_r u1 ⟨vp_in_nI (by omega) (by omega), nm_r v1 ⟨vp_in_nI (by omega) (by omega), ?_⟩⟩⟩
    rw [cl_am hp v2 u2]
    rcases h6 with ⟨g0, g1, -, -⟩ | ⟨g0, g1, -, -⟩
    · refine br_f g1 ?_
      refine And.intro (vp_in_nI (by omega) (by omega)) (nm_r (e' := upd a P (nI (cl_vec p b_word t i (P - 1)))) (by rw [nI_clamp (by omega)]) ⟨vp_in_nI (by omega) (by omega), ?_⟩)
      rw [e1, ew, nI_clamp (by omega), cl_am hp u2 v2]
      refine br_f g1 ⟨nI_ne0 (by omega) (by omega), vp_in_nI (by omega) (by omega), nm_e (nm_r (nI_1 i) (I _ (fun j hj => ⟨?_, hlt j hj⟩)))⟩
      rw [es, if_pos g0]
      by_cases j1 : j = P
      · rw [if_pos j1, pk_un (by omega), j1, pk_us]
      · rw [if_neg j1]
        by_cases j2 : j + 1 = P
        · rw [if_pos j2]
          have : j = P - 1 := by omega
          rw [this, pk_us]
        · rw [if_neg j2, pk_un (by omega), pk_un j1]
          exact (H j hj).1
    · refine br_t g1 ⟨nI_ne0 (by omega) (by omega), ?_⟩
      refine And.intro (vp_in_nI (by omega) (by omega)) (nm_r (e' := upd a P (nI ((2 * (cl_vec p b_word t i P : Int) - (cl_vec p b_word t i (P - 1) : Int)) % (p : Int)).toNat)) (by rw [nI_clamp (by omega)]) ⟨vp_in_nI (by omega) (by omega), ?_⟩)
      rw [e1, ew, nI_clamp (by omega)]
      refine br_t g1 ⟨vp_in_nI (by omega) (by omega), nm_e (nm_r (nI_1 i) (I _ (fun j hj => ⟨?_, hlt j hj⟩)))⟩
      rw [es, if_neg g0]
      by_cases j2 : j + 1 = P
      · rw [if_pos j2]
        have : j = P - 1 := by omega
        rw [this, pk_us]
      · rw [if_neg j2, pk_un (by omega)]
        by_cases j1 : j = P
        · rw [if_pos j1, j1, pk_us]
        · rw [if_neg j1, pk_un j1]
          exact (H j hj).1
theorem cl_fits {post : Int32 → SY → Prop} {n p c t : Nat} (h4 : n ≤ 4) (hc : c ≤ 10) (hp : cl_P p) (ht : t < 2 ^ 31) (hw : ∀ i, i < c → bk_L n (b_word i)) (K : ∀ a, post (cj_b (cl_fit n p c b_word t)) (nI n, nI c, g_known, b_word, b_joined, b_many, b_coefficients, a, b_component)) : wpY_fits post (nI n, nI c, g_known, b_word, b_joined, b_many, b_coefficients, b_colours, b_component) (nI t) (nI p) := by
  have hr := cl_Pr hp
  have L : ∀ d q a, q + d = n → (∀ j, j < q → a j = nI (cl_r p t j % p)) → wY_fits_5 post (nI t) (nI p) (nI n) (nI c) g_known (d + 1) (nI (cl_r p t q)) (nI q) b_word b_joined b_many b_coefficients a b_component := by
    intro d
    induction d with
    | zero =>
      intro q a h H
      have : q = n := by omega
      subst this
      refine br_t (nI_le (Nat.le_refl _) (by omega)) ⟨c + 1, cl_37 h4 hc hp hw (fun a1 H1 => ⟨q + 1, cl_158 h4 hp ht H1 (fun hall => ?_) (fun j hj hne => ?_) q 0 (by omega) (fun j hj => by omega)⟩) c 0 a (by omega) (fun j hj => ⟨H j hj, Nat.mod_lt _ (by omega)⟩)⟩
      · have e : cl_fit q p c b_word t = true := List.all_eq_true.mpr (fun j hj => decide_eq_true (hall j (List.mem_range.mp hj)))
        have := K a1
        rw [e] at this
        exact this
      · have e : cl_fit q p c b_word t = false := by
          cases z : cl_fit q p c b_word t with
          | false => rfl
          | true => exact absurd (of_decide_eq_true (List.all_eq_true.mp z j (List.mem_range.mpr hj))) hne
        have := K a1
        rw [e] at this
        exact this
    | succ d ih =>
      intro q a h H
      have hl := cl_r_lt (p := p) (t := t) q
      refine br_f (nI_ge (by omega) (by omega)) ⟨nI_ne0 (by omega) (by omega), vp_in_nI (by omega) (by omega), ?_⟩
      rw [nI_clamp (by omega), pk_rem (by omega) (by omega) (by omega)]
      refine nm_e ⟨nI_ne0 (by omega) (by omega), nm_r (pk_div (by omega) (by omega) (by omega)) (nm_r (nI_1 q) (ih (q + 1) _ (by omega) (fun j hj => ?_)))⟩
      by_cases e : j = q
      · rw [e, pk_us]
      · rw [pk_un e]
        exact H j (by omega)
  exact ⟨n + 1, L n 0 b_colours (by omega) (fun j hj => by omega)⟩
theorem cl_52Y {post : Int32 → SY → Prop} {n p c : Nat} (h4 : n ≤ 4) (hc : c ≤ 10) (hp : cl_P p) (hw : ∀ i, i < c → bk_L n (b_word i)) (hN : p ^ n < 2 ^ 31) (P : ∀ a, post (nI (cl_cnt (cl_fit n p c b_word) (p ^ n))) (nI n, nI c, g_known, b_word, b_joined, b_many, b_coefficients, a, b_component)) :
    ∀ d t a, t + d = p ^ n → wY_colourings_52 post (nI p) (nI (p ^ n)) (d + 1) (nI (cl_cnt (cl_fit n p c b_word) t)) (nI t) (nI n) (nI c) g_known b_word b_joined b_many b_coefficients a b_component := by
  intro d
  induction d with
  | zero =>
    intro t a h
    have e : t = p ^ n := by omega
    rw [e]
    exact br_t (nI_le (Nat.le_refl _) hN) (P a)
  | succ d ih =>
    intro t a h
    refine br_f (nI_ge (by omega) (by omega)) (cl_fits h4 hc hp (by omega) hw (fun a1 => ?_))
    have I := ih (t + 1) a1 (by omega)
    rw [cl_cnt] at I
    cases e : cl_fit n p c b_word t with
    | false =>
      rw [e] at I
      exact br_t rfl (nm_r (nI_1 t) I)
    | true =>
      rw [e] at I
      exact br_f (show ¬ (1 : Int32) = 0 by decide) (nm_r (nI_1 _) (nm_r (nI_1 t) I))
theorem cl_Y {post : Int32 → SY → Prop} {n p c : Nat} (h4 : n ≤ 4) (hc : c ≤ 10) (hp : cl_P p) (hw : ∀ i, i < c → bk_L n (b_word i)) (P : ∀ a, post (nI (cl_cnt (cl_fit n p c b_word) (p ^ n))) (nI n, nI c, g_known, b_word, b_joined, b_many, b_coefficients, a, b_component)) :
    ∃ n29 : Nat, wY_colourings_29 post (nI p) (nI n) (nI c) g_known b_word b_joined b_many b_coefficients b_colours b_component n29 1 0 := by
  have hr := cl_Pr hp
  have hN : p ^ n < 2 ^ 31 := Nat.lt_of_le_of_lt (Nat.le_trans (Nat.pow_le_pow_left hr.2 n) (Nat.pow_le_pow_right (by decide) h4)) (by decide : 7 ^ 4 < 2 ^ 31)
  have L : ∀ d q, q + d = n → wY_colourings_29 post (nI p) (nI n) (nI c) g_known b_word b_joined b_many b_coefficients b_colours b_component (d + 1) (nI (p ^ q)) (nI q) := by
    intro d
    induction d with
    | zero =>
      intro q h
      have : q = n := by omega
      subst this
      exact br_t (nI_le (Nat.le_refl _) (by omega)) ⟨p ^ q + 1, cl_52Y h4 hc hp hw hN P (p ^ q) 0 b_colours (by omega)⟩
    | succ d ih =>
      intro q h
      exact br_f (nI_ge (by omega) (by omega)) (nm_r (e' := nI (p ^ (q + 1))) (by rw [pk_mul, Nat.pow_succ]) (nm_r (nI_1 q) (ih (q + 1) (by omega))))
  exact ⟨n + 1, L n 0 (by omega)⟩
end
end
section
-- the relation; constructor and word
/-- known: the component's bracket and tally are those of the word -/
def rl_KX (n c : Nat) (k : Int32) (w rs tl : Nat → Int32) : Prop := k = 0 ∨ (k = 1 ∧ fx_Sc rs (sm_B n c w) ∧ wy_M tl (sm_T n c w))
def rl_KY (n c : Nat) (k : Int32) (w mn cf : Nat → Int32) : Prop := k = 0 ∨ (k = 1 ∧ wy_M mn (sm_T n c w) ∧ wy_C cf (sm_B n c w))
def i_Rel (k : Nat) (u : SX) (v : SY) : Prop := match u, v with
  | (f_strands, f_count, f_joinings, f_known, a_word, a_partner, a_work, a_shut, a_closes, a_closed, a_seen, a_power, a_next, a_result, a_scaled, a_many, a_later, a_tally, a_matrix, a_track, a_component), (g_n, g_len, g_known, b_word, b_joined, b_many, b_coefficients, b_colours, b_component) => ∃ n c : Nat, f_strands = nI n ∧ f_count = nI c ∧ f_joinings = nI (tb_J n) ∧ a_shut = cj_fa (tb_S n) ∧ a_closes = cj_fa (tb_C n) ∧ a_closed = cj_fa (tb_D n) ∧ g_n = nI n ∧ g_len = nI c ∧ b_word = a_word ∧ 2 ≤ n ∧ n ≤ 4 ∧ c ≤ 10 ∧ (∀ i, i < c → bk_L n (a_word i)) ∧ rl_KX n c f_known a_word a_result a_tally ∧ rl_KY n c g_known a_word b_many b_coefficients
theorem i_up {k : Nat} {u : SX} {v : SY} (h : i_Rel k u v) : i_Rel (k + 3) u v := h
theorem rl_el {P : SX → SY → Prop} {k : Nat} {u : SX} {v : SY} (I : i_Rel k u v)
    (h : ∀ (n c : Nat) (f_known : Int32) (a_word a_partner a_work a_seen a_power a_next a_result a_scaled a_many a_later a_tally a_matrix a_track a_component : Nat → Int32) (g_known : Int32) (b_joined b_many b_coefficients b_colours b_component : Nat → Int32), 2 ≤ n → n ≤ 4 → c ≤ 10 → (∀ i, i < c → bk_L n (a_word i)) → rl_KX n c f_known a_word a_result a_tally → rl_KY n c g_known a_word b_many b_coefficients →
      P (nI n, nI c, nI (tb_J n), f_known, a_word, a_partner, a_work, cj_fa (tb_S n), cj_fa (tb_C n), cj_fa (tb_D n), a_seen, a_power, a_next, a_result, a_scaled, a_many, a_later, a_tally, a_matrix, a_track, a_component) (nI n, nI c, g_known, a_word, b_joined, b_many, b_coefficients, b_colours, b_component)) : P u v := by
  obtain ⟨f_strands, f_count, f_joinings, f_known, a_word, a_partner, a_work, a_shut, a_closes, a_closed, a_seen, a_power, a_next, a_result, a_scaled, a_many, a_later, a_tally, a_matrix, a_track, a_component⟩ := u
  obtain ⟨g_n, g_len, g_known, b_word, b_joined, b_many, b_coefficients, b_colours, b_component⟩ := v
  obtain ⟨n, c, e1, e2, e3, e4, e5, e6, e7, e8, e9, r⟩ := I
  subst e1 e2 e3 e4 e5 e6 e7 e8 e9
  exact h n c _ _ _ _ _ _ _ _ _ _ _ _ _ _ _ _ _ _ _ _ _ r.1 r.2.1 r.2.2.1 r.2.2.2.1 r.2.2.2.2.1 r.2.2.2.2.2
section
variable {f_strands f_count f_joinings f_known : Int32} {a_word a_partner a_work a_shut a_closes a_closed a_seen a_power a_next a_result a_scaled a_many a_later a_tally a_matrix a_track a_component : Nat → Int32}
variable {g_n g_len g_known : Int32} {b_word b_joined b_many b_coefficients b_colours b_component : Nat → Int32}
theorem rl_mk {k n c : Nat} (h2 : 2 ≤ n) (h4 : n ≤ 4) (hc : c ≤ 10) (hw : ∀ i, i < c → bk_L n (a_word i)) (kx : rl_KX n c f_known a_word a_result a_tally) (ky : rl_KY n c g_known a_word b_many b_coefficients) :
    i_Rel k (nI n, nI c, nI (tb_J n), f_known, a_word, a_partner, a_work, cj_fa (tb_S n), cj_fa (tb_C n), cj_fa (tb_D n), a_seen, a_power, a_next, a_result, a_scaled, a_many, a_later, a_tally, a_matrix, a_track, a_component) (nI n, nI c, g_known, a_word, b_joined, b_many, b_coefficients, b_colours, b_component) :=
  ⟨n, c, rfl, rfl, rfl, rfl, rfl, rfl, rfl, rfl, rfl, h2, h4, hc, hw, kx, ky⟩
end
theorem rl_0 {n : Nat} (h2 : 2 ≤ n) (h4 : n ≤ 4) : wX_init_162 (fun u => i_Rel 1 u (nI n, 0, 0, (fun _ => 0), (fun _ => 0), (fun _ => 0), (fun _ => 0), (fun _ => 0), (fun _ => 0))) (nI n) 0 0 0 0 (fun _ => 0) (fun _ => 0) (fun _ => 0) (fun _ => 0) (fun _ => 0) (fun _ => 0) (fun _ => 0) (fun _ => 0) (fun _ => 0) (fun _ => 0) (fun _ => 0) (fun _ => 0) (fun _ => 0) (fun _ => 0) (fun _ => 0) (fun _ => 0) (fun _ => 0) :=
  cj_init h2 h4 (rl_mk (c := 0) h2 h4 (by omega) (fun i hi => by omega) (Or.inl rfl) (Or.inl rfl))
theorem i_vc0 (k0 : Int32) : wpX_init (fun u => wpY_init (fun v => i_Rel 1 u v) k0) k0 := by
  by_cases h2 : 2 ≤ k0
  · by_cases h4 : k0 ≤ 4
    · have h : ∃ n : Nat, n ≤ 4 ∧ k0 = nI n := nI_of2 (M := 4) (by decide) (fun z => by
        have a := Int32.le_iff_toInt_le.mp h2
        have b := Int32.lt_iff_toInt_lt.mp z
        rw [show (2 : Int32).toInt = 2 by decide] at a
        rw [show (0 : Int32).toInt = 0 by decide] at b
        omega) h4
      obtain ⟨n, hn, rfl⟩ := h
      have hn2 : 2 ≤ n := (nI_leI (a := 2) (by omega) (by omega)).mp h2
      refine br_t h2 (br_t h4 ?_)
      have R := rl_0 hn2 hn
      have e : (fun u => wpY_init (fun v => i_Rel 1 u v) (nI n)) = (fun u => i_Rel 1 u (nI n, 0, 0, (fun _ => 0), (fun _ => 0), (fun _ => 0), (fun _ => 0), (fun _ => 0), (fun _ => 0))) := by
        funext u
        apply propext
        constructor
        · intro h; exact (h.1 h2).1 h4
        · intro h; exact br_t h2 (br_t h4 h)
      rw [e]
      exact R
    · refine br_t h2 (br_f h4 ?_)
      have R := rl_0 (n := 4) (by omega) (by omega)
      have e : (fun u => wpY_init (fun v => i_Rel 1 u v) k0) = (fun u => i_Rel 1 u (nI 4, 0, 0, (fun _ => 0), (fun _ => 0), (fun _ => 0), (fun _ => 0), (fun _ => 0), (fun _ => 0))) := by
        funext u
        apply propext
        constructor
        · intro h; exact (h.1 h2).2 h4
        · intro h; exact br_t h2 (br_f h4 h)
      rw [e]
      exact R
  · refine br_f h2 ?_
    have R := rl_0 (n := 2) (by omega) (by omega)
    have e : (fun u => wpY_init (fun v => i_Rel 1 u v) k0) = (fun u => i_Rel 1 u (nI 2, 0, 0, (fun _ => 0), (fun _ => 0), (fun _ => 0), (fun _ => 0), (fun _ => 0), (fun _ => 0))) := by
      funext u
      apply propext
      constructor
      · intro h; exact h.2 h2
      · intro h; exact br_f h2 h
    rw [e]
    exact R
theorem i_vc_add {k : Nat} {u : SX} {v : SY} (I : i_Rel k u v) (hk : k + 3 ≤ 1537) (v1 : Int32) : wpX_add (fun r u' => wpY_add (fun r' v' => r' = r ∧ i_Rel (k + 3) u' v') v v1) u v1 := by
  refine rl_el (P := fun u v => wpX_add (fun r u' => wpY_add (fun r' v' => r' = r ∧ i_Rel (k + 3) u' v') v v1) u v1) I ?_
  intro n c f_known a_word a_partner a_work a_seen a_power a_next a_result a_scaled a_many a_later a_tally a_matrix a_track a_component g_known b_joined b_many b_coefficients b_colours b_component h2 h4 hc hw kx ky
  by_cases h0 : v1 = 0
  · exact br_t h0 (br_t h0 ⟨rfl, rl_mk h2 h4 hc hw kx ky⟩)
  · by_cases h1 : nI n ≤ v1
    · refine br_f h0 (br_t h1 (br_f h0 (br_c (fun _ => ⟨rfl, rl_mk h2 h4 hc hw kx ky⟩) (fun _ => br_f (Int32.not_lt.mpr h1) ⟨rfl, rl_mk h2 h4 hc hw kx ky⟩))))
    · by_cases h3 : -nI n < v1
      · have hL := bk_Lof h4 h0 h1 h3
        obtain ⟨-, -, -, g3, g4⟩ := bk_Lr hL h4
        by_cases c10 : c = 10
        · subst c10
          exact br_f h0 (br_f h1 (br_t h3 (br_t rfl (br_f h0 (br_f g3 (br_t g4 (br_t rfl ⟨rfl, rl_mk h2 h4 hc hw kx ky⟩)))))))
        · refine wd_addX h4 (by omega) hL (wd_addY h4 (by omega) hL ⟨rfl, rl_mk h2 h4 (by omega) (fun i hi => ?_) (Or.inl rfl) (Or.inl rfl)⟩)
          by_cases e : i = c
          · rw [e, pk_us]; exact hL
          · rw [pk_un e]; exact hw i (by omega)
      · exact br_f h0 (br_f h1 (br_f h3 (br_f h0 (br_t (Int32.not_lt.mp h3) ⟨rfl, rl_mk h2 h4 hc hw kx ky⟩))))
theorem rl_dw {n c j : Nat} {w : Nat → Int32} (hw : ∀ i, i < c → bk_L n (w i)) : ∀ i, i < c - 1 → bk_L n (bk_ff j (c - 1) (fun z => w (z + 1)) w i) := by
  intro i hi
  by_cases e : j ≤ i
  · rw [bk_ff_in e hi]; exact hw _ (by omega)
  · rw [bk_ff_out (by omega)]; exact hw _ (by omega)
theorem i_vc_drop {k : Nat} {u : SX} {v : SY} (I : i_Rel k u v) (hk : k + 3 ≤ 1537) (v1 : Int32) : wpX_drop (fun r u' => wpY_drop (fun r' v' => r' = r ∧ i_Rel (k + 3) u' v') v v1) u v1 := by
  refine rl_el (P := fun u v => wpX_drop (fun r u' => wpY_drop (fun r' v' => r' = r ∧ i_Rel (k + 3) u' v') v v1) u v1) I ?_
  intro n c f_known a_word a_partner a_work a_seen a_power a_next a_result a_scaled a_many a_later a_tally a_matrix a_track a_component g_known b_joined b_many b_coefficients b_colours b_component h2 h4 hc hw kx ky
  have no : ∀ (hx : v1 < 0 ∨ nI c ≤ v1), wpY_drop (fun r' v' => r' = -1002 ∧ i_Rel (k + 3) (nI n, nI c, nI (tb_J n), f_known, a_word, a_partner, a_work, cj_fa (tb_S n), cj_fa (tb_C n), cj_fa (tb_D n), a_seen, a_power, a_next, a_result, a_scaled, a_many, a_later, a_tally, a_matrix, a_track, a_component) v') (nI n, nI c, g_known, a_word, b_joined, b_many, b_coefficients, b_colours, b_component) v1 := by
    intro hx
    unfold wpY_drop
    exact wd_isY0 hx (br_t rfl ⟨rfl, rl_mk h2 h4 hc hw kx ky⟩)
  rcases pk_ix v1 (n := c) (by omega) with h | h | ⟨j, hj, rfl⟩
  · exact br_t h (no (Or.inl h))
  · by_cases h0 : v1 < 0
    · exact br_t h0 (no (Or.inl h0))
    · exact br_f h0 (br_f (Int32.not_lt.mpr h) (no (Or.inr h)))
  · exact wd_dropX h4 hc hj hw (wd_dropY hc hj ⟨rfl, rl_mk h2 h4 (by omega) (rl_dw hw) (Or.inl rfl) (Or.inl rfl)⟩)
theorem i_vc_turn {k : Nat} {u : SX} {v : SY} (I : i_Rel k u v) (hk : k + 3 ≤ 1537) : wpX_turn (fun r u' => wpY_turn (fun r' v' => r' = r ∧ i_Rel (k + 3) u' v') v) u := by
  refine rl_el (P := fun u v => wpX_turn (fun r u' => wpY_turn (fun r' v' => r' = r ∧ i_Rel (k + 3) u' v') v) u) I ?_
  intro n c f_known a_word a_partner a_work a_seen a_power a_next a_result a_scaled a_many a_later a_tally a_matrix a_track a_component g_known b_joined b_many b_coefficients b_colours b_component h2 h4 hc hw kx ky
  refine pk_eq c 0 (fun e => ?_) (fun e => ?_)
  · subst e
    exact br_t rfl ⟨rfl, rl_mk h2 h4 hc hw kx ky⟩
  · refine wd_dropX (k := 0) h4 hc (by omega) hw ?_
    refine wd_addX h4 (by omega) (hw 0 (by omega)) ?_
    refine br_f (nI_ne0 (by omega) (by omega)) ?_
    refine wd_dropY (k := 0) hc (by omega) ?_
    refine wd_addY h4 (by omega) (hw 0 (by omega)) ?_
    refine ⟨rfl, rl_mk h2 h4 (by omega) (fun i hi => ?_) (Or.inl rfl) (Or.inl rfl)⟩
    by_cases e1 : i = c - 1
    · rw [e1, pk_us]; exact hw 0 (by omega)
    · rw [pk_un e1]; exact rl_dw hw i (by omega)
theorem i_vc_mirror {k : Nat} {u : SX} {v : SY} (I : i_Rel k u v) (hk : k + 3 ≤ 1537) : wpX_mirror (fun r u' => wpY_mirror (fun r' v' => r' = r ∧ i_Rel (k + 3) u' v') v) u := by
  refine rl_el (P := fun u v => wpX_mirror (fun r u' => wpY_mirror (fun r' v' => r' = r ∧ i_Rel (k + 3) u' v') v) u) I ?_
  intro n c f_known a_word a_partner a_work a_seen a_power a_next a_result a_scaled a_many a_later a_tally a_matrix a_track a_component g_known b_joined b_many b_coefficients b_colours b_component h2 h4 hc hw kx ky
  refine wd_mirrorX h4 hc hw (wd_mirrorY hc ⟨rfl, rl_mk h2 h4 hc (fun i hi => ?_) (Or.inl rfl) (Or.inl rfl)⟩)
  rw [bk_ff_in (by omega) hi]
  exact bk_Ln (hw i hi)
theorem i_vc_reverse {k : Nat} {u : SX} {v : SY} (I : i_Rel k u v) (hk : k + 3 ≤ 1537) : wpX_reverse (fun r u' => wpY_reverse (fun r' v' => r' = r ∧ i_Rel (k + 3) u' v') v) u := by
  refine rl_el (P := fun u v => wpX_reverse (fun r u' => wpY_reverse (fun r' v' => r' = r ∧ i_Rel (k + 3) u' v') v) u) I ?_
  intro n c f_known a_word a_partner a_work a_seen a_power a_next a_result a_scaled a_many a_later a_tally a_matrix a_track a_component g_known b_joined b_many b_coefficients b_colours b_component h2 h4 hc hw kx ky
  refine wd_revX h4 hc hw (wd_revY hc ⟨rfl, rl_mk h2 h4 hc (fun i hi => ?_) (Or.inl rfl) (Or.inl rfl)⟩)
  rw [bk_ff_in (by omega) hi]
  exact hw _ (by omega)
theorem i_vc_letter {k : Nat} {u : SX} {v : SY} (I : i_Rel k u v) (hk : k + 3 ≤ 1537) (v1 : Int32) : wpX_letter (fun r => wpY_letter (fun r' => r' = r ∧ i_Rel (k + 3) u v) v v1) u v1 := by
  refine rl_el (P := fun u v => wpX_letter (fun r => wpY_letter (fun r' => r' = r ∧ i_Rel (k + 3) u v) v v1) u v1) I ?_
  intro n c f_known a_word a_partner a_work a_seen a_power a_next a_result a_scaled a_many a_later a_tally a_matrix a_track a_component g_known b_joined b_many b_coefficients b_colours b_component h2 h4 hc hw kx ky
  have no : ∀ (hx : v1 < 0 ∨ nI c ≤ v1), wpY_letter (fun r' => r' = -1002 ∧ i_Rel (k + 3) (nI n, nI c, nI (tb_J n), f_known, a_word, a_partner, a_work, cj_fa (tb_S n), cj_fa (tb_C n), cj_fa (tb_D n), a_seen, a_power, a_next, a_result, a_scaled, a_many, a_later, a_tally, a_matrix, a_track, a_component) (nI n, nI c, g_known, a_word, b_joined, b_many, b_coefficients, b_colours, b_component)) (nI n, nI c, g_known, a_word, b_joined, b_many, b_coefficients, b_colours, b_component) v1 := by
    intro hx
    unfold wpY_letter
    exact wd_isY0 hx (br_t rfl ⟨rfl, rl_mk h2 h4 hc hw kx ky⟩)
  rcases pk_ix v1 (n := c) (by omega) with h | h | ⟨j, hj, rfl⟩
  · exact br_t h (no (Or.inl h))
  · by_cases h0 : v1 < 0
    · exact br_t h0 (no (Or.inl h0))
    · exact br_f h0 (br_f (Int32.not_lt.mpr h) (no (Or.inr h)))
  · refine br_f (nI_pos (by omega)) (br_t (nI_lt hj (by omega)) ⟨vp_in_nI (by omega) (by omega), ?_⟩)
    unfold wpY_letter
    exact wd_isY hc hj (br_f (by decide) ⟨vp_in_nI (by omega) (by omega), rfl, rl_mk h2 h4 hc hw kx ky⟩)
theorem i_vc_writhe {k : Nat} {u : SX} {v : SY} (I : i_Rel k u v) (hk : k + 3 ≤ 1537) : wpX_writhe (fun r => wpY_writhe (fun r' => r' = r ∧ i_Rel (k + 3) u v) v) u := by
  refine rl_el (P := fun u v => wpX_writhe (fun r => wpY_writhe (fun r' => r' = r ∧ i_Rel (k + 3) u v) v) u) I ?_
  intro n c f_known a_word a_partner a_work a_seen a_power a_next a_result a_scaled a_many a_later a_tally a_matrix a_track a_component g_known b_joined b_many b_coefficients b_colours b_component h2 h4 hc hw kx ky
  exact wd_wrX h4 hc hw (wd_wrY hc ⟨rfl, rl_mk h2 h4 hc hw kx ky⟩)
end
section
-- the owed statements: loops, sums, strands, colourings
theorem rl_wb (w : Nat → Int32) : ∀ c, (wd_wr w c).natAbs ≤ c := by
  intro c
  induction c with
  | zero => exact Nat.le_refl _
  | succ c ih =>
    rw [wd_wr]
    have := sm_g1 (w c)
    omega
theorem rl_par : ∀ k : Nat, k < 21 → ((Int32.ofInt ((k : Int) - 10) &&& 1) = 0 ↔ Int32.ofInt ((k : Int) - 10) - Int32.ofInt ((k : Int) - 10) / 2 * 2 = 0) := by decide +kernel
theorem rl_parZ {z : Int} (h : z.natAbs ≤ 10) : (Int32.ofInt z &&& 1) = 0 ↔ Int32.ofInt z - Int32.ofInt z / 2 * 2 = 0 := by
  obtain ⟨k, hk⟩ : ∃ k : Nat, (k : Int) - 10 = z := ⟨(z + 10).toNat, by omega⟩
  rw [← hk]
  exact rl_par k (by omega)
theorem rl_big {x : Int32} {z : Int} (hz : z.natAbs ≤ 10) (h : x.toInt < -100 ∨ 100 < x.toInt) : 36 < (x + 3 * Int32.ofInt z).toInt ∨ (x + 3 * Int32.ofInt z).toInt < -36 := by
  have e : x + 3 * Int32.ofInt z = Int32.ofInt (x.toInt + 3 * z) := by
    rw [Int32.ofInt_add, Int32.ofInt_mul, Int32.ofInt_toInt]; rfl
  have b1 := x.le_toInt
  have b2 := x.toInt_lt
  rw [e, Int32.toInt_ofInt]
  generalize x.toInt = y at *
  have hs : (Int32.size : Int) = 4294967296 := rfl
  unfold Int.bmod
  rw [hs]
  dsimp only
  have hm : (0 ≤ y + 3 * z ∧ (y + 3 * z) % 4294967296 = y + 3 * z) ∨ (y + 3 * z < 0 ∧ (y + 3 * z) % 4294967296 = y + 3 * z + 4294967296) := by
    rcases Int.lt_or_le (y + 3 * z) 0 with q | q
    · exact Or.inr ⟨q, by omega⟩
    · exact Or.inl ⟨q, by omega⟩
  generalize (y + 3 * z) % 4294967296 = r at *
  split <;> omega
theorem i_vc_loops {k : Nat} {u : SX} {v : SY} (I : i_Rel k u v) (hk : k + 3 ≤ 1537) (v1 : Int32) : wpX_loops (fun r => wpY_loops (fun r' v' => r' = r ∧ i_Rel (k + 3) u v') v v1) u v1 := by
  refine rl_el (P := fun u v => wpX_loops (fun r => wpY_loops (fun r' v' => r' = r ∧ i_Rel (k + 3) u v') v v1) u v1) I ?_
  intro n c f_known a_word a_partner a_work a_seen a_power a_next a_result a_scaled a_many a_later a_tally a_matrix a_track a_component g_known b_joined b_many b_coefficients b_colours b_component h2 h4 hc hw kx ky
  refine ul_loopsX h2 h4 hc hw ?_
  unfold wpY_loops
  exact uf_count h4 hc hw (fun g => ⟨rfl, rl_mk h2 h4 hc hw kx ky⟩)
theorem i_vc_states {k : Nat} {u : SX} {v : SY} (I : i_Rel k u v) (hk : k + 3 ≤ 1537) (v1 : Int32) : wpX_states (fun r u' => wpY_states (fun r' v' => r' = r ∧ i_Rel (k + 3) u' v') v v1) u v1 := by
  refine rl_el (P := fun u v => wpX_states (fun r u' => wpY_states (fun r' v' => r' = r ∧ i_Rel (k + 3) u' v') v v1) u v1) I ?_
  intro n c f_known a_word a_partner a_work a_seen a_power a_next a_result a_scaled a_many a_later a_tally a_matrix a_track a_component g_known b_joined b_many b_coefficients b_colours b_component h2 h4 hc hw kx ky
  unfold wpX_states
  refine fx_find h2 h4 hc hw kx (fun pw nx rs sc mn lt tl H1 H2 => ?_)
  have Y : ∀ r : Int32, (∀ g many coef : Nat → Int32, wy_M many (sm_T n c a_word) → wy_C coef (sm_B n c a_word) → ((v1 < 0 → 0 = r) ∧ (¬ v1 < 0 → ((v1 ≤ 15 → vp_in v1 16 ∧ many v1.toNatClampNeg = r) ∧ (¬ v1 ≤ 15 → 0 = r))))) → wpY_states (fun r' v' => r' = r ∧ i_Rel (k + 3) (nI n, nI c, nI (tb_J n), 1, a_word, a_partner, a_work, cj_fa (tb_S n), cj_fa (tb_C n), cj_fa (tb_D n), a_seen, pw, nx, rs, sc, mn, lt, tl, a_matrix, a_track, a_component) v') (nI n, nI c, g_known, a_word, b_joined, b_many, b_coefficients, b_colours, b_component) v1 := by
    intro r hr
    unfold wpY_states
    refine wy_work h2 h4 hc hw ky (fun g many coef G1 G2 => ?_)
    have R := rl_mk (k := k + 3) (a_word := a_word) (f_known := 1) (a_partner := a_partner) (a_work := a_work) (a_seen := a_seen) (a_power := pw) (a_next := nx) (a_scaled := sc) (a_many := mn) (a_later := lt) (a_matrix := a_matrix) (a_track := a_track) (a_component := a_component) (g_known := 1) (b_joined := g) (b_colours := b_colours) (b_component := b_component) h2 h4 hc hw (Or.inr ⟨rfl, H1, H2⟩) (Or.inr ⟨rfl, G1, G2⟩)
    obtain ⟨a, b⟩ := hr g many coef G1 G2
    exact br_c (fun z => ⟨a z, R⟩) (fun z => br_c (fun y => ⟨((b z).1 y).1, ((b z).1 y).2, R⟩) (fun y => ⟨(b z).2 y, R⟩))
  by_cases h0 : v1 < 0
  · exact br_t h0 (Y 0 (fun g many coef G1 G2 => br_t h0 rfl))
  · refine br_f h0 ?_
    obtain ⟨j, hj, rfl⟩ := nI_of h0
    refine pk_lt j 16 (fun z => ⟨vp_in_nI z (by omega), Y _ (fun g many coef G1 G2 => br_f h0 (br_t (nI_le (b := 15) (by omega) (by omega)) ⟨vp_in_nI z (by omega), ?_⟩))⟩) (fun z => Y 0 (fun g many coef G1 G2 => br_f h0 (br_f (nI_ge (a := 15) (by omega) (by omega)) rfl)))
    rw [nI_clamp (by omega), G1 j z, H2 j z]
theorem i_vc_bracket {k : Nat} {u : SX} {v : SY} (I : i_Rel k u v) (hk : k + 3 ≤ 1537) (v1 : Int32) : wpX_bracket (fun r u' => wpY_bracket (fun r' v' => r' = r ∧ i_Rel (k + 3) u' v') v v1) u v1 := by
  refine rl_el (P := fun u v => wpX_bracket (fun r u' => wpY_bracket (fun r' v' => r' = r ∧ i_Rel (k + 3) u' v') v v1) u v1) I ?_
  intro n c f_known a_word a_partner a_work a_seen a_power a_next a_result a_scaled a_many a_later a_tally a_matrix a_track a_component g_known b_joined b_many b_coefficients b_colours b_component h2 h4 hc hw kx ky
  have hz : ∀ y : Int, (36 < y ∨ y < -36) → sm_B n c a_word y = 0 := fun y hy => sm_B_out h2 h4 hc hw hy
  unfold wpX_bracket
  refine fx_find h2 h4 hc hw kx (fun pw nx rs sc mn lt tl H1 H2 => ?_)
  refine an_cX H1 hz ?_
  unfold wpY_bracket
  refine wy_work h2 h4 hc hw ky (fun g many coef G1 G2 => ?_)
  exact an_cY G2 hz ⟨rfl, rl_mk h2 h4 hc hw (Or.inr ⟨rfl, H1, H2⟩) (Or.inr ⟨rfl, G1, G2⟩)⟩
theorem i_vc_invariant {k : Nat} {u : SX} {v : SY} (I : i_Rel k u v) (hk : k + 3 ≤ 1537) (v1 : Int32) : wpX_invariant (fun r u' => wpY_invariant (fun r' v' => r' = r ∧ i_Rel (k + 3) u' v') v v1) u v1 := by
  refine rl_el (P := fun u v => wpX_invariant (fun r u' => wpY_invariant (fun r' v' => r' = r ∧ i_Rel (k + 3) u' v') v v1) u v1) I ?_
  intro n c f_known a_word a_partner a_work a_seen a_power a_next a_result a_scaled a_many a_later a_tally a_matrix a_track a_component g_known b_joined b_many b_coefficients b_colours b_component h2 h4 hc hw kx ky
  have hz : ∀ y : Int, (36 < y ∨ y < -36) → sm_B n c a_word y = 0 := fun y hy => sm_B_out h2 h4 hc hw hy
  have hW : (wd_wr a_word c).natAbs ≤ 10 := Nat.le_trans (rl_wb a_word c) hc
  have far : (v1.toInt < -100 ∨ 100 < v1.toInt) → wpY_invariant (fun r' v' => r' = 0 ∧ i_Rel (k + 3) (nI n, nI c, nI (tb_J n), f_known, a_word, a_partner, a_work, cj_fa (tb_S n), cj_fa (tb_C n), cj_fa (tb_D n), a_seen, a_power, a_next, a_result, a_scaled, a_many, a_later, a_tally, a_matrix, a_track, a_component) v') (nI n, nI c, g_known, a_word, b_joined, b_many, b_coefficients, b_colours, b_component) v1 := by
    intro hf
    unfold wpY_invariant
    refine wy_work h2 h4 hc hw ky (fun g many coef G1 G2 => ?_)
    refine wd_wrY hc (an_cY G2 hz ?_)
    rw [hz _ (rl_big hW hf)]
    exact ⟨by decide, br_c (fun _ => ⟨rfl, rl_mk h2 h4 hc hw kx (Or.inr ⟨rfl, G1, G2⟩)⟩) (fun _ => ⟨rfl, rl_mk h2 h4 hc hw kx (Or.inr ⟨rfl, G1, G2⟩)⟩)⟩
  have e1 : (-100 : Int32).toInt = -100 := by decide
  have e2 : (100 : Int32).toInt = 100 := by decide
  refine br_c (fun q => far ?_) (fun q => br_c (fun q2 => ?_) (fun q2 => far ?_))
  · rw [Int32.lt_iff_toInt_lt, e1] at q
    exact Or.inl q
  · refine fx_find h2 h4 hc hw kx (fun pw nx rs sc mn lt tl H1 H2 => ?_)
    refine wd_wrX h4 hc hw (an_cX H1 hz ?_)
    refine br_c (fun p1 => ?_) (fun p1 => ?_)
    · unfold wpY_invariant
      refine wy_work h2 h4 hc hw ky (fun g many coef G1 G2 => ?_)
      refine wd_wrY hc (an_cY G2 hz ⟨by decide, br_t ((rl_parZ hW).mp p1) ⟨rfl, rl_mk h2 h4 hc hw (Or.inr ⟨rfl, H1, H2⟩) (Or.inr ⟨rfl, G1, G2⟩)⟩⟩)
    · unfold wpY_invariant
      refine wy_work h2 h4 hc hw ky (fun g many coef G1 G2 => ?_)
      refine wd_wrY hc (an_cY G2 hz ⟨by decide, br_f (fun z => p1 ((rl_parZ hW).mpr z)) ⟨rfl, rl_mk h2 h4 hc hw (Or.inr ⟨rfl, H1, H2⟩) (Or.inr ⟨rfl, G1, G2⟩)⟩⟩)
  · rw [Int32.le_iff_toInt_le, e2] at q2
    exact Or.inr (by omega)
theorem i_vc_spread {k : Nat} {u : SX} {v : SY} (I : i_Rel k u v) (hk : k + 3 ≤ 1537) : wpX_spread (fun r u' => wpY_spread (fun r' v' => r' = r ∧ i_Rel (k + 3) u' v') v) u := by
  refine rl_el (P := fun u v => wpX_spread (fun r u' => wpY_spread (fun r' v' => r' = r ∧ i_Rel (k + 3) u' v') v) u) I ?_
  intro n c f_known a_word a_partner a_work a_seen a_power a_next a_result a_scaled a_many a_later a_tally a_matrix a_track a_component g_known b_joined b_many b_coefficients b_colours b_component h2 h4 hc hw kx ky
  have hz : ∀ y : Int, (36 < y ∨ y < -36) → sm_B n c a_word y = 0 := fun y hy => sm_B_out h2 h4 hc hw hy
  obtain ⟨lo, hi, l1, l2, l3, l4, l5, l6⟩ := an_lo (β := fun y => Int32.ofInt (sm_B n c a_word y)) (sm_nz h2 h4 hc hw)
  unfold wpX_spread
  refine fx_find h2 h4 hc hw kx (fun pw nx rs sc mn lt tl H1 H2 => ?_)
  refine an_leX (β := fun y => Int32.ofInt (sm_B n c a_word y)) (lo := lo) (by omega) H1 l3 l5 ?_
  refine an_spX (β := fun y => Int32.ofInt (sm_B n c a_word y)) (hi := hi) l1 l2 H1 l4 l6 ?_
  unfold wpY_spread
  refine wy_work h2 h4 hc hw ky (fun g many coef G1 G2 => ?_)
  exact an_spY (lo := lo) (hi := hi) l1 l2 G2 hz l3 l5 l4 l6 ⟨rfl, rl_mk h2 h4 hc hw (Or.inr ⟨rfl, H1, H2⟩) (Or.inr ⟨rfl, G1, G2⟩)⟩
theorem i_vc_determinant {k : Nat} {u : SX} {v : SY} (I : i_Rel k u v) (hk : k + 3 ≤ 1537) : wpX_determinant (fun r u' => wpY_determinant (fun r' v' => r' = r ∧ i_Rel (k + 3) u' v') v) u := by
  refine rl_el (P := fun u v => wpX_determinant (fun r u' => wpY_determinant (fun r' v' => r' = r ∧ i_Rel (k + 3) u' v') v) u) I ?_
  intro n c f_known a_word a_partner a_work a_seen a_power a_next a_result a_scaled a_many a_later a_tally a_matrix a_track a_component g_known b_joined b_many b_coefficients b_colours b_component h2 h4 hc hw kx ky
  have hz : ∀ y : Int, (36 < y ∨ y < -36) → sm_B n c a_word y = 0 := fun y hy => sm_B_out h2 h4 hc hw hy
  have hz2 : ∀ y : Int, 40 < y → Int32.ofInt (sm_B n c a_word y) = 0 := by
    intro y hy
    rw [hz y (by omega)]; rfl
  obtain ⟨lo, hi, l1, l2, l3, l4, l5, l6⟩ := an_lo (β := fun y => Int32.ofInt (sm_B n c a_word y)) (sm_nz h2 h4 hc hw)
  unfold wpX_determinant
  refine fx_find h2 h4 hc hw kx (fun pw nx rs sc mn lt tl H1 H2 => ?_)
  refine an_leX (β := fun y => Int32.ofInt (sm_B n c a_word y)) (lo := lo) (by omega) H1 l3 l5 ?_
  refine an_dtX (β := fun y => Int32.ofInt (sm_B n c a_word y)) (lo := lo) (by omega) H1 hz2 ?_
  unfold wpY_determinant
  refine wy_work h2 h4 hc hw ky (fun g many coef G1 G2 => ?_)
  refine an_loY (lo := lo) (by omega) G2 hz l3 l5 ?_
  exact an_dtY (lo := lo) (by omega) G2 hz ⟨rfl, rl_mk h2 h4 hc hw (Or.inr ⟨rfl, H1, H2⟩) (Or.inr ⟨rfl, G1, G2⟩)⟩
theorem i_vc_components {k : Nat} {u : SX} {v : SY} (I : i_Rel k u v) (hk : k + 3 ≤ 1537) : wpX_components (fun r u' => wpY_components (fun r' v' => r' = r ∧ i_Rel (k + 3) u' v') v) u := by
  refine rl_el (P := fun u v => wpX_components (fun r u' => wpY_components (fun r' v' => r' = r ∧ i_Rel (k + 3) u' v') v) u) I ?_
  intro n c f_known a_word a_partner a_work a_seen a_power a_next a_result a_scaled a_many a_later a_tally a_matrix a_track a_component g_known b_joined b_many b_coefficients b_colours b_component h2 h4 hc hw kx ky
  unfold wpX_components
  refine pm_compX h4 hc hw (fun tr cp HA => ?_)
  refine pm_8X (C := pm_k n c a_word) h4 ⟨HA.1, fun j hj => HA.2 j (by omega)⟩ ?_
  unfold wpY_components
  refine pm_groupY h2 h4 hc hw (fun cp2 HB => ?_)
  exact pm_8Y (C := pm_k n c a_word) h4 HB (fun j hj => (HA.2 j (by omega)).2) ⟨rfl, rl_mk h2 h4 hc hw kx ky⟩
theorem i_vc_ends {k : Nat} {u : SX} {v : SY} (I : i_Rel k u v) (hk : k + 3 ≤ 1537) (v1 : Int32) : wpX_ends (fun r u' => wpY_ends (fun r' => r' = r ∧ i_Rel (k + 3) u' v) v v1) u v1 := by
  refine rl_el (P := fun u v => wpX_ends (fun r u' => wpY_ends (fun r' => r' = r ∧ i_Rel (k + 3) u' v) v v1) u v1) I ?_
  intro n c f_known a_word a_partner a_work a_seen a_power a_next a_result a_scaled a_many a_later a_tally a_matrix a_track a_component g_known b_joined b_many b_coefficients b_colours b_component h2 h4 hc hw kx ky
  by_cases h0 : v1 < 0
  · exact br_t h0 (br_f (by decide) (br_t h0 (br_t rfl ⟨rfl, rl_mk h2 h4 hc hw kx ky⟩)))
  · by_cases h1 : v1 < nI n
    · obtain ⟨j, hj, rfl⟩ := nI_of h0
      have hjn : j < n := (nI_ltI hj (by omega)).mp h1
      refine br_f h0 (br_t h1 (br_t rfl (pm_ends h4 hc hw (fun tr H => ?_))))
      refine pm_endX h4 hw hjn H ?_
      refine br_f h0 (br_f (Int32.not_le.mpr h1) (br_f (by decide) (pm_endY h4 hc hw hjn ⟨rfl, rl_mk h2 h4 hc hw kx ky⟩)))
    · exact br_f h0 (br_f h1 (br_f (by decide) (br_f h0 (br_t (Int32.not_lt.mp h1) (br_t rfl ⟨rfl, rl_mk h2 h4 hc hw kx ky⟩)))))
theorem i_vc_linking {k : Nat} {u : SX} {v : SY} (I : i_Rel k u v) (hk : k + 3 ≤ 1537) (v1 : Int32) (v2 : Int32) : wpX_linking (fun r u' => wpY_linking (fun r' v' => r' = r ∧ i_Rel (k + 3) u' v') v v1 v2) u v1 v2 := by
  refine rl_el (P := fun u v => wpX_linking (fun r u' => wpY_linking (fun r' v' => r' = r ∧ i_Rel (k + 3) u' v') v v1 v2) u v1 v2) I ?_
  intro n c f_known a_word a_partner a_work a_seen a_power a_next a_result a_scaled a_many a_later a_tally a_matrix a_track a_component g_known b_joined b_many b_coefficients b_colours b_component h2 h4 hc hw kx ky
  have bad : ∀ x : Int32, (x < 0 ∨ ¬ x < nI n) → ∀ post : Int32 → Prop, post 1 → wpX_badPosition post (nI n, nI c, nI (tb_J n), f_known, a_word, a_partner, a_work, cj_fa (tb_S n), cj_fa (tb_C n), cj_fa (tb_D n), a_seen, a_power, a_next, a_result, a_scaled, a_many, a_later, a_tally, a_matrix, a_track, a_component) x := by
    intro x hx post P
    by_cases a : x < 0
    · exact br_t a P
    · exact br_f a (br_f (by rcases hx with b | b; exact absurd b a; exact b) P)
  have good : ∀ x : Int32, ¬ x < 0 → x < nI n → ∀ post : Int32 → Prop, post 0 → wpX_badPosition post (nI n, nI c, nI (tb_J n), f_known, a_word, a_partner, a_work, cj_fa (tb_S n), cj_fa (tb_C n), cj_fa (tb_D n), a_seen, a_power, a_next, a_result, a_scaled, a_many, a_later, a_tally, a_matrix, a_track, a_component) x := fun x a b post P => br_f a (br_t b P)
  have isN : ∀ x : Int32, (x < 0 ∨ ¬ x < nI n) → ∀ post : Int32 → Prop, post 0 → wpY_isPosition post (nI n, nI c, g_known, a_word, b_joined, b_many, b_coefficients, b_colours, b_component) x := by
    intro x hx post P
    by_cases a : x < 0
    · exact br_t a P
    · exact br_f a (br_t (by rcases hx with b | b; exact absurd b a; exact Int32.not_lt.mp b) P)
  have isY : ∀ x : Int32, ¬ x < 0 → x < nI n → ∀ post : Int32 → Prop, post 1 → wpY_isPosition post (nI n, nI c, g_known, a_word, b_joined, b_many, b_coefficients, b_colours, b_component) x := fun x a b post P => br_f a (br_f (Int32.not_le.mpr b) P)
  have R := rl_mk (k := k + 3) (a_partner := a_partner) (a_work := a_work) (a_seen := a_seen) (a_power := a_power) (a_next := a_next) (a_scaled := a_scaled) (a_many := a_many) (a_later := a_later) (a_matrix := a_matrix) (a_track := a_track) (a_component := a_component) (b_joined := b_joined) (b_colours := b_colours) (b_component := b_component) h2 h4 hc hw kx ky
  unfold wpX_linking
  by_cases h1 : v1 < 0 ∨ ¬ v1 < nI n
  · refine bad v1 h1 _ (br_f (by decide) ?_)
    unfold wpY_linking
    exact isN v1 h1 _ (br_t rfl ⟨rfl, R⟩)
  · have a1 : ¬ v1 < 0 := fun z => h1 (Or.inl z)
    have b1 : v1 < nI n := Classical.byContradiction (fun z => h1 (Or.inr z))
    refine good v1 a1 b1 _ (br_t rfl ?_)
    by_cases h3 : v2 < 0 ∨ ¬ v2 < nI n
    · refine bad v2 h3 _ (br_f (by decide) ?_)
      unfold wpY_linking
      exact isY v1 a1 b1 _ (br_f (by decide) (isN v2 h3 _ (br_t rfl ⟨rfl, R⟩)))
    · have a2 : ¬ v2 < 0 := fun z => h3 (Or.inl z)
      have b2 : v2 < nI n := Classical.byContradiction (fun z => h3 (Or.inr z))
      refine good v2 a2 b2 _ (br_t rfl ?_)
      obtain ⟨i, hi, rfl⟩ := nI_of a1
      obtain ⟨j, hj, rfl⟩ := nI_of a2
      have hin : i < n := (nI_ltI hi (by omega)).mp b1
      have hjn : j < n := (nI_ltI hj (by omega)).mp b2
      refine pm_compX h4 hc hw (fun tr cp HA => ?_)
      obtain ⟨x1, x2⟩ := HA.2 i (by omega)
      obtain ⟨y1, y2⟩ := HA.2 j (by omega)
      have HC : ∀ j, j < n → (pm_k n c a_word).getD j 0 < 4 := fun j hj => (HA.2 j (by omega)).2
      have Y : ∀ post : Int32 → SY → Prop, (∀ cp2, (∀ j, j < n → cp2 j = nI ((pm_k n c a_word).getD j 0)) → ((nI ((pm_k n c a_word).getD i 0) = nI ((pm_k n c a_word).getD j 0) → post (-1002) (nI n, nI c, g_known, a_word, b_joined, b_many, b_coefficients, b_colours, cp2)) ∧ (¬ nI ((pm_k n c a_word).getD i 0) = nI ((pm_k n c a_word).getD j 0) → ∃ n52 : Nat, wY_linking_52 post (nI ((pm_k n c a_word).getD i 0)) (nI ((pm_k n c a_word).getD j 0)) (nI n) (nI c) g_known n52 0 a_word b_joined b_many b_coefficients b_colours cp2))) → wpY_linking post (nI n, nI c, g_known, a_word, b_joined, b_many, b_coefficients, b_colours, b_component) (nI i) (nI j) := by
        intro post hp
        unfold wpY_linking
        refine isY _ a1 b1 _ (br_f (by decide) (isY _ a2 b2 _ (br_f (by decide) (pm_groupY h2 h4 hc hw (fun cp2 HB => ?_)))))
        refine ⟨vp_in_nI (by omega) (by omega), nm_r (by rw [nI_clamp (by omega), HB i hin]) ⟨vp_in_nI (by omega) (by omega), nm_r (by rw [nI_clamp (by omega), HB j hjn]) (hp cp2 HB)⟩⟩
      refine ⟨vp_in_nI (by omega) (by omega), nm_r (by rw [nI_clamp (by omega), x1]) ⟨vp_in_nI (by omega) (by omega), nm_r (by rw [nI_clamp (by omega), y1]) ?_⟩⟩
      refine br_c (fun q => Y _ (fun cp2 HB => br_t q ⟨rfl, rl_mk h2 h4 hc hw kx ky⟩)) (fun q => pm_start (fun tr2 H2 => ⟨c + 1, ?_⟩))
      refine pm_59 h4 hc hw x2 y2 HA (fun tr3 => Y _ (fun cp2 HB => br_f q ?_)) c 0 tr2 (by omega) H2
      exact pm_52 h4 hc hw x2 y2 HB HC (fun co => ⟨rfl, rl_mk h2 h4 hc hw kx ky⟩)
theorem i_vc_colourings {k : Nat} {u : SX} {v : SY} (I : i_Rel k u v) (hk : k + 3 ≤ 1537) (v1 : Int32) : wpX_colourings (fun r u' => wpY_colourings (fun r' v' => r' = r ∧ i_Rel (k + 3) u' v') v v1) u v1 := by
  refine rl_el (P := fun u v => wpX_colourings (fun r u' => wpY_colourings (fun r' v' => r' = r ∧ i_Rel (k + 3) u' v') v v1) u v1) I ?_
  intro n c f_known a_word a_partner a_work a_seen a_power a_next a_result a_scaled a_many a_later a_tally a_matrix a_track a_component g_known b_joined b_many b_coefficients b_colours b_component h2 h4 hc hw kx ky
  by_cases e2 : v1 = 2
  · subst e2
    have hp : cl_P 2 := Or.inl rfl
    refine br_t rfl (cl_X (p := 2) h4 hc hp hw (fun a => br_t rfl (cl_Y (p := 2) h4 hc hp hw (fun co => ⟨?_, rl_mk h2 h4 hc hw kx ky⟩))))
    rw [cl_law h4 hp hw]
  · by_cases e3 : v1 = 3
    · subst e3
      have hp : cl_P 3 := Or.inr (Or.inl rfl)
      refine br_f e2 (br_t rfl (cl_X (p := 3) h4 hc hp hw (fun a => br_f e2 (br_t rfl (cl_Y (p := 3) h4 hc hp hw (fun co => ⟨?_, rl_mk h2 h4 hc hw kx ky⟩))))))
      rw [cl_law h4 hp hw]
    · by_cases e5 : v1 = 5
      · subst e5
        have hp : cl_P 5 := Or.inr (Or.inr (Or.inl rfl))
        refine br_f e2 (br_f e3 (br_t rfl (cl_X (p := 5) h4 hc hp hw (fun a => br_f e2 (br_f e3 (br_t rfl (cl_Y (p := 5) h4 hc hp hw (fun co => ⟨?_, rl_mk h2 h4 hc hw kx ky⟩))))))))
        rw [cl_law h4 hp hw]
      · by_cases e7 : v1 = 7
        · subst e7
          have hp : cl_P 7 := Or.inr (Or.inr (Or.inr rfl))
          refine br_f e2 (br_f e3 (br_f e5 (br_t rfl (cl_X (p := 7) h4 hc hp hw (fun a => br_f e2 (br_f e3 (br_f e5 (br_t rfl (cl_Y (p := 7) h4 hc hp hw (fun co => ⟨?_, rl_mk h2 h4 hc hw kx ky⟩))))))))))
          rw [cl_law h4 hp hw]
        · exact br_f e2 (br_f e3 (br_f e5 (br_f e7 (br_f e2 (br_f e3 (br_f e5 (br_f e7 ⟨rfl, rl_mk h2 h4 hc hw kx ky⟩)))))))
end
