section
/-- the pure picture of one matrix: S i: where row i begins, C k, V k: column and value of entry k -/
def sk_P (S C : Nat → Nat) (V : Nat → Int32) : Prop := S 0 = 0 ∧ (∀ i, i < 6 → S i ≤ S (i + 1)) ∧ (∀ i, i < 6 → S (i + 1) ≤ S i + 6) ∧ (∀ k, k < S 6 → C k < 6) ∧ (∀ k, k < S 6 → V k ≠ 0) ∧ (∀ i, i < 6 → ∀ k l, S i ≤ k → k < l → l < S (i + 1) → C k < C l)
/-- slot s of the arrays holds the picture -/
def sk_S (a1 a2 a3 : Nat → Int32) (s : Nat) (S C : Nat → Nat) (V : Nat → Int32) : Prop := sk_P S C V ∧ (∀ i, i ≤ 6 → a1 (s * 7 + i) = nI (S i)) ∧ (∀ k, k < S 6 → a2 (s * 36 + k) = nI (C k)) ∧ (∀ k, k < S 6 → a3 (s * 36 + k) = V k)
/-- every slot holds some picture -/
def sk_K (a1 a2 a3 : Nat → Int32) : Prop := ∀ s, s < 5 → ∃ (S C : Nat → Nat) (V : Nat → Int32), sk_S a1 a2 a3 s S C V
/-- the matrix that is being made: rows below i are done, row i has columns below b so far; m entries -/
def sk_B (a4 a5 a6 : Nat → Int32) (i m b : Nat) : Prop := ∃ S C : Nat → Nat, S 0 = 0 ∧ (∀ r, r ≤ i → a4 r = nI (S r)) ∧ (∀ r, r < i → S r ≤ S (r + 1)) ∧ (∀ r, r < i → S (r + 1) ≤ S r + 6) ∧ S i ≤ m ∧ m ≤ S i + b ∧ (∀ k, k < m → a5 k = nI (C k)) ∧ (∀ k, k < m → C k < 6) ∧ (∀ k, k < m → a6 k ≠ 0) ∧ (∀ r, r < i → ∀ k l, S r ≤ k → k < l → l < S (r + 1) → C k < C l) ∧ (∀ k l, S i ≤ k → k < l → l < m → C k < C l) ∧ (∀ k, S i ≤ k → k < m → C k < b)
theorem sk_mono {S : Nat → Nat} {n : Nat} (h : ∀ i, i < n → S i ≤ S (i + 1)) : ∀ d i, i + d ≤ n → S i ≤ S (i + d) := by
  intro d
  induction d with
  | zero => intro i _; exact Nat.le_refl _
  | succ d ih =>
    intro i hi
    have h1 := ih i (by omega)
    have h2 := h (i + d) (by omega)
    exact Nat.le_trans h1 h2
theorem sk_up {S : Nat → Nat} {n : Nat} (h0 : S 0 = 0) (h : ∀ i, i < n → S (i + 1) ≤ S i + 6) : ∀ i, i ≤ n → S i ≤ 6 * i := by
  intro i
  induction i with
  | zero => intro _; omega
  | succ i ih =>
    intro hi
    have h1 := ih (by omega)
    have h2 := h i (by omega)
    omega
theorem sk_bd {S C : Nat → Nat} {V : Nat → Int32} (h : sk_P S C V) {i : Nat} (hi : i < 6) : S i ≤ S (i + 1) ∧ S (i + 1) ≤ S i + 6 ∧ S (i + 1) ≤ S 6 ∧ S 6 ≤ 36 := by
  obtain ⟨h0, h1, h2, _⟩ := h
  have e := sk_mono h1 (6 - (i + 1)) (i + 1) (by omega)
  rw [show i + 1 + (6 - (i + 1)) = 6 by omega] at e
  exact ⟨h1 i hi, h2 i hi, e, sk_up h0 h2 6 (by omega)⟩
theorem sk_36 {S C : Nat → Nat} {V : Nat → Int32} (h : sk_P S C V) : S 6 ≤ 36 := (sk_bd h (show 0 < 6 by omega)).2.2.2
/-- every entry lies in a row -/
theorem sk_row {S C : Nat → Nat} {V : Nat → Int32} (h : sk_P S C V) {k : Nat} (hk : k < S 6) : ∃ i, i < 6 ∧ S i ≤ k ∧ k < S (i + 1) := by
  have key : ∀ n, n ≤ 6 → k < S n → ∃ i, i < 6 ∧ S i ≤ k ∧ k < S (i + 1) := by
    intro n
    induction n with
    | zero =>
      intro _ hk0
      have := h.1
      omega
    | succ n ih =>
      intro hn hkn
      by_cases hc : k < S n
      · exact ih (by omega) hc
      · exact ⟨n, by omega, by omega, hkn⟩
  exact key 6 (Nat.le_refl 6) hk
theorem sk_b8 : ∀ c, c < 128 → (nI c).toInt8.toInt32 = nI c := by decide +kernel
theorem sk_nb {c : Nat} (h : c < 128) : vp_nar .byte (nI c) = nI c := by
  rw [vp_nar_byte, sk_b8 c h]
theorem sk_e7 (s i : Nat) : nI s * 7 + nI i = nI (s * 7 + i) := by
  rw [show (7 : Int32) = nI 7 from rfl, pk_mul, nI_add]
theorem sk_e7' (s i : Nat) : nI s * 7 + nI i + 1 = nI (s * 7 + (i + 1)) := by
  rw [sk_e7, nI_1]
  rfl
theorem sk_e36 (s i : Nat) : nI s * 36 + nI i = nI (s * 36 + i) := by
  rw [show (36 : Int32) = nI 36 from rfl, pk_mul, nI_add]
theorem sk_p1 (s k : Nat) : nI (s * 36 + k) + 1 = nI (s * 36 + (k + 1)) := nI_1 _
theorem sk_from {post : Int32 → Prop} {f : Int32} {a1 a2 a3 a4 a5 a6 a7 : Nat → Int32} {s i : Nat} {S C : Nat → Nat} {V : Nat → Int32} (h : sk_S a1 a2 a3 s S C V) (hs : s < 5) (hi : i < 6) (hp : post (nI (s * 36 + S i))) : wpX_from post (f, a1, a2, a3, a4, a5, a6, a7) (nI s) (nI i) := by
  unfold wpX_from
  dsimp only
  rw [sk_e7, nI_clamp (by omega), h.2.1 i (by omega), sk_e36]
  exact ⟨vp_in_nI (by omega) (by omega), hp⟩
theorem sk_upTo {post : Int32 → Prop} {f : Int32} {a1 a2 a3 a4 a5 a6 a7 : Nat → Int32} {s i : Nat} {S C : Nat → Nat} {V : Nat → Int32} (h : sk_S a1 a2 a3 s S C V) (hs : s < 5) (hi : i < 6) (hp : post (nI (s * 36 + S (i + 1)))) : wpX_upTo post (f, a1, a2, a3, a4, a5, a6, a7) (nI s) (nI i) := by
  unfold wpX_upTo
  dsimp only
  rw [sk_e7', nI_clamp (by omega), h.2.1 (i + 1) (by omega), sk_e36]
  exact ⟨vp_in_nI (by omega) (by omega), hp⟩
theorem sk_slot {post : Int32 → Prop} {x : Int32} (h0 : post 0) (h1 : ∀ s, s < 5 → x = nI s → post 1) : wpX_isSlot post () x := by
  refine br_c (fun _ => h0) (fun hn => br_c (fun _ => h0) (fun h5 => ?_))
  rcases pk_ix x (n := 5) (by omega) with h | h | ⟨j, hj, e⟩
  · exact absurd h hn
  · exact absurd h h5
  · exact h1 j hj e
theorem sk_index {post : Int32 → Prop} {x : Int32} (h0 : post 0) (h1 : ∀ s, s < 6 → x = nI s → post 1) : wpX_isIndex post () x := by
  refine br_c (fun _ => h0) (fun hn => br_c (fun _ => h0) (fun h5 => ?_))
  rcases pk_ix x (n := 6) (by omega) with h | h | ⟨j, hj, e⟩
  · exact absurd h hn
  · exact absurd h h5
  · exact h1 j hj e
theorem sk_slotT {post : Int32 → Prop} {s : Nat} (hs : s < 5) (h : post 1) : wpX_isSlot post () (nI s) :=
  br_f (nI_pos (by omega)) (br_f (nI_ge (b := 5) hs (by omega)) h)
theorem sk_indexT {post : Int32 → Prop} {s : Nat} (hs : s < 6) (h : post 1) : wpX_isIndex post () (nI s) :=
  br_f (nI_pos (by omega)) (br_f (nI_ge (b := 6) hs (by omega)) h)
theorem sk_a2 {a1 a2 a3 : Nat → Int32} {s : Nat} {S C : Nat → Nat} {V : Nat → Int32} (h : sk_S a1 a2 a3 s S C V) (hs : s < 5) {k : Nat} (hk : k < S 6) : a2 (nI (s * 36 + k)).toNatClampNeg = nI (C k) := by
  have := sk_36 h.1
  rw [nI_clamp (by omega)]
  exact h.2.2.1 k hk
theorem sk_a3 {a1 a2 a3 : Nat → Int32} {s : Nat} {S C : Nat → Nat} {V : Nat → Int32} (h : sk_S a1 a2 a3 s S C V) (hs : s < 5) {k : Nat} (hk : k < S 6) : a3 (nI (s * 36 + k)).toNatClampNeg = V k := by
  have := sk_36 h.1
  rw [nI_clamp (by omega)]
  exact h.2.2.2 k hk
theorem sk_in {a1 a2 a3 : Nat → Int32} {s : Nat} {S C : Nat → Nat} {V : Nat → Int32} (h : sk_S a1 a2 a3 s S C V) (hs : s < 5) {k : Nat} (hk : k < S 6) : vp_in (nI (s * 36 + k)) 180 := by
  have := sk_36 h.1
  exact vp_in_nI (by omega) (by omega)
end
section
theorem sk_B_m {a4 a5 a6 : Nat → Int32} {i m b : Nat} (h : sk_B a4 a5 a6 i m b) : m ≤ 6 * i + b := by
  obtain ⟨S, C, h0, h1, h2, h3, h4, h5, _⟩ := h
  have := sk_up h0 h3 i (Nat.le_refl i)
  omega
theorem sk_B_up {a4 a5 a6 : Nat → Int32} {i m b c : Nat} (h : sk_B a4 a5 a6 i m b) (hc : b ≤ c) : sk_B a4 a5 a6 i m c := by
  obtain ⟨S, C, h0, h1, h2, h3, h4, h5, h6, h7, h8, h9, h10, h11⟩ := h
  exact ⟨S, C, h0, h1, h2, h3, h4, by omega, h6, h7, h8, h9, h10, fun k u v => Nat.lt_of_lt_of_le (h11 k u v) hc⟩
theorem sk_B_0 (a4 a5 a6 : Nat → Int32) : sk_B (upd a4 0 0) a5 a6 0 0 0 := by
  refine ⟨fun _ => 0, fun _ => 0, rfl, fun r hr => ?_, fun r hr => absurd hr (by omega), fun r hr => absurd hr (by omega), Nat.le_refl _, Nat.le_refl _, fun k hk => absurd hk (by omega), fun k hk => absurd hk (by omega), fun k hk => absurd hk (by omega), fun r hr => absurd hr (by omega), fun k l _ _ hl => absurd hl (by omega), fun k _ hk => absurd hk (by omega)⟩
  have : r = 0 := by omega
  subst this
  exact pk_us
theorem sk_B_emit {a4 a5 a6 : Nat → Int32} {i m b c : Nat} {v : Int32} (h : sk_B a4 a5 a6 i m b) (hb : b ≤ c) (hc : c < 6) (hv : v ≠ 0) : sk_B a4 (upd a5 m (nI c)) (upd a6 m v) i (m + 1) (c + 1) := by
  obtain ⟨S, C, h0, h1, h2, h3, h4, h5, h6, h7, h8, h9, h10, h11⟩ := h
  have hS : ∀ r, r < i → S (r + 1) ≤ m := by
    intro r hr
    have e := sk_mono h2 (i - (r + 1)) (r + 1) (by omega)
    rw [show r + 1 + (i - (r + 1)) = i by omega] at e
    omega
  refine ⟨S, fun k => if k = m then c else C k, h0, h1, h2, h3, by omega, by omega, fun k hk => ?_, fun k hk => ?_, fun k hk => ?_, fun r hr k l u w z => ?_, fun k l u w z => ?_, fun k u w => ?_⟩
  · dsimp only
    by_cases e : k = m
    · rw [if_pos e, e, pk_us]
    · rw [if_neg e, pk_un e]
      exact h6 k (by omega)
  · dsimp only
    by_cases e : k = m
    · rw [if_pos e]; exact hc
    · rw [if_neg e]; exact h7 k (by omega)
  · by_cases e : k = m
    · rw [e, pk_us]; exact hv
    · rw [pk_un e]; exact h8 k (by omega)
  · dsimp only
    have := hS r hr
    rw [if_neg (by omega), if_neg (by omega)]
    exact h9 r hr k l u w z
  · dsimp only
    rw [if_neg (show k ≠ m by omega)]
    by_cases e : l = m
    · rw [if_pos e]
      have := h11 k u (by omega)
      omega
    · rw [if_neg e]
      exact h10 k l u w (by omega)
  · dsimp only
    by_cases e : k = m
    · rw [if_pos e]; omega
    · rw [if_neg e]
      have := h11 k u (by omega)
      omega
theorem sk_B_end {a4 a5 a6 : Nat → Int32} {i m b : Nat} (h : sk_B a4 a5 a6 i m b) (hb : b ≤ 6) : sk_B (upd a4 (i + 1) (nI m)) a5 a6 (i + 1) m 0 := by
  obtain ⟨S, C, h0, h1, h2, h3, h4, h5, h6, h7, h8, h9, h10, h11⟩ := h
  refine ⟨fun r => if r = i + 1 then m else S r, C, ?_, fun r hr => ?_, fun r hr => ?_, fun r hr => ?_, ?_, ?_, h6, h7, h8, fun r hr k l u w z => ?_, fun k l u w z => ?_, fun k u w => ?_⟩
  · dsimp only
    rw [if_neg (by omega)]; exact h0
  · dsimp only
    by_cases e : r = i + 1
    · rw [if_pos e, e, pk_us]
    · rw [if_neg e, pk_un e]; exact h1 r (by omega)
  · dsimp only
    rw [if_neg (show r ≠ i + 1 by omega)]
    by_cases e : r = i
    · rw [if_pos (by omega), e]; exact h4
    · rw [if_neg (by omega)]; exact h2 r (by omega)
  · dsimp only
    rw [if_neg (show r ≠ i + 1 by omega)]
    by_cases e : r = i
    · rw [if_pos (by omega), e]; omega
    · rw [if_neg (by omega)]; exact h3 r (by omega)
  · dsimp only
    rw [if_pos rfl]; exact Nat.le_refl _
  · dsimp only
    rw [if_pos rfl]; omega
  · dsimp only at u z
    rw [if_neg (show r ≠ i + 1 by omega)] at u
    by_cases e : r = i
    · rw [if_pos (by omega)] at z
      rw [e] at u
      exact h10 k l u w z
    · rw [if_neg (by omega)] at z
      exact h9 r (by omega) k l u w z
  · dsimp only at u
    rw [if_pos rfl] at u
    omega
  · dsimp only at u
    rw [if_pos rfl] at u
    omega
theorem sk_begin {post : St1 → Prop} {f : Int32} {a1 a2 a3 a4 a5 a6 a7 : Nat → Int32} (hp : ∀ a4', sk_B a4' a5 a6 0 0 0 → post (nI 0, a1, a2, a3, a4', a5, a6, a7)) : wpX_begin post (f, a1, a2, a3, a4, a5, a6, a7) := by
  unfold wpX_begin
  dsimp only
  exact nm_e (hp _ (sk_B_0 a4 a5 a6))
theorem sk_emit {post : St1 → Prop} {a1 a2 a3 a4 a5 a6 a7 : Nat → Int32} {i m b c : Nat} {v : Int32} (h : sk_B a4 a5 a6 i m b) (hi : i < 6) (hb : b ≤ c) (hc : c < 6) (hp : ∀ m' a5' a6', sk_B a4 a5' a6' i m' (c + 1) → post (nI m', a1, a2, a3, a4, a5', a6', a7)) : wpX_emit post (nI m, a1, a2, a3, a4, a5, a6, a7) (nI c) v := by
  have hm := sk_B_m h
  unfold wpX_emit
  dsimp only
  rw [nI_clamp (show m < 2 ^ 31 by omega), sk_b8 c (by omega)]
  refine br_c (fun _ => hp _ _ _ (sk_B_up h (by omega))) (fun hv => ⟨vp_in_nI (by omega) (by omega), nm_e ⟨vp_in_nI (by omega) (by omega), nm_e (nm_r (nI_1 m) (hp _ _ _ (sk_B_emit h hb hc hv)))⟩⟩)
theorem sk_endRow {post : St1 → Prop} {a1 a2 a3 a4 a5 a6 a7 : Nat → Int32} {i m b : Nat} (h : sk_B a4 a5 a6 i m b) (hi : i < 6) (hb : b ≤ 6) (hp : ∀ a4', sk_B a4' a5 a6 (i + 1) m 0 → post (nI m, a1, a2, a3, a4', a5, a6, a7)) : wpX_endRow post (nI m, a1, a2, a3, a4, a5, a6, a7) (nI i) := by
  have hm := sk_B_m h
  unfold wpX_endRow
  dsimp only
  rw [nI_1, nI_clamp (show i + 1 < 2 ^ 31 by omega), sk_b8 m (by omega)]
  exact ⟨vp_in_nI (by omega) (by omega), nm_e (hp _ (sk_B_end h hb))⟩
theorem sk_clearWork {post : St1 → Prop} {f : Int32} {a1 a2 a3 a4 a5 a6 a7 : Nat → Int32} (hp : ∀ a7', post (f, a1, a2, a3, a4, a5, a6, a7')) : wpX_clearWork post (f, a1, a2, a3, a4, a5, a6, a7) := by
  have key : ∀ n i a7, i ≤ 6 → 6 - i < n → wX_clearWork_2 post f n (nI i) a1 a2 a3 a4 a5 a6 a7 := by
    intro n
    induction n with
    | zero => intro i a7 h1 h2; omega
    | succ n ih =>
      intro i a7 h1 h2
      exact pk_le 6 i (fun _ => hp a7) (fun z => ⟨vp_in_nI z (by omega), nm_e (nm_r (nI_1 i) (ih (i + 1) _ (by omega) (by omega)))⟩)
  exact ⟨7, key 7 0 a7 (by omega) (by omega)⟩
theorem sk_emitWork {post : St1 → Prop} {a1 a2 a3 a4 a5 a6 a7 : Nat → Int32} {i m : Nat} (h : sk_B a4 a5 a6 i m 0) (hi : i < 6) (hp : ∀ m' a5' a6', sk_B a4 a5' a6' i m' 6 → post (nI m', a1, a2, a3, a4, a5', a6', a7)) : wpX_emitWork post (nI m, a1, a2, a3, a4, a5, a6, a7) := by
  have key : ∀ n j m a5 a6, j ≤ 6 → 6 - j < n → sk_B a4 a5 a6 i m j → wX_emitWork_2 post n (nI j) (nI m) a1 a2 a3 a4 a5 a6 a7 := by
    intro n
    induction n with
    | zero => intro j m a5 a6 h1 h2; omega
    | succ n ih =>
      intro j m a5 a6 h1 h2 hB
      refine pk_le 6 j (fun z => ?_) (fun z => ⟨vp_in_nI z (by omega), sk_emit hB hi (Nat.le_refl j) z (fun m' a5' a6' hB' => nm_r (nI_1 j) (ih (j + 1) m' a5' a6' (by omega) (by omega) hB'))⟩)
      have : j = 6 := by omega
      subst this
      exact hp m a5 a6 hB
  exact ⟨7, key 7 0 m a5 a6 (by omega) (by omega) h⟩
theorem sk_store33 {post : Int32 → St1 → Prop} {a1 a4 a5 a6 a7 : Nat → Int32} {t m : Nat} (a2 a3 : Nat → Int32) (ht : t < 5) (hm : m ≤ 36) (h5 : ∀ k, k < m → ∃ c, c < 6 ∧ a5 k = nI c)
    (hp : ∀ b2 b3, (∀ k, k < m → b2 (t * 36 + k) = a5 k ∧ b3 (t * 36 + k) = a6 k) → (∀ j, j < t * 36 ∨ t * 36 + 36 ≤ j → b2 j = a2 j ∧ b3 j = a3 j) → post (nI m) (nI m, a1, b2, b3, a4, a5, a6, a7)) : ∃ n, wX_store_33 post (nI t) (nI m) n 0 a1 a2 a3 a4 a5 a6 a7 := by
  have key : ∀ n k b2 b3, k ≤ m → m - k < n → (∀ j, j < k → b2 (t * 36 + j) = a5 j ∧ b3 (t * 36 + j) = a6 j) → (∀ j, j < t * 36 ∨ t * 36 + 36 ≤ j → b2 j = a2 j ∧ b3 j = a3 j) → wX_store_33 post (nI t) (nI m) n (nI k) a1 b2 b3 a4 a5 a6 a7 := by
    intro n
    induction n with
    | zero => intro k b2 b3 h1 h2; omega
    | succ n ih =>
      intro k b2 b3 h1 h2 g1 g2
      unfold wX_store_33
      rw [sk_e36, nI_clamp (show k < 2 ^ 31 by omega), nI_clamp (show t * 36 + k < 2 ^ 31 by omega)]
      refine pk_le m k (fun z => ?_) (fun z => ⟨vp_in_nI (by omega) (by omega), vp_in_nI (by omega) (by omega), nm_e ⟨vp_in_nI (by omega) (by omega), vp_in_nI (by omega) (by omega), nm_e (nm_r (nI_1 k) (ih (k + 1) _ _ (by omega) (by omega) ?_ ?_))⟩⟩)
      · have : k = m := by omega
        subst this
        exact hp b2 b3 g1 g2
      · intro j hj
        by_cases e : j = k
        · obtain ⟨c, hc, ec⟩ := h5 k z
          rw [e, pk_us, pk_us, ec, sk_nb (by omega)]
          exact ⟨rfl, rfl⟩
        · rw [pk_un (by omega), pk_un (by omega)]
          exact g1 j (by omega)
      · intro j hj
        rw [pk_un (by omega), pk_un (by omega)]
        exact g2 j hj
  exact ⟨m + 1, key (m + 1) 0 a2 a3 (by omega) (by omega) (fun j hj => absurd hj (by omega)) (fun j _ => ⟨rfl, rfl⟩)⟩
theorem sk_store {post : Int32 → St1 → Prop} {a1 a2 a3 a4 a5 a6 a7 : Nat → Int32} {t m : Nat} (hK : sk_K a1 a2 a3) (ht : t < 5) (hB : sk_B a4 a5 a6 6 m 0) (hp : ∀ a1' a2' a3', sk_K a1' a2' a3' → post (nI m) (nI m, a1', a2', a3', a4, a5, a6, a7)) : wpX_store post (nI m, a1, a2, a3, a4, a5, a6, a7) (nI t) := by
  have hm := sk_B_m hB
  obtain ⟨S, C, h0, h1, h2, h3, h4, h5, h6, h7, h8, h9, _, _⟩ := hB
  have hS := sk_up h0 h3
  have em : S 6 = m := by omega
  have key : ∀ n i b1, i ≤ 7 → 7 - i < n → (∀ j, j < i → b1 (t * 7 + j) = nI (S j)) → (∀ j, j < t * 7 ∨ t * 7 + 7 ≤ j → b1 j = a1 j) → wX_store_2 post (nI t) (nI m) n (nI i) b1 a2 a3 a4 a5 a6 a7 := by
    intro n
    induction n with
    | zero => intro i b1 z1 z2; omega
    | succ n ih =>
      intro i b1 z1 z2 g1 g2
      unfold wX_store_2
      rw [sk_e7, nI_clamp (show i < 2 ^ 31 by omega), nI_clamp (show t * 7 + i < 2 ^ 31 by omega)]
      refine pk_lt 6 i (fun z => sk_store33 a2 a3 ht (by omega) (fun k hk => ⟨C k, h7 k hk, h6 k hk⟩) (fun b2 b3 q1 q2 => hp _ _ _ ?_)) (fun z => ⟨vp_in_nI (by omega) (by omega), vp_in_nI (by omega) (by omega), nm_e (nm_r (nI_1 i) (ih (i + 1) _ (by omega) (by omega) ?_ ?_))⟩)
      · intro s hs
        by_cases e : s = t
        · subst e
          refine ⟨S, C, a6, ⟨h0, h2, h3, ?_, ?_, h9⟩, fun i' hi' => g1 i' (by omega), ?_, ?_⟩
          · rw [em]; exact h7
          · rw [em]; exact h8
          · intro k hk
            rw [(q1 k (by omega)).1]
            exact h6 k (by omega)
          · intro k hk
            exact (q1 k (by omega)).2
        · obtain ⟨S', C', V', hP, p1, p2, p3⟩ := hK s hs
          have h36 := sk_36 hP
          refine ⟨S', C', V', hP, fun i' hi' => ?_, fun k hk => ?_, fun k hk => ?_⟩
          · rw [g2 _ (by omega)]; exact p1 i' hi'
          · rw [(q2 _ (by omega)).1]; exact p2 k hk
          · rw [(q2 _ (by omega)).2]; exact p3 k hk
      · intro j hj
        by_cases e : j = i
        · have := hS i (by omega)
          rw [e, pk_us, h1 i (by omega), sk_nb (by omega)]
        · rw [pk_un (by omega)]
          exact g1 j (by omega)
      · intro j hj
        rw [pk_un (by omega)]
        exact g2 j hj
  exact ⟨8, key 8 0 a1 (by omega) (by omega) (fun j hj => absurd hj (by omega)) (fun j _ => rfl)⟩
end
section
/-- f p + .. + f (p + n - 1) -/
def sk_sum (f : Nat → Int32) (p : Nat) : Nat → Int32
  | 0 => 0
  | n + 1 => sk_sum f p n + f (p + n)
/-- the sum of f 5, f 4, .. : u of them -/
def sk_dn (f : Nat → Int32) : Nat → Int32
  | 0 => 0
  | u + 1 => sk_dn f u + f (5 - u)
/-- the entry in row i and column j -/
def sk_M (S C : Nat → Nat) (V : Nat → Int32) (i j : Nat) : Int32 := sk_sum (fun k => if C k = j then V k else 0) (S i) (S (i + 1) - S i)
/-- what 'sum' adds for entry k of row r -/
def sk_g (C : Nat → Nat) (V : Nat → Int32) (w i r k : Nat) : Int32 := if w = 0 then (if r = i then V k else 0) else if w = 1 then (if C k = i then V k else 0) else (if C k = r then V k else 0)
theorem sk_sum_0 {f : Nat → Int32} {p : Nat} : ∀ n, (∀ k, p ≤ k → k < p + n → f k = 0) → sk_sum f p n = 0 := by
  intro n
  induction n with
  | zero => intro _; rfl
  | succ n ih =>
    intro h
    show sk_sum f p n + f (p + n) = 0
    rw [ih (fun k h1 h2 => h k h1 (by omega)), h (p + n) (by omega) (by omega)]
    rfl
theorem sk_sum_c {f g : Nat → Int32} {p : Nat} : ∀ n, (∀ k, p ≤ k → k < p + n → f k = g k) → sk_sum f p n = sk_sum g p n := by
  intro n
  induction n with
  | zero => intro _; rfl
  | succ n ih =>
    intro h
    show sk_sum f p n + f (p + n) = sk_sum g p n + g (p + n)
    rw [ih (fun k h1 h2 => h k h1 (by omega)), h (p + n) (by omega) (by omega)]
theorem sk_sum_1 {f : Nat → Int32} {p q : Nat} : ∀ n, p ≤ q → q < p + n → (∀ k, p ≤ k → k < p + n → k ≠ q → f k = 0) → sk_sum f p n = f q := by
  intro n
  induction n with
  | zero => intro h1 h2; omega
  | succ n ih =>
    intro h1 h2 h
    show sk_sum f p n + f (p + n) = f q
    by_cases e : q = p + n
    · rw [sk_sum_0 n (fun k u v => h k u (by omega) (by omega)), e, Int32.zero_add]
    · rw [ih h1 (by omega) (fun k u v w => h k u (by omega) w), h (p + n) (by omega) (by omega) (by omega), Int32.add_zero]
theorem sk_sum_a (f g : Nat → Int32) (p : Nat) : ∀ n, sk_sum (fun k => f k + g k) p n = sk_sum f p n + sk_sum g p n := by
  intro n
  induction n with
  | zero => rfl
  | succ n ih =>
    show sk_sum (fun k => f k + g k) p n + (f (p + n) + g (p + n)) = sk_sum f p n + f (p + n) + (sk_sum g p n + g (p + n))
    rw [ih]
    grind
theorem sk_dn6 (f : Nat → Int32) : sk_dn f 6 = sk_sum f 0 6 := by
  show 0 + f 5 + f 4 + f 3 + f 2 + f 1 + f 0 = 0 + f 0 + f 1 + f 2 + f 3 + f 4 + f 5
  grind
/-- a row's sum is the sum of its entries -/
theorem sk_rowsum {C : Nat → Nat} {V : Nat → Int32} {p : Nat} : ∀ n, (∀ k, p ≤ k → k < p + n → C k < 6) → sk_sum V p n = sk_sum (fun j => sk_sum (fun k => if C k = j then V k else 0) p n) 0 6 := by
  intro n
  induction n with
  | zero => intro _; exact (sk_sum_0 6 (fun k _ _ => rfl)).symm
  | succ n ih =>
    intro h
    show sk_sum V p n + V (p + n) = sk_sum (fun j => sk_sum (fun k => if C k = j then V k else 0) p n + (if C (p + n) = j then V (p + n) else 0)) 0 6
    have hc := h (p + n) (by omega) (by omega)
    rw [sk_sum_a, ← ih (fun k h1 h2 => h k h1 (by omega)), sk_sum_1 (f := fun j => if C (p + n) = j then V (p + n) else 0) (q := C (p + n)) 6 (by omega) (by omega) (fun k _ _ z => if_neg (fun e => z e.symm)), if_pos rfl]
theorem sk_M1 {S C : Nat → Nat} {V : Nat → Int32} (h : sk_P S C V) {i k : Nat} (hi : i < 6) (h1 : S i ≤ k) (h2 : k < S (i + 1)) : sk_M S C V i (C k) = V k := by
  unfold sk_M
  rw [sk_sum_1 (q := k) _ h1 (by omega) (fun l u v z => if_neg (fun e => ?_)), if_pos rfl]
  have hm := h.2.2.2.2.2 i hi
  rcases Nat.lt_or_ge l k with g | g
  · have := hm l k u g h2
    omega
  · have := hm k l h1 (by omega) (by omega)
    omega
theorem sk_M0 {S C : Nat → Nat} {V : Nat → Int32} {i j : Nat} (h : ∀ k, S i ≤ k → k < S (i + 1) → C k ≠ j) : sk_M S C V i j = 0 := by
  unfold sk_M
  exact sk_sum_0 _ (fun k u v => if_neg (h k u (by omega)))
theorem sk_Mex {S C : Nat → Nat} {V : Nat → Int32} {i j : Nat} (h : sk_M S C V i j ≠ 0) : ∃ k, S i ≤ k ∧ k < S (i + 1) ∧ C k = j := by
  apply Classical.byContradiction
  intro hn
  exact h (sk_M0 (fun k u v e => hn ⟨k, u, v, e⟩))
theorem sk_Vne {S C : Nat → Nat} {V : Nat → Int32} (h : sk_P S C V) {i k : Nat} (hi : i < 6) (h2 : k < S (i + 1)) : V k ≠ 0 := by
  obtain ⟨_, _, b3, _⟩ := sk_bd h hi
  exact h.2.2.2.2.1 k (by omega)
theorem sk_Clt {S C : Nat → Nat} {V : Nat → Int32} (h : sk_P S C V) {i k : Nat} (hi : i < 6) (h2 : k < S (i + 1)) : C k < 6 := by
  obtain ⟨_, _, b3, _⟩ := sk_bd h hi
  exact h.2.2.2.1 k (by omega)
/-- the three sums -/
theorem sk_sum0 {S C : Nat → Nat} {V : Nat → Int32} (h : sk_P S C V) {i : Nat} (hi : i < 6) : sk_sum (fun r => sk_sum (sk_g C V 0 i r) (S r) (S (r + 1) - S r)) 0 6 = sk_dn (fun j => sk_M S C V i j) 6 := by
  have b := sk_bd h hi
  rw [sk_dn6, sk_sum_1 (q := i) 6 (by omega) (by omega) (fun r _ _ z => sk_sum_0 _ (fun k _ _ => ?_))]
  · rw [sk_sum_c (g := V) _ (fun k _ _ => ?_)]
    · exact sk_rowsum _ (fun k u v => sk_Clt h hi (by omega))
    · unfold sk_g
      rw [if_pos rfl, if_pos rfl]
  · unfold sk_g
    rw [if_pos rfl, if_neg z]
theorem sk_sum1 {S C : Nat → Nat} {V : Nat → Int32} (i : Nat) : sk_sum (fun r => sk_sum (sk_g C V 1 i r) (S r) (S (r + 1) - S r)) 0 6 = sk_dn (fun r => sk_M S C V r i) 6 := by
  rw [sk_dn6]
  exact sk_sum_c 6 (fun r _ _ => sk_sum_c _ (fun k _ _ => rfl))
theorem sk_sum2 {S C : Nat → Nat} {V : Nat → Int32} (i : Nat) : sk_sum (fun r => sk_sum (sk_g C V 2 i r) (S r) (S (r + 1) - S r)) 0 6 = sk_sum (fun r => sk_M S C V r r) 0 6 :=
  sk_sum_c 6 (fun r _ _ => sk_sum_c _ (fun k _ _ => rfl))
/-- one row of two matrices with the same entries: the same places -/
theorem sk_eqrow {S C : Nat → Nat} {V : Nat → Int32} {S' C' : Nat → Nat} {V' : Nat → Int32} (h : sk_P S C V) (h' : sk_P S' C' V') (hM : ∀ i j, i < 6 → j < 6 → sk_M S C V i j = sk_M S' C' V' i j) {i : Nat} (hi : i < 6) (e : S i = S' i) : ∀ d, (S i + d < S (i + 1) → S i + d < S' (i + 1) ∧ C' (S i + d) = C (S i + d)) ∧ (S i + d < S' (i + 1) → S i + d < S (i + 1) ∧ C' (S i + d) = C (S i + d)) := by
  have g := h.2.2.2.2.2 i hi
  have g' := h'.2.2.2.2.2 i hi
  intro d
  induction d using Nat.strongRecOn with
  | ind d ih =>
    have A : S i + d < S (i + 1) → S i + d < S' (i + 1) ∧ C' (S i + d) ≤ C (S i + d) := by
      intro hd
      have m1 := sk_M1 h hi (show S i ≤ S i + d by omega) hd
      have m2 := sk_Vne h hi hd
      rw [← m1, hM i _ hi (sk_Clt h hi hd)] at m2
      obtain ⟨k, u, v, w⟩ := sk_Mex m2
      rcases Nat.lt_or_ge k (S i + d) with z | z
      · have ik := (ih (k - S i) (by omega)).2
        rw [show S i + (k - S i) = k by omega] at ik
        have ik' := ik v
        have := g k (S i + d) (by omega) z hd
        omega
      · refine ⟨by omega, ?_⟩
        rcases Nat.lt_or_ge (S i + d) k with y | y
        · have := g' (S i + d) k (by omega) y v
          omega
        · rw [show S i + d = k by omega] at w ⊢
          omega
    have B : S i + d < S' (i + 1) → S i + d < S (i + 1) ∧ C (S i + d) ≤ C' (S i + d) := by
      intro hd
      have m1 := sk_M1 h' hi (show S' i ≤ S i + d by omega) hd
      have m2 := sk_Vne h' hi hd
      rw [← m1, ← hM i _ hi (sk_Clt h' hi hd)] at m2
      obtain ⟨k, u, v, w⟩ := sk_Mex m2
      rcases Nat.lt_or_ge k (S i + d) with z | z
      · have ik := (ih (k - S i) (by omega)).1
        rw [show S i + (k - S i) = k by omega] at ik
        have ik' := ik v
        have := g' k (S i + d) (by omega) z hd
        omega
      · refine ⟨by omega, ?_⟩
        rcases Nat.lt_or_ge (S i + d) k with y | y
        · have := g (S i + d) k (by omega) y v
          omega
        · rw [show S i + d = k by omega] at w ⊢
          omega
    constructor
    · intro hd
      have a := A hd
      have b := B a.1
      exact ⟨a.1, by omega⟩
    · intro hd
      have b := B hd
      have a := A b.1
      exact ⟨b.1, by omega⟩
theorem sk_eqS {S C : Nat → Nat} {V : Nat → Int32} {S' C' : Nat → Nat} {V' : Nat → Int32} (h : sk_P S C V) (h' : sk_P S' C' V') (hM : ∀ i j, i < 6 → j < 6 → sk_M S C V i j = sk_M S' C' V' i j) : ∀ i, i ≤ 6 → S i = S' i := by
  intro i
  induction i with
  | zero => intro _; rw [h.1, h'.1]
  | succ i ih =>
    intro hi
    have e := ih (by omega)
    have r := sk_eqrow h h' hM (show i < 6 by omega) e
    have b := sk_bd h (show i < 6 by omega)
    have b' := sk_bd h' (show i < 6 by omega)
    rcases Nat.lt_trichotomy (S (i + 1)) (S' (i + 1)) with z | z | z
    · have q := ((r (S (i + 1) - S i)).2 (by omega)).1
      omega
    · exact z
    · have q := ((r (S' (i + 1) - S i)).1 (by omega)).1
      omega
theorem sk_eqC {S C : Nat → Nat} {V : Nat → Int32} {S' C' : Nat → Nat} {V' : Nat → Int32} (h : sk_P S C V) (h' : sk_P S' C' V') (hM : ∀ i j, i < 6 → j < 6 → sk_M S C V i j = sk_M S' C' V' i j) : ∀ k, k < S 6 → C k = C' k ∧ V k = V' k := by
  intro k hk
  obtain ⟨i, hi, h1, h2⟩ := sk_row h hk
  have e := sk_eqS h h' hM i (by omega)
  have e' := sk_eqS h h' hM (i + 1) (by omega)
  have r := ((sk_eqrow h h' hM hi e (k - S i)).1 (by omega)).2
  rw [show S i + (k - S i) = k by omega] at r
  refine ⟨r.symm, ?_⟩
  rw [← sk_M1 h hi h1 h2, ← sk_M1 h' hi (show S' i ≤ k by omega) (by omega), r]
  exact hM i _ hi (sk_Clt h hi h2)
theorem sk_eqM {S C : Nat → Nat} {V : Nat → Int32} {S' C' : Nat → Nat} {V' : Nat → Int32} (h : sk_P S C V) (hS : ∀ i, i ≤ 6 → S i = S' i) (hC : ∀ k, k < S 6 → C k = C' k ∧ V k = V' k) : ∀ i j, i < 6 → j < 6 → sk_M S C V i j = sk_M S' C' V' i j := by
  intro i j hi hj
  have b := sk_bd h hi
  unfold sk_M
  rw [← hS i (by omega), ← hS (i + 1) (by omega)]
  refine sk_sum_c _ (fun k u v => ?_)
  have q := hC k (by omega)
  rw [q.1, q.2]
/-- symmetric, told by the entries that are there -/
theorem sk_sym {S C : Nat → Nat} {V : Nat → Int32} (h : sk_P S C V) (hs : ∀ i, i < 6 → ∀ k, S i ≤ k → k < S (i + 1) → sk_M S C V (C k) i = V k) : ∀ i j, i < 6 → j < 6 → sk_M S C V i j = sk_M S C V j i := by
  have key : ∀ i j, i < 6 → j < 6 → sk_M S C V i j ≠ 0 → sk_M S C V i j = sk_M S C V j i := by
    intro i j hi hj hn
    obtain ⟨k, u, v, w⟩ := sk_Mex hn
    have m1 := sk_M1 h hi u v
    have m2 := hs i hi k u v
    rw [w] at m1 m2
    rw [m1, m2]
  intro i j hi hj
  by_cases z : sk_M S C V i j = 0
  · by_cases y : sk_M S C V j i = 0
    · rw [z, y]
    · exact (key j i hj hi y).symm
  · exact key i j hi hj z
end
section
theorem sk_m1lt {n : Nat} (h : n < 2 ^ 30) : nI n - 1 < nI n := by
  rw [Int32.lt_iff_toInt_lt, show (1 : Int32) = nI 1 from rfl, pk_sub_toInt h (by omega), nI_toInt (by omega)]
  omega
theorem sk_m1n {s h : Nat} (h0 : 0 < h) : nI (s * 36 + h) - 1 = nI (s * 36 + (h - 1)) := by
  have e := pk_sub (a := s * 36 + h) (b := 1) (by omega)
  rw [show s * 36 + (h - 1) = s * 36 + h - 1 by omega]
  exact e
theorem sk_mid {s l h : Nat} (hs : s < 5) (hl : l < h) (h36 : h ≤ 36) : (nI (s * 36 + l) + (nI (s * 36 + h) - 1)) >>> ((1 : Int32) &&& 31) = nI (s * 36 + (l + h - 1) / 2) := by
  rw [sk_m1n (by omega), nI_add, pk_shrN (by omega) ((1 : Int32) &&& 31) 1 (by decide)]
  exact congrArg nI (by omega)
theorem sk_find {post : Int32 → Prop} {f : Int32} {a1 a2 a3 a4 a5 a6 a7 : Nat → Int32} {s i j : Nat} {S C : Nat → Nat} {V : Nat → Int32} (h : sk_S a1 a2 a3 s S C V) (hs : s < 5) (hi : i < 6) (hj : j < 6)
    (h1 : ∀ k, S i ≤ k → k < S (i + 1) → C k = j → post (nI (s * 36 + k))) (h0 : (∀ k, S i ≤ k → k < S (i + 1) → C k ≠ j) → post (-1)) : wpX_find post (f, a1, a2, a3, a4, a5, a6, a7) (nI s) (nI i) (nI j) := by
  obtain ⟨b1, b2, b3, b4⟩ := sk_bd h.1 hi
  have hC := fun k hk => sk_Clt (k := k) h.1 hi hk
  have hm := h.1.2.2.2.2.2 i hi
  have key : ∀ n l u r, 4 - r < n → S i ≤ l → l ≤ u → u ≤ S (i + 1) → (r = 0 ∧ u ≤ l + 7 ∨ r = 1 ∧ u ≤ l + 3 ∨ r = 2 ∧ u ≤ l + 1 ∨ r = 3 ∧ u ≤ l) → (∀ k, S i ≤ k → k < S (i + 1) → C k = j → l ≤ k ∧ k < u) → wX_find_21 post (nI j) f a1 a2 a3 a4 a5 a6 a7 n (nI (s * 36 + l)) (nI (s * 36 + u) - 1) (nI r) := by
    intro n
    induction n with
    | zero => intro l u r g; omega
    | succ n ih =>
      intro l u r g g1 g2 g3 g4 g5
      unfold wX_find_21
      refine pk_le 4 r (fun z => absurd z (by omega)) (fun _ => ?_)
      rcases Nat.lt_or_ge l u with z | z
      · refine br_f ?_ (nm_r (sk_mid hs z (by omega)) ?_)
        · rw [sk_m1n (by omega)]
          exact nI_nlt (by omega) (by omega)
        · have k1 : l ≤ (l + u - 1) / 2 ∧ (l + u - 1) / 2 < u := by omega
          have k2 : (l + u - 1) / 2 + 1 ≤ u + 0 ∧ u ≤ (l + u - 1) / 2 + 1 + (u - l) / 2 ∧ (l + u - 1) / 2 ≤ l + (u - l) / 2 ∧ (l + u - 1) / 2 ≤ l + (u - l - 1) / 2 := by omega
          generalize (l + u - 1) / 2 = w at k1 k2
          rw [sk_a2 h hs (show w < S 6 by omega)]
          have hw := hC w (by omega)
          refine ⟨sk_in h hs (by omega), pk_eq (C w) j (fun e => h1 w (by omega) (by omega) e) (fun e => ⟨sk_in h hs (by omega), pk_le j (C w) (fun y => nm_e (nm_r (nI_1 r) (ih l w (r + 1) (by omega) (by omega) (by omega) (by omega) (by omega) ?_))) (fun y => nm_r (sk_p1 s w) (nm_r (nI_1 r) (ih (w + 1) u (r + 1) (by omega) (by omega) (by omega) (by omega) (by omega) ?_)))⟩)⟩
          · intro k q1 q2 q3
            have q4 := g5 k q1 q2 q3
            refine ⟨q4.1, ?_⟩
            rcases Nat.lt_trichotomy k w with x | x | x
            · exact x
            · rw [x] at q3
              exact absurd q3 e
            · have := hm w k (by omega) x q2
              omega
          · intro k q1 q2 q3
            have q4 := g5 k q1 q2 q3
            refine ⟨?_, q4.2⟩
            rcases Nat.lt_trichotomy k w with x | x | x
            · have := hm k w (by omega) x (by omega)
              omega
            · rw [x] at q3
              exact absurd q3 e
            · exact x
      · have e : l = u := by omega
        subst e
        refine br_t (sk_m1lt (by omega)) (h0 (fun k q1 q2 q3 => ?_))
        have := g5 k q1 q2 q3
        omega
  unfold wpX_find
  dsimp only
  exact sk_from h hs hi (sk_upTo h hs hi (nm_e ⟨5, key 5 (S i) (S (i + 1)) 0 (by omega) (by omega) b1 (by omega) (Or.inl ⟨rfl, by omega⟩) (fun k q1 q2 _ => ⟨q1, q2⟩)⟩))
theorem sk_at {post : Int32 → Prop} {f : Int32} {a1 a2 a3 a4 a5 a6 a7 : Nat → Int32} {s i j : Nat} {S C : Nat → Nat} {V : Nat → Int32} (h : sk_S a1 a2 a3 s S C V) (hs : s < 5) (hi : i < 6) (hj : j < 6) (hp : post (sk_M S C V i j)) : wpX_at post (f, a1, a2, a3, a4, a5, a6, a7) (nI s) (nI i) (nI j) := by
  obtain ⟨b1, b2, b3, b4⟩ := sk_bd h.1 hi
  unfold wpX_at
  dsimp only
  refine sk_slotT hs (br_f (by decide) (sk_indexT hi (br_f (by decide) (sk_indexT hj (br_f (by decide) (sk_find h hs hi hj (fun k q1 q2 q3 => ?_) (fun q => ?_)))))))
  · refine br_t (nI_pos' (by omega)) ⟨sk_in h hs (by omega), ?_⟩
    rw [sk_a3 h hs (by omega), ← sk_M1 h.1 hi q1 q2, q3]
    exact hp
  · refine br_f (by decide) ?_
    rw [sk_M0 q] at hp
    exact hp
theorem sk_count {post : Int32 → Prop} {f : Int32} {a1 a2 a3 a4 a5 a6 a7 : Nat → Int32} {s : Nat} {S C : Nat → Nat} {V : Nat → Int32} (h : sk_S a1 a2 a3 s S C V) (hs : s < 5) (hp : post (nI (S 6))) : wpX_count post (f, a1, a2, a3, a4, a5, a6, a7) (nI s) := by
  unfold wpX_count
  dsimp only
  refine sk_slotT hs (br_f (by decide) ?_)
  rw [show (6 : Int32) = nI 6 from rfl, sk_e7, nI_clamp (by omega), h.2.1 6 (by omega)]
  exact ⟨vp_in_nI (by omega) (by omega), hp⟩
theorem sk_n9 : ∀ c, c < 6 → ¬ nI c < -9 := by decide +kernel
theorem sk_next9 {post : Int32 → Prop} {f : Int32} {a1 a2 a3 a4 a5 a6 a7 : Nat → Int32} {s i : Nat} {S C : Nat → Nat} {V : Nat → Int32} (h : sk_S a1 a2 a3 s S C V) (hs : s < 5) (hi : i < 6) (h0 : S i = S (i + 1) → post (-1)) (h1 : S i < S (i + 1) → post (nI (C (S i)))) : wpX_next post (f, a1, a2, a3, a4, a5, a6, a7) (nI s) (nI i) (-9) := by
  obtain ⟨b1, b2, b3, b4⟩ := sk_bd h.1 hi
  unfold wpX_next
  dsimp only
  refine sk_slotT hs (br_f (by decide) (sk_indexT hi (br_f (by decide) (sk_from h hs hi ⟨1, ?_⟩))))
  unfold wX_next_24
  refine sk_upTo h hs hi (pk_le (s * 36 + S (i + 1)) (s * 36 + S i) (fun z => h0 (by omega)) (fun z => ⟨sk_in h hs (by omega), ?_⟩))
  rw [sk_a2 h hs (by omega)]
  exact br_f (sk_n9 _ (sk_Clt h.1 hi (by omega))) ⟨sk_in h hs (by omega), h1 (by omega)⟩
theorem sk_next6 {post : Int32 → Prop} {f : Int32} {a1 a2 a3 a4 a5 a6 a7 : Nat → Int32} {s i : Nat} {S C : Nat → Nat} {V : Nat → Int32} (h : sk_S a1 a2 a3 s S C V) (hs : s < 5) (hi : i < 6) (hp : post (-1)) : wpX_next post (f, a1, a2, a3, a4, a5, a6, a7) (nI s) (nI i) 6 := by
  obtain ⟨b1, b2, b3, b4⟩ := sk_bd h.1 hi
  have key : ∀ n k, k ≤ S (i + 1) → S (i + 1) - k < n → wX_next_24 post (nI s) (nI i) 6 f a1 a2 a3 a4 a5 a6 a7 n (nI (s * 36 + k)) := by
    intro n
    induction n with
    | zero => intro k g1 g2; omega
    | succ n ih =>
      intro k g1 g2
      unfold wX_next_24
      refine sk_upTo h hs hi (pk_le (s * 36 + S (i + 1)) (s * 36 + k) (fun z => hp) (fun z => ⟨sk_in h hs (by omega), ?_⟩))
      rw [sk_a2 h hs (by omega)]
      exact br_t (nI_lt (b := 6) (sk_Clt h.1 hi (by omega)) (by omega)) (nm_r (sk_p1 s k) (ih (k + 1) (by omega) (by omega)))
  unfold wpX_next
  dsimp only
  exact sk_slotT hs (br_f (by decide) (sk_indexT hi (br_f (by decide) (sk_from h hs hi ⟨37, key 37 (S i) (by omega) (by omega)⟩))))
theorem sk_123t {post : Int32 → Prop} {J36 J52 : Int32 → Int32 → Prop} {x1 x2 x3 x5 : Int32} {f : Int32} {a1 a2 a3 a4 a5 a6 a7 : Nat → Int32} {s k : Nat} {A : Int32} {S C : Nat → Nat} {V : Nat → Int32} (h : sk_S a1 a2 a3 s S C V) (hs : s < 5) (hk : k < S 6) (hp : J52 (A + V k) (nI (s * 36 + (k + 1)))) : wX_sum_123 post J36 J52 x1 x2 x3 A x5 (nI (s * 36 + k)) 1 f a1 a2 a3 a4 a5 a6 a7 := by
  unfold wX_sum_123
  refine br_f (by decide) ⟨sk_in h hs hk, nm_r (congrArg (A + ·) (sk_a3 h hs hk)) (nm_r (sk_p1 s k) hp)⟩
theorem sk_123f {post : Int32 → Prop} {J36 J52 : Int32 → Int32 → Prop} {x1 x2 x3 x5 : Int32} {f : Int32} {a1 a2 a3 a4 a5 a6 a7 : Nat → Int32} {s k : Nat} {A : Int32} (hp : J52 (A + 0) (nI (s * 36 + (k + 1)))) : wX_sum_123 post J36 J52 x1 x2 x3 A x5 (nI (s * 36 + k)) 0 f a1 a2 a3 a4 a5 a6 a7 := by
  unfold wX_sum_123
  exact br_t rfl (nm_e (nm_r (sk_p1 s k) hp))
theorem sk_52 {post : Int32 → Prop} {J : Int32 → Int32 → Prop} {f : Int32} {a1 a2 a3 a4 a5 a6 a7 : Nat → Int32} {s w i r : Nat} {A : Int32} {S C : Nat → Nat} {V : Nat → Int32} (h : sk_S a1 a2 a3 s S C V) (hs : s < 5) (hr : r < 6) (hi : i < 6) (hw : w < 3) (hJ : J (A + sk_sum (sk_g C V w i r) (S r) (S (r + 1) - S r)) (nI (r + 1))) : ∀ n d, d ≤ S (r + 1) - S r → S (r + 1) - S r - d < n → wX_sum_52 post J (nI s) (nI w) (nI i) (nI r) f a1 a2 a3 a4 a5 a6 a7 n (A + sk_sum (sk_g C V w i r) (S r) d) (nI (s * 36 + (S r + d))) := by
  obtain ⟨b1, b2, b3, b4⟩ := sk_bd h.1 hr
  intro n
  induction n with
  | zero => intro d g1 g2; omega
  | succ n ih =>
    intro d g1 g2
    unfold wX_sum_52
    refine sk_upTo h hs hr (pk_le (s * 36 + S (r + 1)) (s * 36 + (S r + d)) (fun z => nm_r (nI_1 r) ?_) (fun z => ?_))
    · have e : d = S (r + 1) - S r := by omega
      rw [e]
      exact hJ
    · have hk : S r + d < S 6 := by omega
      have hc := sk_Clt (k := S r + d) h.1 hr (by omega)
      have step : ∀ x, x = sk_g C V w i r (S r + d) → wX_sum_52 post J (nI s) (nI w) (nI i) (nI r) f a1 a2 a3 a4 a5 a6 a7 n (A + sk_sum (sk_g C V w i r) (S r) d + x) (nI (s * 36 + (S r + d + 1))) := by
        intro x ex
        rw [ex, Int32.add_assoc]
        exact ih (d + 1) (by omega) (by omega)
      rw [sk_a2 h hs hk]
      unfold sk_g at step
      refine pk_eq w 0 (fun e => ?_) (fun e => ?_)
      · rw [if_pos e] at step
        exact pk_eq r i (fun q => sk_123t h hs hk (step _ (if_pos q).symm)) (fun q => sk_123f (step _ (if_neg q).symm))
      · rw [if_neg e] at step
        refine pk_eq w 1 (fun e' => ⟨sk_in h hs hk, ?_⟩) (fun e' => ⟨sk_in h hs hk, ?_⟩)
        · rw [if_pos e'] at step
          exact pk_eq (C (S r + d)) i (fun q => sk_123t h hs hk (step _ (if_pos q).symm)) (fun q => sk_123f (step _ (if_neg q).symm))
        · rw [if_neg e'] at step
          exact pk_eq (C (S r + d)) r (fun q => sk_123t h hs hk (step _ (if_pos q).symm)) (fun q => sk_123f (step _ (if_neg q).symm))
theorem sk_36l {post : Int32 → Prop} {f : Int32} {a1 a2 a3 a4 a5 a6 a7 : Nat → Int32} {s w i : Nat} {S C : Nat → Nat} {V : Nat → Int32} (h : sk_S a1 a2 a3 s S C V) (hs : s < 5) (hi : i < 6) (hw : w < 3) (hp : post (sk_sum (fun r => sk_sum (sk_g C V w i r) (S r) (S (r + 1) - S r)) 0 6)) : ∃ n, wX_sum_36 post (nI s) (nI w) (nI i) f a1 a2 a3 a4 a5 a6 a7 n 0 0 := by
  have key : ∀ n r, r ≤ 6 → 6 - r < n → wX_sum_36 post (nI s) (nI w) (nI i) f a1 a2 a3 a4 a5 a6 a7 n (sk_sum (fun r => sk_sum (sk_g C V w i r) (S r) (S (r + 1) - S r)) 0 r) (nI r) := by
    intro n
    induction n with
    | zero => intro r g1 g2; omega
    | succ n ih =>
      intro r g1 g2
      unfold wX_sum_36
      refine pk_le 6 r (fun z => ?_) (fun z => sk_from h hs z ⟨37, ?_⟩)
      · rw [show r = 6 by omega]
        exact hp
      · obtain ⟨b1, b2, b3, b4⟩ := sk_bd h.1 z
        have t := ih (r + 1) (by omega) (by omega)
        have e : sk_sum (fun r => sk_sum (sk_g C V w i r) (S r) (S (r + 1) - S r)) 0 (r + 1) = sk_sum (fun r => sk_sum (sk_g C V w i r) (S r) (S (r + 1) - S r)) 0 r + sk_sum (sk_g C V w i r) (S r) (S (r + 1) - S r) := by
          show _ + sk_sum (sk_g C V w i (0 + r)) (S (0 + r)) (S (0 + r + 1) - S (0 + r)) = _
          rw [Nat.zero_add]
        rw [e] at t
        have u := sk_52 (post := post) (f := f) (a4 := a4) (a5 := a5) (a6 := a6) (a7 := a7) h hs z hi hw t 37 0 (by omega) (by omega)
        rw [show sk_sum (sk_g C V w i r) (S r) 0 = 0 from rfl, Int32.add_zero] at u
        exact u
  exact ⟨7, key 7 0 (by omega) (by omega)⟩
theorem sk_wsum {post : Int32 → Prop} {f : Int32} {a1 a2 a3 a4 a5 a6 a7 : Nat → Int32} {s w i : Nat} {S C : Nat → Nat} {V : Nat → Int32} (h : sk_S a1 a2 a3 s S C V) (hs : s < 5) (hi : i < 6) (hw : w < 3) (hp : post (sk_sum (fun r => sk_sum (sk_g C V w i r) (S r) (S (r + 1) - S r)) 0 6)) : wpX_sum post (f, a1, a2, a3, a4, a5, a6, a7) (nI s) (nI w) (nI i) := by
  unfold wpX_sum
  dsimp only
  exact sk_slotT hs (br_f (by decide) (br_f (nI_pos (by omega)) (br_f (nI_nlt (b := w) (a := 2) (by omega) (by omega)) (pk_le 2 w (fun _ => sk_36l h hs hi hw hp) (fun _ => sk_indexT hi (br_f (by decide) (sk_36l h hs hi hw hp)))))))
end
section
theorem sk_symm {post : Int32 → Prop} {f : Int32} {a1 a2 a3 a4 a5 a6 a7 : Nat → Int32} {s : Nat} {S C : Nat → Nat} {V : Nat → Int32} (h : sk_S a1 a2 a3 s S C V) (hs : s < 5) (h1 : (∀ i j, i < 6 → j < 6 → sk_M S C V i j = sk_M S C V j i) → post 1) (h0 : (∃ i j, i < 6 ∧ j < 6 ∧ sk_M S C V i j ≠ sk_M S C V j i) → post 0) : wpX_symmetric post (f, a1, a2, a3, a4, a5, a6, a7) (nI s) := by
  have inner : ∀ (J : Int32 → Prop) i, i < 6 → ((∀ k, S i ≤ k → k < S (i + 1) → sk_M S C V (C k) i = V k) → J (nI (i + 1))) → ∀ n k, S i ≤ k → k ≤ S (i + 1) → S (i + 1) - k < n → (∀ l, S i ≤ l → l < k → sk_M S C V (C l) i = V l) → wX_symmetric_24 post J (nI s) (nI i) f a1 a2 a3 a4 a5 a6 a7 n (nI (s * 36 + k)) := by
    intro J i hi hJ n
    obtain ⟨b1, b2, b3, b4⟩ := sk_bd h.1 hi
    induction n with
    | zero => intro k g0 g1 g2; omega
    | succ n ih =>
      intro k g0 g1 g2 g3
      unfold wX_symmetric_24
      refine sk_upTo h hs hi (pk_le (s * 36 + S (i + 1)) (s * 36 + k) (fun z => nm_r (nI_1 i) (hJ (fun l u v => g3 l u (by omega)))) (fun z => ⟨sk_in h hs (by omega), ?_⟩))
      rw [sk_a2 h hs (by omega)]
      have hk : k < S (i + 1) := by omega
      have hc := sk_Clt h.1 hi hk
      have m1 := sk_M1 h.1 hi g0 hk
      have hv := sk_Vne h.1 hi hk
      obtain ⟨c1, c2, c3, c4⟩ := sk_bd h.1 hc
      refine sk_find h hs hc hi (fun l u v w => ?_) (fun q => ?_)
      · refine br_f (nI_pos (by omega)) ⟨sk_in h hs (by omega), sk_in h hs (by omega), ?_⟩
        rw [sk_a3 h hs (show l < S 6 by omega), sk_a3 h hs (show k < S 6 by omega)]
        have m2 := sk_M1 h.1 hc u v
        rw [w] at m2
        refine br_c (fun e => nm_r (sk_p1 s k) (ih (k + 1) (by omega) (by omega) (by omega) (fun l' u' v' => ?_))) (fun e => h0 ⟨i, C k, hi, hc, ?_⟩)
        · by_cases y : l' = k
          · rw [y, m2, e]
          · exact g3 l' u' (by omega)
        · rw [m1, m2]
          exact fun x => e x.symm
      · refine br_t (by decide) (h0 ⟨i, C k, hi, hc, ?_⟩)
        rw [m1, sk_M0 q]
        exact hv
  have outer : ∀ n i, i ≤ 6 → 6 - i < n → (∀ r, r < i → ∀ k, S r ≤ k → k < S (r + 1) → sk_M S C V (C k) r = V k) → wX_symmetric_11 post (nI s) f a1 a2 a3 a4 a5 a6 a7 n (nI i) := by
    intro n
    induction n with
    | zero => intro i g1 g2; omega
    | succ n ih =>
      intro i g1 g2 g3
      unfold wX_symmetric_11
      refine pk_le 6 i (fun z => h1 (sk_sym h.1 (fun r hr => g3 r (by omega)))) (fun z => sk_from h hs z ⟨37, ?_⟩)
      obtain ⟨b1, b2, b3, b4⟩ := sk_bd h.1 z
      refine inner _ i z (fun q => ih (i + 1) (by omega) (by omega) (fun r hr => ?_)) 37 (S i) (by omega) (by omega) (by omega) (fun l u v => absurd v (by omega))
      by_cases y : r = i
      · rw [y]; exact q
      · exact g3 r (by omega)
  unfold wpX_symmetric
  dsimp only
  exact sk_slotT hs (br_f (by decide) ⟨7, outer 7 0 (by omega) (by omega) (fun r hr => absurd hr (by omega))⟩)
theorem sk_same {post : Int32 → Prop} {f : Int32} {a1 a2 a3 a4 a5 a6 a7 : Nat → Int32} {s t : Nat} {S C : Nat → Nat} {V : Nat → Int32} {S' C' : Nat → Nat} {V' : Nat → Int32} (h : sk_S a1 a2 a3 s S C V) (hs : s < 5) (h' : sk_S a1 a2 a3 t S' C' V') (ht : t < 5) (h1 : (∀ i j, i < 6 → j < 6 → sk_M S C V i j = sk_M S' C' V' i j) → post 1) (h0 : ¬ (∀ i j, i < 6 → j < 6 → sk_M S C V i j = sk_M S' C' V' i j) → post 0) : wpX_same post (f, a1, a2, a3, a4, a5, a6, a7) (nI s) (nI t) := by
  have b := sk_36 h.1
  have inner : (∀ i, i ≤ 6 → S i = S' i) → ∀ n k, k ≤ S 6 → S 6 - k < n → (∀ l, l < k → C l = C' l ∧ V l = V' l) → wX_same_59 post (nI s) (nI t) f a1 a2 a3 a4 a5 a6 a7 n (nI k) := by
    intro hS n
    have e6 := hS 6 (by omega)
    induction n with
    | zero => intro k g1 g2; omega
    | succ n ih =>
      intro k g1 g2 g3
      unfold wX_same_59
      rw [show (6 : Int32) = nI 6 from rfl, sk_e7, nI_clamp (show s * 7 + 6 < 2 ^ 31 by omega), h.2.1 6 (by omega), sk_e36, sk_e36]
      refine ⟨vp_in_nI (by omega) (by omega), pk_le (S 6) k (fun z => h1 (sk_eqM h.1 hS (fun l hl => g3 l (by omega)))) (fun z => nm_e (nm_e ⟨sk_in h hs z, sk_in h' ht (by omega), ?_⟩))⟩
      rw [sk_a2 h hs z, sk_a2 h' ht (by omega), sk_a3 h hs z, sk_a3 h' ht (by omega)]
      have c := h.1.2.2.2.1 k z
      have c' := h'.1.2.2.2.1 k (by omega)
      refine pk_eq (C k) (C' k) (fun e => ⟨sk_in h hs z, sk_in h' ht (by omega), br_c (fun e' => nm_r (nI_1 k) (ih (k + 1) (by omega) (by omega) (fun l hl => ?_))) (fun e' => h0 (fun q => e' (sk_eqC h.1 h'.1 q k z).2))⟩) (fun e => h0 (fun q => e (sk_eqC h.1 h'.1 q k z).1))
      by_cases y : l = k
      · rw [y]; exact ⟨e, e'⟩
      · exact g3 l (by omega)
  have outer : ∀ n i, i ≤ 7 → 7 - i < n → (∀ r, r < i → S r = S' r) → wX_same_18 post (nI s) (nI t) f a1 a2 a3 a4 a5 a6 a7 n (nI i) := by
    intro n
    induction n with
    | zero => intro i g1 g2; omega
    | succ n ih =>
      intro i g1 g2 g3
      unfold wX_same_18
      refine pk_lt 6 i (fun z => ⟨37, inner (fun r hr => g3 r (by omega)) 37 0 (by omega) (by omega) (fun l hl => absurd hl (by omega))⟩) (fun z => ?_)
      rw [sk_e7, sk_e7, nI_clamp (show s * 7 + i < 2 ^ 31 by omega), nI_clamp (show t * 7 + i < 2 ^ 31 by omega), h.2.1 i (by omega), h'.2.1 i (by omega)]
      have q1 := sk_up h.1.1 h.1.2.2.1 i (by omega)
      have q2 := sk_up h'.1.1 h'.1.2.2.1 i (by omega)
      refine ⟨vp_in_nI (by omega) (by omega), vp_in_nI (by omega) (by omega), pk_eq (S i) (S' i) (fun e => nm_r (nI_1 i) (ih (i + 1) (by omega) (by omega) (fun r hr => ?_))) (fun e => h0 (fun q => e (sk_eqS h.1 h'.1 q i (by omega))))⟩
      by_cases y : r = i
      · rw [y]; exact e
      · exact g3 r (by omega)
  unfold wpX_same
  dsimp only
  exact sk_slotT hs (br_f (by decide) (sk_slotT ht (br_f (by decide) ⟨8, outer 8 0 (by omega) (by omega) (fun r hr => absurd hr (by omega))⟩)))
end
section
/-- a post that any state with good slots meets -/
def sk_OK (post : Int32 → St1 → Prop) : Prop := ∀ r f a1 a2 a3 a4 a5 a6 a7, sk_K a1 a2 a3 → post r (f, a1, a2, a3, a4, a5, a6, a7)
theorem sk_next_le {S C : Nat → Nat} {V : Nat → Int32} (h : sk_P S C V) {i k : Nat} (hi : i < 6) (h1 : S i ≤ k) : ∀ q, k + 1 ≤ q → q < S (i + 1) → C k + 1 ≤ C q := by
  intro q u v
  have := h.2.2.2.2.2 i hi k q h1 (by omega) v
  omega
theorem sk_here_le {S C : Nat → Nat} {V : Nat → Int32} (h : sk_P S C V) {i k : Nat} (hi : i < 6) (h1 : S i ≤ k) : ∀ q, k ≤ q → q < S (i + 1) → C k ≤ C q := by
  intro q u v
  by_cases e : q = k
  · rw [e]; exact Nat.le_refl _
  · have := h.2.2.2.2.2 i hi k q h1 (by omega) v
    omega
theorem sk_cross {post : St1 → Prop} {a1 a2 a3 a4 a5 a6 a7 : Nat → Int32} {s t i m : Nat} {S C : Nat → Nat} {V : Nat → Int32} {S' C' : Nat → Nat} {V' : Nat → Int32} (h : sk_S a1 a2 a3 s S C V) (hs : s < 5) (h' : sk_S a1 a2 a3 t S' C' V') (ht : t < 5) (hi : i < 6) (hB : sk_B a4 a5 a6 i m 0) (hp : ∀ m' a5' a6', sk_B a4 a5' a6' i m' 6 → post (nI m', a1, a2, a3, a4, a5', a6', a7)) : wpX_crossRow post (nI m, a1, a2, a3, a4, a5, a6, a7) (nI s) (nI t) (nI i) := by
  obtain ⟨b1, b2, b3, b4⟩ := sk_bd h.1 hi
  obtain ⟨c1, c2, c3, c4⟩ := sk_bd h'.1 hi
  have key : ∀ n k l m b a5 a6, S i ≤ k → k ≤ S (i + 1) → S' i ≤ l → l ≤ S' (i + 1) → (S (i + 1) - k) + (S' (i + 1) - l) < n → b ≤ 6 → (∀ q, k ≤ q → q < S (i + 1) → b ≤ C q) → sk_B a4 a5 a6 i m b → wX_crossRow_32 post (nI (s * 36 + S (i + 1))) (nI (t * 36 + S' (i + 1))) n (nI (s * 36 + k)) (nI (t * 36 + l)) (nI m) a1 a2 a3 a4 a5 a6 a7 := by
    intro n
    induction n with
    | zero => intro k l m b a5 a6 g1 g2 g3 g4 g5; omega
    | succ n ih =>
      intro k l m b a5 a6 g1 g2 g3 g4 g5 g6 g7 hB
      unfold wX_crossRow_32
      refine pk_le (s * 36 + S (i + 1)) (s * 36 + k) (fun z => hp _ _ _ (sk_B_up hB g6)) (fun z => pk_le (t * 36 + S' (i + 1)) (t * 36 + l) (fun y => hp _ _ _ (sk_B_up hB g6)) (fun y => ⟨sk_in h hs (by omega), sk_in h' ht (by omega), ?_⟩))
      rw [sk_a2 h hs (by omega), sk_a2 h' ht (by omega)]
      have d := sk_Clt (k := k) h.1 hi (by omega)
      have d' := sk_Clt (k := l) h'.1 hi (by omega)
      refine pk_eq (C k) (C' l) (fun e => ⟨sk_in h hs (by omega), sk_in h hs (by omega), sk_in h' ht (by omega), sk_emit hB hi (g7 k (by omega) (by omega)) d (fun m' a5' a6' hB' => nm_r (sk_p1 s k) (nm_r (sk_p1 t l) (ih (k + 1) (l + 1) m' (C k + 1) a5' a6' (by omega) (by omega) (by omega) (by omega) (by omega) (by omega) (sk_next_le h.1 hi g1) hB')))⟩) (fun e => ⟨sk_in h hs (by omega), sk_in h' ht (by omega), pk_le (C' l) (C k) (fun x => nm_r (sk_p1 t l) (ih k (l + 1) m b a5 a6 (by omega) (by omega) (by omega) (by omega) (by omega) (by omega) g7 hB)) (fun x => nm_r (sk_p1 s k) (ih (k + 1) l m b a5 a6 (by omega) (by omega) (by omega) (by omega) (by omega) (by omega) (fun q u v => g7 q (by omega) v) hB))⟩)
  unfold wpX_crossRow
  dsimp only
  exact sk_from h hs hi (sk_from h' ht hi (sk_upTo h hs hi (sk_upTo h' ht hi ⟨13, key 13 (S i) (S' i) m 0 a5 a6 (by omega) (by omega) (by omega) (by omega) (by omega) (by omega) (fun q _ _ => Nat.zero_le _) hB⟩)))
theorem sk_m86 {post : St1 → Prop} {J : Int32 → Int32 → Int32 → (Nat → Int32) → (Nat → Int32) → (Nat → Int32) → (Nat → Int32) → (Nat → Int32) → (Nat → Int32) → (Nat → Int32) → Prop} {x6 x7 : Int32} {a1 a2 a3 a4 a5 a6 a7 : Nat → Int32} {s t i k l m b c c' : Nat} {S C : Nat → Nat} {V : Nat → Int32} {S' C' : Nat → Nat} {V' : Nat → Int32} (h : sk_S a1 a2 a3 s S C V) (hs : s < 5) (h' : sk_S a1 a2 a3 t S' C' V') (ht : t < 5) (hi : i < 6)
    (hA : (k < S (i + 1) ∧ c = C k) ∨ (k = S (i + 1) ∧ c = 6)) (hA' : (l < S' (i + 1) ∧ c' = C' l) ∨ (l = S' (i + 1) ∧ c' = 6)) (hc : c ≤ 6) (hc' : c' ≤ 6) (hn : c < 6 ∨ c' < 6) (hk : S i ≤ k) (hl : S' i ≤ l) (hB : sk_B a4 a5 a6 i m b) (hb : b ≤ c) (hb' : b ≤ c')
    (hJ : ∀ k' l' m' b' a5' a6', S i ≤ k' → k' ≤ S (i + 1) → S' i ≤ l' → l' ≤ S' (i + 1) → (S (i + 1) - k') + (S' (i + 1) - l') < (S (i + 1) - k) + (S' (i + 1) - l) → b' ≤ 6 → (∀ q, k' ≤ q → q < S (i + 1) → b' ≤ C q) → (∀ q, l' ≤ q → q < S' (i + 1) → b' ≤ C' q) → sk_B a4 a5' a6' i m' b' → J (nI (s * 36 + k')) (nI (t * 36 + l')) (nI m') a1 a2 a3 a4 a5' a6' a7) :
    wX_mergeRow_86 post J (nI (s * 36 + k)) (nI (t * 36 + l)) x6 x7 (nI c) (nI c') (nI m) a1 a2 a3 a4 a5 a6 a7 := by
  obtain ⟨b1, b2, b3, b4⟩ := sk_bd h.1 hi
  obtain ⟨c1, c2, c3, c4⟩ := sk_bd h'.1 hi
  have main : ∀ e, e < 6 → (e = c ∨ e = c') → e ≤ c → e ≤ c' → wX_mergeRow_102 post J (nI (s * 36 + k)) (nI (t * 36 + l)) x6 x7 (nI c) (nI c') (nI e) (nI m) a1 a2 a3 a4 a5 a6 a7 := by
    intro e he hor e1 e2
    have s151 : ∀ k' l' v, S i ≤ k' → k' ≤ S (i + 1) → S' i ≤ l' → l' ≤ S' (i + 1) → (S (i + 1) - k') + (S' (i + 1) - l') < (S (i + 1) - k) + (S' (i + 1) - l) → (∀ q, k' ≤ q → q < S (i + 1) → e + 1 ≤ C q) → (∀ q, l' ≤ q → q < S' (i + 1) → e + 1 ≤ C' q) → wX_mergeRow_151 post J (nI (s * 36 + k')) (nI (t * 36 + l')) x6 x7 (nI e) v (nI m) a1 a2 a3 a4 a5 a6 a7 := by
      intro k' l' v g1 g2 g3 g4 g5 g6 g7
      unfold wX_mergeRow_151
      exact sk_emit hB hi (show b ≤ e by omega) he (fun m' a5' a6' hB' => hJ k' l' m' (e + 1) a5' a6' g1 g2 g3 g4 g5 (by omega) g6 g7 hB')
    have s129 : ∀ k' v, S i ≤ k' → k' ≤ S (i + 1) → (k' = k ∧ e ≠ c ∨ k' = k + 1 ∧ e = c) → (∀ q, k' ≤ q → q < S (i + 1) → e + 1 ≤ C q) → wX_mergeRow_129 post J (nI (s * 36 + k')) (nI (t * 36 + l)) x6 x7 (nI c') (nI e) v (nI m) a1 a2 a3 a4 a5 a6 a7 := by
      intro k' v g1 g2 g3 g4
      unfold wX_mergeRow_129
      refine pk_eq c' e (fun z => ?_) (fun z => ?_)
      · have hl' : l < S' (i + 1) := by omega
        have el : c' = C' l := by omega
        refine ⟨sk_in h' ht (by omega), nm_e (nm_r (sk_p1 t l) (s151 k' (l + 1) _ g1 g2 (by omega) (by omega) (by omega) g4 (fun q u w => ?_)))⟩
        have := sk_next_le h'.1 hi hl q u w
        omega
      · refine s151 k' l _ g1 g2 (by omega) (by omega) (by omega) g4 (fun q u w => ?_)
        have := sk_here_le h'.1 hi hl q u w
        omega
    unfold wX_mergeRow_102
    refine pk_eq c e (fun z => ?_) (fun z => ?_)
    · have hk' : k < S (i + 1) := by omega
      have ek : c = C k := by omega
      refine ⟨sk_in h hs (by omega), nm_e (nm_r (sk_p1 s k) (s129 (k + 1) _ (by omega) (by omega) (by omega) (fun q u w => ?_)))⟩
      have := sk_next_le h.1 hi hk q u w
      omega
    · refine s129 k _ hk (by omega) (by omega) (fun q u w => ?_)
      have := sk_here_le h.1 hi hk q u w
      omega
  unfold wX_mergeRow_86
  exact pk_le c' c (fun z => main c' (by omega) (Or.inr rfl) z (Nat.le_refl _)) (fun z => main c (by omega) (Or.inl rfl) (Nat.le_refl _) (by omega))
theorem sk_merge {post : St1 → Prop} {a1 a2 a3 a4 a5 a6 a7 : Nat → Int32} {s t i m : Nat} {S C : Nat → Nat} {V : Nat → Int32} {S' C' : Nat → Nat} {V' : Nat → Int32} (h : sk_S a1 a2 a3 s S C V) (hs : s < 5) (h' : sk_S a1 a2 a3 t S' C' V') (ht : t < 5) (hi : i < 6) (hB : sk_B a4 a5 a6 i m 0) (hp : ∀ m' a5' a6', sk_B a4 a5' a6' i m' 6 → post (nI m', a1, a2, a3, a4, a5', a6', a7)) : wpX_mergeRow post (nI m, a1, a2, a3, a4, a5, a6, a7) (nI s) (nI t) (nI i) := by
  obtain ⟨b1, b2, b3, b4⟩ := sk_bd h.1 hi
  obtain ⟨c1, c2, c3, c4⟩ := sk_bd h'.1 hi
  have key : ∀ n k l m b a5 a6, S i ≤ k → k ≤ S (i + 1) → S' i ≤ l → l ≤ S' (i + 1) → (S (i + 1) - k) + (S' (i + 1) - l) < n → b ≤ 6 → (∀ q, k ≤ q → q < S (i + 1) → b ≤ C q) → (∀ q, l ≤ q → q < S' (i + 1) → b ≤ C' q) → sk_B a4 a5 a6 i m b → wX_mergeRow_32 post (nI (s * 36 + S (i + 1))) (nI (t * 36 + S' (i + 1))) n (nI (s * 36 + k)) (nI (t * 36 + l)) (nI m) a1 a2 a3 a4 a5 a6 a7 := by
    intro n
    induction n with
    | zero => intro k l m b a5 a6 g1 g2 g3 g4 g5; omega
    | succ n ih =>
      intro k l m b a5 a6 g1 g2 g3 g4 g5 g6 g7 g8 hB
      have s46 : k < S (i + 1) ∨ l < S' (i + 1) → wX_mergeRow_46 post (wX_mergeRow_32 post (nI (s * 36 + S (i + 1))) (nI (t * 36 + S' (i + 1))) n) (nI (s * 36 + k)) (nI (t * 36 + l)) (nI (s * 36 + S (i + 1))) (nI (t * 36 + S' (i + 1))) (nI m) a1 a2 a3 a4 a5 a6 a7 := by
        intro ho
        have s65 : ∀ c, (k < S (i + 1) ∧ c = C k) ∨ (k = S (i + 1) ∧ c = 6) → c ≤ 6 → b ≤ c → (k < S (i + 1) → c < 6) → wX_mergeRow_65 post (wX_mergeRow_32 post (nI (s * 36 + S (i + 1))) (nI (t * 36 + S' (i + 1))) n) (nI (s * 36 + k)) (nI (t * 36 + l)) (nI (s * 36 + S (i + 1))) (nI (t * 36 + S' (i + 1))) (nI c) (nI m) a1 a2 a3 a4 a5 a6 a7 := by
          intro c hA hc hb hk6
          unfold wX_mergeRow_65
          refine pk_le (t * 36 + S' (i + 1)) (t * 36 + l) (fun z => ?_) (fun z => ⟨sk_in h' ht (by omega), ?_⟩)
          · exact sk_m86 (c' := 6) h hs h' ht hi hA (Or.inr ⟨by omega, rfl⟩) hc (Nat.le_refl _) (by omega) g1 g3 hB hb (by omega) (fun k' l' m' b' a5' a6' q1 q2 q3 q4 q5 q6 q7 q8 q9 => ih k' l' m' b' a5' a6' q1 q2 q3 q4 (by omega) q6 q7 q8 q9)
          · rw [sk_a2 h' ht (by omega)]
            have d := sk_Clt (k := l) h'.1 hi (by omega)
            exact sk_m86 h hs h' ht hi hA (Or.inl ⟨by omega, rfl⟩) hc (by omega) (Or.inr d) g1 g3 hB hb (g8 l (by omega) (by omega)) (fun k' l' m' b' a5' a6' q1 q2 q3 q4 q5 q6 q7 q8 q9 => ih k' l' m' b' a5' a6' q1 q2 q3 q4 (by omega) q6 q7 q8 q9)
        unfold wX_mergeRow_46
        refine pk_le (s * 36 + S (i + 1)) (s * 36 + k) (fun z => ?_) (fun z => ⟨sk_in h hs (by omega), ?_⟩)
        · exact s65 6 (Or.inr ⟨by omega, rfl⟩) (Nat.le_refl _) g6 (fun y => absurd y (by omega))
        · rw [sk_a2 h hs (by omega)]
          have d := sk_Clt (k := k) h.1 hi (by omega)
          exact s65 (C k) (Or.inl ⟨by omega, rfl⟩) (by omega) (g7 k (by omega) (by omega)) (fun _ => d)
      unfold wX_mergeRow_32
      exact pk_lt (s * 36 + k) (s * 36 + S (i + 1)) (fun z => s46 (by omega)) (fun z => pk_le (t * 36 + S' (i + 1)) (t * 36 + l) (fun y => hp _ _ _ (sk_B_up hB g6)) (fun y => s46 (by omega)))
  unfold wpX_mergeRow
  dsimp only
  exact sk_from h hs hi (sk_from h' ht hi (sk_upTo h hs hi (sk_upTo h' ht hi ⟨13, key 13 (S i) (S' i) m 0 a5 a6 (by omega) (by omega) (by omega) (by omega) (by omega) (by omega) (fun q _ _ => Nat.zero_le _) (fun q _ _ => Nat.zero_le _) hB⟩)))
theorem sk_prow {post : St1 → Prop} {f : Int32} {a1 a2 a3 a4 a5 a6 a7 : Nat → Int32} {s t i : Nat} {S C : Nat → Nat} {V : Nat → Int32} {S' C' : Nat → Nat} {V' : Nat → Int32} (h : sk_S a1 a2 a3 s S C V) (hs : s < 5) (h' : sk_S a1 a2 a3 t S' C' V') (ht : t < 5) (hi : i < 6) (hp : ∀ a7', post (f, a1, a2, a3, a4, a5, a6, a7')) : wpX_productRow post (f, a1, a2, a3, a4, a5, a6, a7) (nI s) (nI t) (nI i) := by
  obtain ⟨b1, b2, b3, b4⟩ := sk_bd h.1 hi
  have inner : ∀ (J : Int32 → (Nat → Int32) → (Nat → Int32) → (Nat → Int32) → (Nat → Int32) → (Nat → Int32) → (Nat → Int32) → (Nat → Int32) → Prop) k c, k < S 6 → c < 6 → (∀ a7, J (nI (s * 36 + (k + 1))) a1 a2 a3 a4 a5 a6 a7) → ∀ n l a7, l ≤ S' (c + 1) → S' (c + 1) - l < n → wX_productRow_41 post J (nI s) (nI t) (nI i) (nI (s * 36 + k)) (nI c) f n (nI (t * 36 + l)) a1 a2 a3 a4 a5 a6 a7 := by
    intro J k c hk hc hJ n
    obtain ⟨c1, c2, c3, c4⟩ := sk_bd h'.1 hc
    induction n with
    | zero => intro l a7 g1 g2; omega
    | succ n ih =>
      intro l a7 g1 g2
      unfold wX_productRow_41
      refine sk_upTo h' ht hc (pk_le (t * 36 + S' (c + 1)) (t * 36 + l) (fun z => nm_r (sk_p1 s k) (hJ a7)) (fun z => ?_))
      rw [sk_a2 h' ht (by omega)]
      have d := sk_Clt (k := l) h'.1 hc (by omega)
      exact ⟨sk_in h' ht (by omega), vp_in_nI d (by omega), sk_in h hs hk, sk_in h' ht (by omega), vp_in_nI d (by omega), nm_e (nm_r (sk_p1 t l) (ih (l + 1) _ (by omega) (by omega)))⟩
  have outer : ∀ n k a7, k ≤ S (i + 1) → S (i + 1) - k < n → wX_productRow_12 post (nI s) (nI t) (nI i) f n (nI (s * 36 + k)) a1 a2 a3 a4 a5 a6 a7 := by
    intro n
    induction n with
    | zero => intro k a7 g1 g2; omega
    | succ n ih =>
      intro k a7 g1 g2
      unfold wX_productRow_12
      refine sk_upTo h hs hi (pk_le (s * 36 + S (i + 1)) (s * 36 + k) (fun z => hp a7) (fun z => ⟨sk_in h hs (by omega), nm_r (sk_a2 h hs (by omega)) ?_⟩))
      have d := sk_Clt (k := k) h.1 hi (by omega)
      obtain ⟨c1, c2, c3, c4⟩ := sk_bd h'.1 d
      exact sk_from h' ht d ⟨37, inner _ k (C k) (by omega) d (fun a7 => ih (k + 1) a7 (by omega) (by omega)) 37 (S' (C k)) a7 (by omega) (by omega)⟩
  unfold wpX_productRow
  dsimp only
  exact sk_clearWork (fun a7' => sk_from h hs hi ⟨37, outer 37 (S i) a7' (by omega) (by omega)⟩)
end
section
theorem sk_scale39 {post : Int32 → St1 → Prop} {J : Int32 → Int32 → (Nat → Int32) → (Nat → Int32) → (Nat → Int32) → (Nat → Int32) → (Nat → Int32) → (Nat → Int32) → (Nat → Int32) → Prop} {x1 x3 : Int32} {a1 a2 a3 : Nat → Int32} {s i : Nat} {S C : Nat → Nat} {V : Nat → Int32} (h : sk_S a1 a2 a3 s S C V) (hs : s < 5) (hi : i < 6) (hJ : ∀ m a4 a5 a6 a7, sk_B a4 a5 a6 (i + 1) m 0 → J (nI (i + 1)) (nI m) a1 a2 a3 a4 a5 a6 a7) : ∀ n k m b a4 a5 a6 a7, S i ≤ k → k ≤ S (i + 1) → S (i + 1) - k < n → b ≤ 6 → (∀ q, k ≤ q → q < S (i + 1) → b ≤ C q) → sk_B a4 a5 a6 i m b → wX_scale_39 post J x1 (nI s) x3 (nI i) n (nI (s * 36 + k)) (nI m) a1 a2 a3 a4 a5 a6 a7 := by
  obtain ⟨b1, b2, b3, b4⟩ := sk_bd h.1 hi
  intro n
  induction n with
  | zero => intro k m b a4 a5 a6 a7 g1 g2 g3; omega
  | succ n ih =>
    intro k m b a4 a5 a6 a7 g1 g2 g3 g4 g5 hB
    unfold wX_scale_39
    refine sk_upTo h hs hi (pk_le (s * 36 + S (i + 1)) (s * 36 + k) (fun z => sk_endRow hB hi g4 (fun a4' hB' => nm_r (nI_1 i) (hJ _ _ _ _ _ hB'))) (fun z => ⟨sk_in h hs (by omega), sk_in h hs (by omega), ?_⟩))
    rw [sk_a2 h hs (by omega)]
    have d := sk_Clt (k := k) h.1 hi (by omega)
    exact sk_emit hB hi (g5 k (by omega) (by omega)) d (fun m' a5' a6' hB' => nm_r (sk_p1 s k) (ih (k + 1) m' (C k + 1) a4 a5' a6' a7 (by omega) (by omega) (by omega) (by omega) (sk_next_le h.1 hi g1) hB'))
theorem sk_scale {post : Int32 → St1 → Prop} {f : Int32} {a1 a2 a3 a4 a5 a6 a7 : Nat → Int32} {p0 p1 p2 : Int32} (hK : sk_K a1 a2 a3) (hp : sk_OK post) : wpX_scale post (f, a1, a2, a3, a4, a5, a6, a7) p0 p1 p2 := by
  have key : ∀ t s, t < 5 → s < 5 → ∀ n i m a4 a5 a6 a7, i ≤ 6 → 6 - i < n → sk_B a4 a5 a6 i m 0 → wX_scale_23 post (nI t) (nI s) p2 n (nI i) (nI m) a1 a2 a3 a4 a5 a6 a7 := by
    intro t s ht hs n
    obtain ⟨S, C, V, h⟩ := hK s hs
    induction n with
    | zero => intro i m a4 a5 a6 a7 g1 g2; omega
    | succ n ih =>
      intro i m a4 a5 a6 a7 g1 g2 hB
      unfold wX_scale_23
      refine pk_le 6 i (fun z => ?_) (fun z => ?_)
      · rw [show i = 6 by omega] at hB
        exact sk_store hK ht hB (fun c1 c2 c3 hK' => hp _ _ _ _ _ _ _ _ _ hK')
      · obtain ⟨b1, b2, b3, b4⟩ := sk_bd h.1 z
        exact sk_from h hs z ⟨37, sk_scale39 h hs z (fun m a4 a5 a6 a7 hB' => ih (i + 1) m a4 a5 a6 a7 (by omega) (by omega) hB') 37 (S i) m 0 a4 a5 a6 a7 (by omega) (by omega) (by omega) (by omega) (fun q _ _ => Nat.zero_le _) hB⟩
  unfold wpX_scale
  dsimp only
  refine sk_slot (br_t rfl (hp _ _ _ _ _ _ _ _ _ hK)) (fun t ht et => br_f (by decide) (sk_slot (br_t rfl (hp _ _ _ _ _ _ _ _ _ hK)) (fun s hs es => br_f (by decide) (sk_begin (fun a4' hB => ⟨7, ?_⟩)))))
  rw [et, es]
  exact key t s ht hs 7 0 0 a4' a5 a6 a7 (by omega) (by omega) hB
theorem sk_select66 {post : Int32 → St1 → Prop} {J : Int32 → Int32 → (Nat → Int32) → (Nat → Int32) → (Nat → Int32) → (Nat → Int32) → (Nat → Int32) → (Nat → Int32) → (Nat → Int32) → Prop} {x1 x3 x5 : Int32} {a1 a2 a3 : Nat → Int32} {s i : Nat} {S C : Nat → Nat} {V : Nat → Int32} (h : sk_S a1 a2 a3 s S C V) (hs : s < 5) (hi : i < 6) (hJ : ∀ m a4 a5 a6 a7, sk_B a4 a5 a6 (i + 1) m 0 → J (nI (i + 1)) (nI m) a1 a2 a3 a4 a5 a6 a7) : ∀ n k m b a4 a5 a6 a7, S i ≤ k → k ≤ S (i + 1) → S (i + 1) - k < n → b ≤ 6 → (∀ q, k ≤ q → q < S (i + 1) → b ≤ C q) → sk_B a4 a5 a6 i m b → wX_select_66 post J x1 (nI s) x3 (nI i) x5 n (nI (s * 36 + k)) (nI m) a1 a2 a3 a4 a5 a6 a7 := by
  obtain ⟨b1, b2, b3, b4⟩ := sk_bd h.1 hi
  intro n
  induction n with
  | zero => intro k m b a4 a5 a6 a7 g1 g2 g3; omega
  | succ n ih =>
    intro k m b a4 a5 a6 a7 g1 g2 g3 g4 g5 hB
    have s124 : wX_select_124 post J x1 (nI s) x3 (nI i) (nI m) a1 a2 a3 a4 a5 a6 a7 := by
      unfold wX_select_124
      exact sk_endRow hB hi g4 (fun a4' hB' => nm_r (nI_1 i) (hJ _ _ _ _ _ hB'))
    unfold wX_select_66
    refine sk_upTo h hs hi (pk_le (s * 36 + S (i + 1)) (s * 36 + k) (fun z => s124) (fun z => br_c (fun _ => s124) (fun _ => ⟨sk_in h hs (by omega), br_c (fun _ => nm_r (sk_p1 s k) (ih (k + 1) m b a4 a5 a6 a7 (by omega) (by omega) (by omega) g4 (fun q u v => g5 q (by omega) v) hB)) (fun _ => ⟨sk_in h hs (by omega), sk_in h hs (by omega), ?_⟩)⟩)))
    rw [sk_a2 h hs (by omega)]
    have d := sk_Clt (k := k) h.1 hi (by omega)
    exact sk_emit hB hi (g5 k (by omega) (by omega)) d (fun m' a5' a6' hB' => nm_r (sk_p1 s k) (ih (k + 1) m' (C k + 1) a4 a5' a6' a7 (by omega) (by omega) (by omega) (by omega) (sk_next_le h.1 hi g1) hB'))
theorem sk_select {post : Int32 → St1 → Prop} {f : Int32} {a1 a2 a3 a4 a5 a6 a7 : Nat → Int32} {p0 p1 p2 : Int32} (hK : sk_K a1 a2 a3) (hp : sk_OK post) : wpX_select post (f, a1, a2, a3, a4, a5, a6, a7) p0 p1 p2 := by
  have key : ∀ t s, t < 5 → s < 5 → ∀ n i m a4 a5 a6 a7, i ≤ 6 → 6 - i < n → sk_B a4 a5 a6 i m 0 → wX_select_34 post (nI t) (nI s) p2 n (nI i) (nI m) a1 a2 a3 a4 a5 a6 a7 := by
    intro t s ht hs n
    obtain ⟨S, C, V, h⟩ := hK s hs
    induction n with
    | zero => intro i m a4 a5 a6 a7 g1 g2; omega
    | succ n ih =>
      intro i m a4 a5 a6 a7 g1 g2 hB
      unfold wX_select_34
      refine pk_le 6 i (fun z => ?_) (fun z => ?_)
      · rw [show i = 6 by omega] at hB
        exact sk_store hK ht hB (fun c1 c2 c3 hK' => hp _ _ _ _ _ _ _ _ _ hK')
      · obtain ⟨b1, b2, b3, b4⟩ := sk_bd h.1 z
        have s55 : ∀ z0, wX_select_55 post (wX_select_34 post (nI t) (nI s) p2 n) (nI t) (nI s) p2 (nI i) z0 (nI m) a1 a2 a3 a4 a5 a6 a7 := by
          intro z0
          unfold wX_select_55
          exact sk_from h hs z ⟨37, sk_select66 h hs z (fun m a4 a5 a6 a7 hB' => ih (i + 1) m a4 a5 a6 a7 (by omega) (by omega) hB') 37 (S i) m 0 a4 a5 a6 a7 (by omega) (by omega) (by omega) (by omega) (fun q _ _ => Nat.zero_le _) hB⟩
        exact br_c (fun _ => s55 0) (fun _ => s55 1)
  unfold wpX_select
  dsimp only
  refine sk_slot (br_t rfl (hp _ _ _ _ _ _ _ _ _ hK)) (fun t ht et => br_f (by decide) (sk_slot (br_t rfl (hp _ _ _ _ _ _ _ _ _ hK)) (fun s hs es => br_f (by decide) (br_c (fun _ => hp _ _ _ _ _ _ _ _ _ hK) (fun _ => br_c (fun _ => sk_begin (fun a4' hB => ⟨7, ?_⟩)) (fun _ => hp _ _ _ _ _ _ _ _ _ hK))))))
  rw [et, es]
  exact key t s ht hs 7 0 0 a4' a5 a6 a7 (by omega) (by omega) hB
theorem sk_transpose {post : Int32 → St1 → Prop} {f : Int32} {a1 a2 a3 a4 a5 a6 a7 : Nat → Int32} {p0 p1 : Int32} (hK : sk_K a1 a2 a3) (hp : sk_OK post) : wpX_transpose post (f, a1, a2, a3, a4, a5, a6, a7) p0 p1 := by
  have key : ∀ t s, t < 5 → s < 5 → ∀ n j m a4 a5 a6 a7, j ≤ 6 → 6 - j < n → sk_B a4 a5 a6 j m 0 → wX_transpose_22 post (nI t) (nI s) n (nI j) (nI m) a1 a2 a3 a4 a5 a6 a7 := by
    intro t s ht hs n
    obtain ⟨S, C, V, h⟩ := hK s hs
    induction n with
    | zero => intro j m a4 a5 a6 a7 g1 g2; omega
    | succ n ih =>
      intro j m a4 a5 a6 a7 g1 g2 hB
      unfold wX_transpose_22
      refine pk_le 6 j (fun z => ?_) (fun z => ?_)
      · rw [show j = 6 by omega] at hB
        exact sk_store hK ht hB (fun c1 c2 c3 hK' => hp _ _ _ _ _ _ _ _ _ hK')
      · have inner : ∀ n' i m a4 a5 a6 a7, i ≤ 6 → 6 - i < n' → sk_B a4 a5 a6 j m i → wX_transpose_31 post (wX_transpose_22 post (nI t) (nI s) n) (nI t) (nI s) (nI j) n' (nI i) (nI m) a1 a2 a3 a4 a5 a6 a7 := by
          intro n'
          induction n' with
          | zero => intro i m a4 a5 a6 a7 q1 q2; omega
          | succ n' ih' =>
            intro i m a4 a5 a6 a7 q1 q2 hB
            unfold wX_transpose_31
            refine pk_le 6 i (fun y => sk_endRow hB z q1 (fun a4' hB' => nm_r (nI_1 j) (ih (j + 1) _ _ _ _ _ (by omega) (by omega) hB'))) (fun y => sk_find h hs y z (fun k u v w => ?_) (fun q => br_t (by decide) (nm_r (nI_1 i) (ih' (i + 1) m a4 a5 a6 a7 (by omega) (by omega) (sk_B_up hB (by omega))))))
            obtain ⟨b1, b2, b3, b4⟩ := sk_bd h.1 y
            exact br_f (nI_pos (by omega)) ⟨sk_in h hs (by omega), sk_emit hB z (Nat.le_refl i) y (fun m' a5' a6' hB' => nm_r (nI_1 i) (ih' (i + 1) m' a4 a5' a6' a7 (by omega) (by omega) hB'))⟩
        exact ⟨7, inner 7 0 m a4 a5 a6 a7 (by omega) (by omega) hB⟩
  unfold wpX_transpose
  dsimp only
  refine sk_slot (br_t rfl (hp _ _ _ _ _ _ _ _ _ hK)) (fun t ht et => br_f (by decide) (sk_slot (br_t rfl (hp _ _ _ _ _ _ _ _ _ hK)) (fun s hs es => br_f (by decide) (sk_begin (fun a4' hB => ⟨7, ?_⟩)))))
  rw [et, es]
  exact key t s ht hs 7 0 0 a4' a5 a6 a7 (by omega) (by omega) hB
theorem sk_add {post : Int32 → St1 → Prop} {f : Int32} {a1 a2 a3 a4 a5 a6 a7 : Nat → Int32} {p0 p1 p2 : Int32} (hK : sk_K a1 a2 a3) (hp : sk_OK post) : wpX_add post (f, a1, a2, a3, a4, a5, a6, a7) p0 p1 p2 := by
  have key : ∀ t s s', t < 5 → s < 5 → s' < 5 → ∀ n i m a4 a5 a6 a7, i ≤ 6 → 6 - i < n → sk_B a4 a5 a6 i m 0 → wX_add_30 post (nI t) (nI s) (nI s') n (nI i) (nI m) a1 a2 a3 a4 a5 a6 a7 := by
    intro t s s' ht hs hs' n
    obtain ⟨S, C, V, h⟩ := hK s hs
    obtain ⟨S', C', V', h'⟩ := hK s' hs'
    induction n with
    | zero => intro i m a4 a5 a6 a7 g1 g2; omega
    | succ n ih =>
      intro i m a4 a5 a6 a7 g1 g2 hB
      unfold wX_add_30
      refine pk_le 6 i (fun z => ?_) (fun z => ?_)
      · rw [show i = 6 by omega] at hB
        exact sk_store hK ht hB (fun c1 c2 c3 hK' => hp _ _ _ _ _ _ _ _ _ hK')
      · exact sk_merge h hs h' hs' z hB (fun m' a5' a6' hB' => sk_endRow hB' z (Nat.le_refl 6) (fun a4' hB'' => nm_r (nI_1 i) (ih (i + 1) _ _ _ _ _ (by omega) (by omega) hB'')))
  unfold wpX_add
  dsimp only
  refine sk_slot (br_t rfl (hp _ _ _ _ _ _ _ _ _ hK)) (fun t ht et => br_f (by decide) (sk_slot (br_t rfl (hp _ _ _ _ _ _ _ _ _ hK)) (fun s hs es => br_f (by decide) (sk_slot (br_t rfl (hp _ _ _ _ _ _ _ _ _ hK)) (fun s' hs' es' => br_f (by decide) (sk_begin (fun a4' hB => ⟨7, ?_⟩)))))))
  rw [et, es, es']
  exact key t s s' ht hs hs' 7 0 0 a4' a5 a6 a7 (by omega) (by omega) hB
theorem sk_entrywise {post : Int32 → St1 → Prop} {f : Int32} {a1 a2 a3 a4 a5 a6 a7 : Nat → Int32} {p0 p1 p2 : Int32} (hK : sk_K a1 a2 a3) (hp : sk_OK post) : wpX_entrywise post (f, a1, a2, a3, a4, a5, a6, a7) p0 p1 p2 := by
  have key : ∀ t s s', t < 5 → s < 5 → s' < 5 → ∀ n i m a4 a5 a6 a7, i ≤ 6 → 6 - i < n → sk_B a4 a5 a6 i m 0 → wX_entrywise_30 post (nI t) (nI s) (nI s') n (nI i) (nI m) a1 a2 a3 a4 a5 a6 a7 := by
    intro t s s' ht hs hs' n
    obtain ⟨S, C, V, h⟩ := hK s hs
    obtain ⟨S', C', V', h'⟩ := hK s' hs'
    induction n with
    | zero => intro i m a4 a5 a6 a7 g1 g2; omega
    | succ n ih =>
      intro i m a4 a5 a6 a7 g1 g2 hB
      unfold wX_entrywise_30
      refine pk_le 6 i (fun z => ?_) (fun z => ?_)
      · rw [show i = 6 by omega] at hB
        exact sk_store hK ht hB (fun c1 c2 c3 hK' => hp _ _ _ _ _ _ _ _ _ hK')
      · exact sk_cross h hs h' hs' z hB (fun m' a5' a6' hB' => sk_endRow hB' z (Nat.le_refl 6) (fun a4' hB'' => nm_r (nI_1 i) (ih (i + 1) _ _ _ _ _ (by omega) (by omega) hB'')))
  unfold wpX_entrywise
  dsimp only
  refine sk_slot (br_t rfl (hp _ _ _ _ _ _ _ _ _ hK)) (fun t ht et => br_f (by decide) (sk_slot (br_t rfl (hp _ _ _ _ _ _ _ _ _ hK)) (fun s hs es => br_f (by decide) (sk_slot (br_t rfl (hp _ _ _ _ _ _ _ _ _ hK)) (fun s' hs' es' => br_f (by decide) (sk_begin (fun a4' hB => ⟨7, ?_⟩)))))))
  rw [et, es, es']
  exact key t s s' ht hs hs' 7 0 0 a4' a5 a6 a7 (by omega) (by omega) hB
theorem sk_product {post : Int32 → St1 → Prop} {f : Int32} {a1 a2 a3 a4 a5 a6 a7 : Nat → Int32} {p0 p1 p2 : Int32} (hK : sk_K a1 a2 a3) (hp : sk_OK post) : wpX_product post (f, a1, a2, a3, a4, a5, a6, a7) p0 p1 p2 := by
  have key : ∀ t s s', t < 5 → s < 5 → s' < 5 → ∀ n i m a4 a5 a6 a7, i ≤ 6 → 6 - i < n → sk_B a4 a5 a6 i m 0 → wX_product_30 post (nI t) (nI s) (nI s') n (nI i) (nI m) a1 a2 a3 a4 a5 a6 a7 := by
    intro t s s' ht hs hs' n
    obtain ⟨S, C, V, h⟩ := hK s hs
    obtain ⟨S', C', V', h'⟩ := hK s' hs'
    induction n with
    | zero => intro i m a4 a5 a6 a7 g1 g2; omega
    | succ n ih =>
      intro i m a4 a5 a6 a7 g1 g2 hB
      unfold wX_product_30
      refine pk_le 6 i (fun z => ?_) (fun z => ?_)
      · rw [show i = 6 by omega] at hB
        exact sk_store hK ht hB (fun c1 c2 c3 hK' => hp _ _ _ _ _ _ _ _ _ hK')
      · exact sk_prow h hs h' hs' z (fun a7' => sk_emitWork hB z (fun m' a5' a6' hB' => sk_endRow hB' z (Nat.le_refl 6) (fun a4' hB'' => nm_r (nI_1 i) (ih (i + 1) _ _ _ _ _ (by omega) (by omega) hB''))))
  unfold wpX_product
  dsimp only
  refine sk_slot (br_t rfl (hp _ _ _ _ _ _ _ _ _ hK)) (fun t ht et => br_f (by decide) (sk_slot (br_t rfl (hp _ _ _ _ _ _ _ _ _ hK)) (fun s hs es => br_f (by decide) (sk_slot (br_t rfl (hp _ _ _ _ _ _ _ _ _ hK)) (fun s' hs' es' => br_f (by decide) (sk_begin (fun a4' hB => ⟨7, ?_⟩)))))))
  rw [et, es, es']
  exact key t s s' ht hs hs' 7 0 0 a4' a5 a6 a7 (by omega) (by omega) hB
theorem sk_masked {post : Int32 → St1 → Prop} {f : Int32} {a1 a2 a3 a4 a5 a6 a7 : Nat → Int32} {p0 p1 : Int32} (hK : sk_K a1 a2 a3) (hp : sk_OK post) : wpX_masked post (f, a1, a2, a3, a4, a5, a6, a7) p0 p1 := by
  have key : ∀ t s s' r, t < 5 → s < 5 → s' < 5 → r < 5 → ∀ n i m a4 a5 a6 a7, i ≤ 6 → 6 - i < n → sk_B a4 a5 a6 i m 0 → wX_masked_58 post (nI t) (nI s) (nI s') (nI r) n (nI i) (nI m) a1 a2 a3 a4 a5 a6 a7 := by
    intro t s s' r ht hs hs' hr n
    obtain ⟨S, C, V, h⟩ := hK s hs
    obtain ⟨S', C', V', h'⟩ := hK s' hs'
    obtain ⟨T, D, W, g⟩ := hK r hr
    induction n with
    | zero => intro i m a4 a5 a6 a7 g1 g2; omega
    | succ n ih =>
      intro i m a4 a5 a6 a7 g1 g2 hB
      unfold wX_masked_58
      refine pk_le 6 i (fun z => ?_) (fun z => ?_)
      · rw [show i = 6 by omega] at hB
        exact sk_store hK ht hB (fun c1 c2 c3 hK' => hp _ _ _ _ _ _ _ _ _ hK')
      · obtain ⟨b1, b2, b3, b4⟩ := sk_bd g.1 z
        have inner : ∀ n' k m b a5 a6 a7, T i ≤ k → k ≤ T (i + 1) → T (i + 1) - k < n' → b ≤ 6 → (∀ q, k ≤ q → q < T (i + 1) → b ≤ D q) → sk_B a4 a5 a6 i m b → wX_masked_84 post (wX_masked_58 post (nI t) (nI s) (nI s') (nI r) n) (nI t) (nI s) (nI s') (nI r) (nI i) n' (nI (r * 36 + k)) (nI m) a1 a2 a3 a4 a5 a6 a7 := by
          intro n'
          induction n' with
          | zero => intro k m b a5 a6 a7 q1 q2 q3; omega
          | succ n' ih' =>
            intro k m b a5 a6 a7 q1 q2 q3 q4 q5 hB
            unfold wX_masked_84
            refine sk_upTo g hr z (pk_le (r * 36 + T (i + 1)) (r * 36 + k) (fun y => sk_endRow hB z q4 (fun a4' hB' => nm_r (nI_1 i) (ih (i + 1) _ _ _ _ _ (by omega) (by omega) hB'))) (fun y => ⟨sk_in g hr (by omega), nm_r (sk_a2 g hr (by omega)) ?_⟩))
            have d := sk_Clt (k := k) g.1 z (by omega)
            exact ⟨vp_in_nI d (by omega), sk_emit hB z (q5 k (by omega) (by omega)) d (fun m' a5' a6' hB' => nm_r (sk_p1 r k) (ih' (k + 1) m' (D k + 1) a5' a6' a7 (by omega) (by omega) (by omega) (by omega) (sk_next_le g.1 z q1) hB'))⟩
        exact sk_prow h hs h' hs' z (fun a7' => sk_from g hr z ⟨37, inner 37 (T i) m 0 a5 a6 a7' (by omega) (by omega) (by omega) (by omega) (fun q _ _ => Nat.zero_le _) hB⟩)
  unfold wpX_masked
  dsimp only
  intro x3 _ x4 _ x5 _
  refine sk_slot (br_t rfl (hp _ _ _ _ _ _ _ _ _ hK)) (fun t ht et => br_f (by decide) (sk_slot (br_t rfl (hp _ _ _ _ _ _ _ _ _ hK)) (fun s hs es => br_f (by decide) (sk_slot (br_t rfl (hp _ _ _ _ _ _ _ _ _ hK)) (fun s' hs' es' => br_f (by decide) (sk_slot (br_t rfl (hp _ _ _ _ _ _ _ _ _ hK)) (fun r hr er => br_f (by decide) (sk_begin (fun a4' hB => ⟨7, ?_⟩)))))))))
  rw [et, es, es', er]
  exact key t s s' r ht hs hs' hr 7 0 0 a4' a5 a6 a7 (by omega) (by omega) hB
theorem sk_put {post : Int32 → St1 → Prop} {f : Int32} {a1 a2 a3 a4 a5 a6 a7 : Nat → Int32} {p0 p1 p2 p3 : Int32} (hK : sk_K a1 a2 a3) (hp : sk_OK post) : wpX_put post (f, a1, a2, a3, a4, a5, a6, a7) p0 p1 p2 p3 := by
  have key : ∀ t i j, t < 5 → i < 6 → j < 6 → ∀ n r m a4 a5 a6 a7, r ≤ 6 → 6 - r < n → sk_B a4 a5 a6 r m 0 → wX_put_30 post (nI t) (nI i) (nI j) p3 n (nI r) (nI m) a1 a2 a3 a4 a5 a6 a7 := by
    intro t i j ht hi hj n
    obtain ⟨S, C, V, h⟩ := hK t ht
    induction n with
    | zero => intro r m a4 a5 a6 a7 g1 g2; omega
    | succ n ih =>
      intro r m a4 a5 a6 a7 g1 g2 hB
      unfold wX_put_30
      refine pk_le 6 r (fun z => ?_) (fun z => ?_)
      · rw [show r = 6 by omega] at hB
        exact sk_store hK ht hB (fun c1 c2 c3 hK' => hp _ _ _ _ _ _ _ _ _ hK')
      · obtain ⟨b1, b2, b3, b4⟩ := sk_bd h.1 z
        have s101 : ∀ a7, wX_put_101 post (wX_put_30 post (nI t) (nI i) (nI j) p3 n) (nI t) (nI i) (nI j) p3 (nI r) (nI m) a1 a2 a3 a4 a5 a6 a7 := by
          intro a7
          unfold wX_put_101
          exact sk_emitWork hB z (fun m' a5' a6' hB' => sk_endRow hB' z (Nat.le_refl 6) (fun a4' hB'' => nm_r (nI_1 r) (ih (r + 1) _ _ _ _ _ (by omega) (by omega) hB'')))
        have inner : ∀ n' k a7, k ≤ S (r + 1) → S (r + 1) - k < n' → wX_put_50 post (wX_put_30 post (nI t) (nI i) (nI j) p3 n) (nI t) (nI i) (nI j) p3 (nI r) (nI m) n' (nI (t * 36 + k)) a1 a2 a3 a4 a5 a6 a7 := by
          intro n'
          induction n' with
          | zero => intro k a7 q1 q2; omega
          | succ n' ih' =>
            intro k a7 q1 q2
            unfold wX_put_50
            refine sk_upTo h ht z (pk_le (t * 36 + S (r + 1)) (t * 36 + k) (fun y => br_c (fun _ => ⟨vp_in_nI hj (by omega), nm_e (s101 _)⟩) (fun _ => s101 _)) (fun y => ?_))
            rw [sk_a2 h ht (by omega)]
            have d := sk_Clt (k := k) h.1 z (by omega)
            exact ⟨sk_in h ht (by omega), sk_in h ht (by omega), vp_in_nI d (by omega), nm_e (nm_r (sk_p1 t k) (ih' (k + 1) _ (by omega) (by omega)))⟩
        exact sk_clearWork (fun a7' => sk_from h ht z ⟨37, inner 37 (S r) a7' (by omega) (by omega)⟩)
  unfold wpX_put
  dsimp only
  refine sk_slot (br_t rfl (hp _ _ _ _ _ _ _ _ _ hK)) (fun t ht et => br_f (by decide) (sk_index (br_t rfl (hp _ _ _ _ _ _ _ _ _ hK)) (fun i hi ei => br_f (by decide) (sk_index (br_t rfl (hp _ _ _ _ _ _ _ _ _ hK)) (fun j hj ej => br_f (by decide) (sk_begin (fun a4' hB => ⟨7, ?_⟩)))))))
  rw [et, ei, ej]
  exact key t i j ht hi hj 7 0 0 a4' a5 a6 a7 (by omega) (by omega) hB
theorem sk_turn {post : St1 → Prop} {f : Int32} {a1 a2 a3 a4 a5 a6 a7 : Nat → Int32} {p1 p2 p3 p4 p5 : Int32} (hK : sk_K a1 a2 a3) (hp : ∀ f a1 a2 a3 a4 a5 a6 a7, sk_K a1 a2 a3 → post (f, a1, a2, a3, a4, a5, a6, a7)) : wpL_turn post (f, a1, a2, a3, a4, a5, a6, a7) p1 p2 p3 p4 p5 := by
  unfold wpL_turn
  dsimp only
  intro x _
  exact br_c (fun _ => br_c (fun _ => sk_add hK (fun _ _ _ _ _ _ _ _ _ hK' => hp _ _ _ _ _ _ _ _ hK')) (fun _ => br_c (fun _ => sk_entrywise hK (fun _ _ _ _ _ _ _ _ _ hK' => hp _ _ _ _ _ _ _ _ hK')) (fun _ => br_c (fun _ => sk_product hK (fun _ _ _ _ _ _ _ _ _ hK' => hp _ _ _ _ _ _ _ _ hK')) (fun _ => br_c (fun _ => sk_masked hK (fun _ _ _ _ _ _ _ _ _ hK' => hp _ _ _ _ _ _ _ _ hK')) (fun _ => br_c (fun _ => sk_transpose hK (fun _ _ _ _ _ _ _ _ _ hK' => hp _ _ _ _ _ _ _ _ hK')) (fun _ => br_c (fun _ => sk_scale hK (fun _ _ _ _ _ _ _ _ _ hK' => hp _ _ _ _ _ _ _ _ hK')) (fun _ => sk_select hK (fun _ _ _ _ _ _ _ _ _ hK' => hp _ _ _ _ _ _ _ _ hK')))))))) (fun _ => sk_put hK (fun _ _ _ _ _ _ _ _ _ hK' => hp _ _ _ _ _ _ _ _ hK'))
end
section
/-- the law's flag 'even': the pairs of rows below i, and of row i from column t on, have been compared -/
def sk_E (M : Nat → Nat → Int32) (i t : Nat) (x : Int32) : Prop := (x = 1 ∧ ∀ a b, a < 6 → b < 6 → (a < i ∨ (a = i ∧ t ≤ b)) → M a b = M b a) ∨ (x = 0 ∧ ∃ a b, a < 6 ∧ b < 6 ∧ M a b ≠ M b a)
theorem sk_dnS (f : Nat → Int32) {t : Nat} (h : t < 6) : sk_dn f (6 - (t + 1)) + f t = sk_dn f (6 - t) := by
  rw [show 6 - t = (6 - (t + 1)) + 1 by omega]
  show _ = sk_dn f (6 - (t + 1)) + f (5 - (6 - (t + 1)))
  rw [show 5 - (6 - (t + 1)) = t by omega]
theorem sk_91 {post : Int32 → Prop} {J10 : Int32 → Int32 → Int32 → Int32 → Prop} {J29 : Int32 → Int32 → Int32 → Int32 → Int32 → Int32 → Prop} {x2 x3 x4 x6 x7 z0 : Int32} {f : Int32} {a1 a2 a3 a4 a5 a6 a7 : Nat → Int32} {s i t : Nat} {S C : Nat → Nat} {V : Nat → Int32} (h : sk_S a1 a2 a3 s S C V) (hs : s < 5) (hi : i < 6) (ht : t < 6) (hE : sk_E (sk_M S C V) i (t + 1) x4) (hJ : ∀ e, sk_E (sk_M S C V) i t e → J29 x2 e x6 x7 z0 (nI t + (-1))) : wL_slot_91 post J10 J29 (nI s) x2 x3 x4 (nI i) x6 x7 (nI t) (sk_M S C V i t) z0 f a1 a2 a3 a4 a5 a6 a7 := by
  unfold wL_slot_91
  rcases hE with ⟨e1, q⟩ | ⟨e0, q⟩
  · refine br_f (by rw [e1]; decide) (sk_at h hs ht hi (br_c (fun e => nm_e (hJ 1 (Or.inl ⟨rfl, fun a b ha hb hab => ?_⟩))) (fun e => nm_e (hJ 0 (Or.inr ⟨rfl, i, t, hi, ht, e⟩)))))
    by_cases y : a = i ∧ b = t
    · rw [y.1, y.2]; exact e
    · exact q a b ha hb (by omega)
  · exact br_t e0 (nm_e (hJ 0 (Or.inr ⟨rfl, q⟩)))
theorem sk_29 {post : Int32 → Prop} {J : Int32 → Int32 → Int32 → Int32 → Prop} {D : Int32} {f : Int32} {a1 a2 a3 a4 a5 a6 a7 : Nat → Int32} {s i : Nat} {S C : Nat → Nat} {V : Nat → Int32} (h : sk_S a1 a2 a3 s S C V) (hs : s < 5) (hi : i < 6) (hJ : ∀ e, sk_E (sk_M S C V) i 0 e → J (nI (S (i + 1))) (D + sk_M S C V i i) e (nI (i + 1))) :
    ∀ n t w x2 x4 x6 x7 x8, t ≤ 6 → t < n → S i ≤ w → w ≤ S (i + 1) → (∀ k, w ≤ k → k < S (i + 1) → t ≤ C k) → (∀ k, S i ≤ k → k < w → C k < t) → sk_E (sk_M S C V) i t x4 → x2 = nI (S i + (S (i + 1) - w)) → x6 = sk_dn (fun j => sk_M S C V i j) (6 - t) → x7 = sk_dn (fun j => sk_M S C V j i) (6 - t) → (w < S (i + 1) → x8 = nI (C w)) → (w = S (i + 1) → x8 = -1) → wL_slot_29 post J (nI s) D (nI i) f a1 a2 a3 a4 a5 a6 a7 n x2 x4 x6 x7 x8 (nI t + (-1)) := by
  obtain ⟨b1, b2, b3, b4⟩ := sk_bd h.1 hi
  intro n
  induction n with
  | zero => intro t w x2 x4 x6 x7 x8 g1 g2; omega
  | succ n ih =>
    intro t w x2 x4 x6 x7 x8 g1 g2 g3 g4 g5 g6 hE h2 h6 h7 h8 h8'
    unfold wL_slot_29
    rcases t with _ | t
    · have ew : w = S i := by
        rcases Nat.lt_or_ge (S i) w with z | z
        · exact absurd (g6 (S i) (by omega) z) (by omega)
        · omega
      subst ew
      refine br_t (by decide) (sk_at h hs hi hi (nm_e (sk_wsum (w := 0) h hs hi (by omega) (br_t ?_ (sk_wsum (w := 1) h hs hi (by omega) (br_t ?_ ?_))))))
      · rw [sk_sum0 h.1 hi, h6]
      · rw [sk_sum1, h7]
      · have fin : wpX_next (fun r_19 => (((r_19 = (-1) → (∀ x5_21 : Int32, x5_21 = nI i + 1 → (J x2 (D + sk_M S C V i i) x4 x5_21))) ∧ (¬ r_19 = (-1) → (post 0))))) (f, a1, a2, a3, a4, a5, a6, a7) (nI s) (nI i) 6 := by
          refine sk_next6 h hs hi (br_t rfl (nm_r (nI_1 i) ?_))
          rw [h2, show S i + (S (i + 1) - S i) = S (i + 1) by omega]
          exact hJ x4 hE
        exact sk_next9 h hs hi (fun e => br_t (h8' e).symm fin) (fun e => br_t (h8 e).symm fin)
    · rw [pk_m1]
      have ht : t < 6 := by omega
      refine br_f (nI_pos (by omega)) (sk_at h hs hi ht (nm_e (sk_at h hs ht hi (nm_e (br_c (fun e => ?_) (fun e => ?_))))))
      · unfold wL_slot_78
        refine br_t e (sk_91 h hs hi ht hE (fun e' hE' => ih t w _ e' _ _ _ (by omega) (by omega) g3 g4 (fun k u v => ?_) (fun k u v => ?_) hE' h2 ?_ ?_ h8 h8'))
        · have := g5 k u v
          omega
        · have q := g6 k u v
          by_cases y : C k = t
          · have m1 := sk_M1 h.1 hi u (show k < S (i + 1) by omega)
            rw [y, e] at m1
            exact absurd m1.symm (sk_Vne h.1 hi (by omega))
          · omega
        · rw [h6]; exact sk_dnS (fun j => sk_M S C V i j) ht
        · rw [h7]; exact sk_dnS (fun j => sk_M S C V j i) ht
      · unfold wL_slot_78
        obtain ⟨k, u, v, y⟩ := sk_Mex e
        have hm := h.1.2.2.2.2.2 i hi
        have ew : w = k + 1 := by
          rcases Nat.lt_trichotomy w (k + 1) with z | z | z
          · have := g5 k (by omega) v
            omega
          · exact z
          · have q1 := g6 (w - 1) (by omega) (by omega)
            have q2 := hm k (w - 1) u (by omega) (by omega)
            omega
        subst ew
        refine br_f e (sk_91 h hs hi ht hE (fun e' hE' => ih t k _ e' _ _ _ (by omega) (by omega) u (by omega) (fun l u' v' => ?_) (fun l u' v' => ?_) hE' ?_ ?_ ?_ (fun _ => by rw [y]) (fun z => absurd z (by omega))))
        · have := sk_here_le h.1 hi u l u' v'
          omega
        · have := hm l k u' v' v
          omega
        · rw [h2, nI_1]
          exact congrArg nI (by omega)
        · rw [h6]; exact sk_dnS (fun j => sk_M S C V i j) ht
        · rw [h7]; exact sk_dnS (fun j => sk_M S C V j i) ht
theorem sk_Lslot {post : Int32 → Prop} {f : Int32} {a1 a2 a3 a4 a5 a6 a7 : Nat → Int32} {s : Nat} {S C : Nat → Nat} {V : Nat → Int32} (h : sk_S a1 a2 a3 s S C V) (hs : s < 5) (hp : post 1) : wpL_slot post (f, a1, a2, a3, a4, a5, a6, a7) (nI s) := by
  have key : ∀ n i x4, i ≤ 6 → 6 - i < n → sk_E (sk_M S C V) i 6 x4 → wL_slot_10 post (nI s) f a1 a2 a3 a4 a5 a6 a7 n (nI (S i)) (sk_sum (fun r => sk_M S C V r r) 0 i) x4 (nI i) := by
    intro n
    induction n with
    | zero => intro i x4 g1 g2; omega
    | succ n ih =>
      intro i x4 g1 g2 hE
      unfold wL_slot_10
      refine pk_le 6 i (fun z => ?_) (fun z => ⟨7, ?_⟩)
      · have e6 : i = 6 := by omega
        subst e6
        refine sk_count h hs (br_t rfl (sk_wsum (w := 2) (i := 0) h hs (by omega) (by omega) (br_t (sk_sum2 0) ?_)))
        have fin : wpX_same (fun r_8 => (((r_8 = 0 → (post 0)) ∧ (¬ r_8 = 0 → (post 1))))) (f, a1, a2, a3, a4, a5, a6, a7) (nI s) (nI s) :=
          sk_same h hs h hs (fun _ => br_f (by decide) hp) (fun q => absurd (fun _ _ _ _ => rfl) q)
        refine sk_symm h hs (fun q => br_t ?_ fin) (fun q => br_t ?_ fin)
        · rcases hE with ⟨e, _⟩ | ⟨e, a, b, ha, hb, hab⟩
          · exact e.symm
          · exact absurd (q a b ha hb) hab
        · rcases hE with ⟨e, q'⟩ | ⟨e, _⟩
          · obtain ⟨a, b, ha, hb, hab⟩ := q
            exact absurd (q' a b ha hb (Or.inl ha)) hab
          · exact e.symm
      · obtain ⟨b1, b2, b3, b4⟩ := sk_bd h.1 z
        have st := sk_29 (post := post) (J := wL_slot_10 post (nI s) f a1 a2 a3 a4 a5 a6 a7 n) (D := sk_sum (fun r => sk_M S C V r r) 0 i) (f := f) (a4 := a4) (a5 := a5) (a6 := a6) (a7 := a7) h hs z
          (fun e hE' => by
            have t := ih (i + 1) e (by omega) (by omega) (by
              rcases hE' with ⟨e1, q⟩ | q
              · exact Or.inl ⟨e1, fun a b ha hb hab => q a b ha hb (by omega)⟩
              · exact Or.inr q)
            have e2 : sk_sum (fun r => sk_M S C V r r) 0 (i + 1) = sk_sum (fun r => sk_M S C V r r) 0 i + sk_M S C V i i := by
              show _ + sk_M S C V (0 + i) (0 + i) = _
              rw [Nat.zero_add]
            rw [e2] at t
            exact t)
        refine st 7 6 (S (i + 1)) _ _ _ _ _ (by omega) (by omega) (by omega) (by omega) (fun k u v => absurd v (by omega)) (fun k u v => sk_Clt h.1 z v) ?_ ?_ rfl rfl (fun y => absurd y (by omega)) (fun _ => rfl)
        · rcases hE with ⟨e1, q⟩ | q
          · exact Or.inl ⟨e1, fun a b ha hb hab => q a b ha hb (by omega)⟩
          · exact Or.inr q
        · rw [show S i + (S (i + 1) - S (i + 1)) = S i by omega]
  unfold wpL_slot
  dsimp only
  have t := key 7 0 1 (by omega) (by omega) (Or.inl ⟨rfl, fun a b ha hb hab => absurd hab (by omega)⟩)
  rw [h.1.1] at t
  exact ⟨7, t⟩
end
section
theorem sk_slot5 {post : Int32 → Prop} (h : post 0) : wpX_isSlot post () 5 := br_f (by decide) (br_t (by decide) h)
theorem sk_slotm {post : Int32 → Prop} (h : post 0) : wpX_isSlot post () (-1) := br_t (by decide) h
theorem sk_slotz {post : Int32 → Prop} (h : post 1) : wpX_isSlot post () 0 := br_f (by decide) (br_f (by decide) h)
theorem sk_index6 {post : Int32 → Prop} (h : post 0) : wpX_isIndex post () 6 := br_f (by decide) (br_t (by decide) h)
theorem sk_indexm {post : Int32 → Prop} (h : post 0) : wpX_isIndex post () (-1) := br_t (by decide) h
theorem sk_ends {post : Int32 → Prop} {f : Int32} {a1 a2 a3 a4 a5 a6 a7 : Nat → Int32} (hp : post 1) : wpL_ends post (f, a1, a2, a3, a4, a5, a6, a7) := by
  unfold wpL_ends
  dsimp only
  unfold wpX_count wpX_at wpX_next wpX_sum wpX_rowsProduct wpX_same wpX_symmetric
  dsimp only
  refine sk_slot5 (br_t rfl (br_t rfl ?_))
  refine sk_slot5 (br_t rfl (br_t rfl ?_))
  refine sk_slotz (br_f (by decide) (sk_index6 (br_t rfl (br_t rfl ?_))))
  refine sk_slotz (br_f (by decide) (sk_indexm (br_t rfl (br_t rfl ?_))))
  refine sk_slotz (br_f (by decide) (br_f (by decide) (br_t (by decide) (br_t rfl ?_))))
  refine sk_slotz (br_f (by decide) (br_f (by decide) (br_f (by decide) (br_f (by decide) (sk_index6 (br_t rfl (br_t rfl ?_)))))))
  refine sk_slotz (br_f (by decide) (sk_index6 (br_t rfl (br_t rfl ?_))))
  refine sk_slot5 (br_t rfl (br_t rfl ?_))
  exact sk_slotm (br_t rfl (br_t rfl hp))
theorem sk_mod5 (y : Int32) : ∃ a, a < 5 ∧ (y &&& 255) - (y &&& 255) / 5 * 5 = nI a := by
  obtain ⟨j, hj, e⟩ := pk_andE y (m := 255) 8 (by decide)
  rw [e]
  exact ⟨j % 5, by omega, pk_rem (d := 5) (by omega) (by omega) (by omega)⟩
theorem sk_77 {L : Nat} {xs : Nat → Int32} {J : Int32 → Int32 → (Nat → Int32) → (Nat → Int32) → (Nat → Int32) → (Nat → Int32) → (Nat → Int32) → (Nat → Int32) → (Nat → Int32) → Prop} {kc ks p s t : Nat} {f : Int32} {a1 a2 a3 a4 a5 a6 a7 : Nat → Int32} {S C : Nat → Nat} {V : Nat → Int32} {S' C' : Nat → Nat} {V' : Nat → Int32} (h : sk_S a1 a2 a3 s S C V) (hs : s < 5) (h' : sk_S a1 a2 a3 t S' C' V') (ht : t < 5) (hJ : J (nI (p + 5)) f a1 a2 a3 a4 a5 a6 a7) :
    ∀ n c x5, c ≤ 36 → 36 - c < n → ((x5 = 1 ∧ ∀ i j, i < 6 → j < 6 → i * 6 + j < c → sk_M S C V i j = sk_M S' C' V' i j) ∨ (x5 = 0 ∧ ∃ i j, i < 6 ∧ j < 6 ∧ sk_M S C V i j ≠ sk_M S' C' V' i j)) → wL_law_77 (fun r => r = 1) L xs J (nI p) (nI s) (nI t) kc ks f a1 a2 a3 a4 a5 a6 a7 n x5 (nI c) := by
  intro n
  induction n with
  | zero => intro c x5 g1 g2; omega
  | succ n ih =>
    intro c x5 g1 g2 hx
    unfold wL_law_77
    refine pk_le 36 c (fun z => ?_) (fun z => ?_)
    · have fin : ∀ r : Int32, r = x5 → ((r = x5 → wpL_ends (fun r_71 => (((r_71 = 0 → ((fun r : Int32 => r = 1) 0)) ∧ (¬ r_71 = 0 → (∀ x2_73 : Int32, x2_73 = nI p + 5 → (J x2_73 f a1 a2 a3 a4 a5 a6 a7)))))) (f, a1, a2, a3, a4, a5, a6, a7)) ∧ (¬ r = x5 → (fun r : Int32 => r = 1) 0)) := by
        intro r er
        exact br_t er (sk_ends (br_f (by decide) (nm_r (nI_add p 5) hJ)))
      refine sk_Lslot h hs (br_f (by decide) (sk_Lslot h' ht (br_f (by decide) (sk_same h hs h' ht (fun q => fin 1 ?_) (fun q => fin 0 ?_)))))
      · rcases hx with ⟨e, _⟩ | ⟨e, i, j, hi, hj, hij⟩
        · exact e.symm
        · exact absurd (q i j hi hj) hij
      · rcases hx with ⟨e, q'⟩ | ⟨e, _⟩
        · exact absurd (fun i j hi hj => q' i j hi hj (by omega)) q
        · exact e.symm
    · rcases hx with ⟨e, q⟩ | ⟨e, q⟩
      · have e1 : nI c / 6 = nI (c / 6) := pk_div (d := 6) (by omega) (by omega) (by omega)
        have e2 : nI c - nI c / 6 * 6 = nI (c % 6) := pk_rem (d := 6) (by omega) (by omega) (by omega)
        rw [e2, e1]
        have d1 : c / 6 < 6 := by omega
        have d2 : c % 6 < 6 := by omega
        refine br_f (by rw [e]; decide) ⟨by decide, by decide, sk_at h hs d1 d2 ⟨by decide, by decide, sk_at h' ht d1 d2 (br_c (fun y => nm_r (nI_1 c) (ih (c + 1) 1 (by omega) (by omega) (Or.inl ⟨rfl, fun i j hi hj hij => ?_⟩))) (fun y => nm_r (nI_1 c) (ih (c + 1) 0 (by omega) (by omega) (Or.inr ⟨rfl, c / 6, c % 6, d1, d2, y⟩))))⟩⟩
        by_cases w : i * 6 + j = c
        · rw [show i = c / 6 by omega, show j = c % 6 by omega]
          exact y
        · exact q i j hi hj (by omega)
      · exact br_t e (nm_r (nI_1 c) (ih (c + 1) 0 (by omega) (by omega) (Or.inr ⟨rfl, q⟩)))
theorem sk_law {xs : Nat → Int32} {L kc ks : Nat} (hL : L ≤ 260) : ∀ n p f a1 a2 a3 a4 a5 a6 a7, p ≤ L → L - p < n → sk_K a1 a2 a3 → wL_law_10 (fun r => r = 1) L xs kc ks n (nI p) f a1 a2 a3 a4 a5 a6 a7 := by
  intro n
  induction n with
  | zero => intro p f a1 a2 a3 a4 a5 a6 a7 g1 g2; omega
  | succ n ih =>
    intro p f a1 a2 a3 a4 a5 a6 a7 g1 g2 hK
    unfold wL_law_10
    refine pk_le L (p + 4) (fun _ => rfl) (fun z => ⟨pk_in p L (by omega), pk_in (p + 1) L (by omega) (nI_add p 1), pk_in (p + 2) L (by omega) (nI_add p 2), pk_in (p + 3) L (by omega) (nI_add p 3), pk_in (p + 4) L (by omega) (nI_add p 4), sk_turn hK (fun f a1 a2 a3 a4 a5 a6 a7 hK' => ?_)⟩) rfl (nI_add p 4)
    obtain ⟨a, ha, ea⟩ := sk_mod5 (xs (nI p).toNatClampNeg >>> ((4 : Int32) &&& 31))
    obtain ⟨b, hb, eb⟩ := sk_mod5 (xs (nI p).toNatClampNeg >>> ((12 : Int32) &&& 31))
    obtain ⟨S, C, V, h⟩ := hK' a ha
    obtain ⟨S', C', V', h'⟩ := hK' b hb
    refine ⟨pk_in p L (by omega), by decide, nm_r ea ⟨pk_in p L (by omega), by decide, nm_r eb ⟨37, ?_⟩⟩⟩
    exact sk_77 h ha h' hb (ih (p + 5) f a1 a2 a3 a4 a5 a6 a7 (by omega) (by omega) hK') 37 0 1 (by omega) (by omega) (Or.inl ⟨rfl, fun i j _ _ hij => absurd hij (by omega)⟩)
theorem sk_K0 : sk_K (fun _ => 0) (fun _ => 0) (fun _ => 0) := by
  intro s _
  exact ⟨fun _ => 0, fun _ => 0, fun _ => 0, ⟨rfl, fun _ _ => Nat.le_refl _, fun _ _ => Nat.zero_le _, fun k hk => absurd hk (Nat.not_lt_zero k), fun k hk => absurd hk (Nat.not_lt_zero k), fun _ _ k l _ _ hl => absurd hl (Nat.not_lt_zero l)⟩, fun _ _ => rfl, fun k hk => absurd hk (Nat.not_lt_zero k), fun k hk => absurd hk (Nat.not_lt_zero k)⟩
theorem i_vc (xs : Nat → Int32) (L : Nat) (hL : L ≤ 260) : wpL_law (fun r => r = 1) L xs := by
  unfold wpL_law
  refine ⟨7, 480, by omega, by omega, ?_⟩
  unfold wpX_init
  refine ⟨by omega, by omega, by omega, by omega, by omega, by omega, by omega, by omega, by omega, by omega, by omega, by omega, by omega, by omega, ?_⟩
  exact ⟨L + 1, sk_law hL (L + 1) 0 _ _ _ _ _ _ _ _ (by omega) (by omega) sk_K0⟩
end
