section
/-- how two values are combined -/
def mr_cmb (rd a b : Int32) : Int32 := if rd = 1 then (if a ≤ b then b else a) else if rd = 2 then (if b ≤ a then b else a) else a + b
/-- one value taken into (result, begun) -/
def mr_st (rd : Int32) (s : Int32 × Int32) (w : Int32) : Int32 × Int32 := (if rd = 4 then 31 * s.1 + w else if s.2 = 0 then w else mr_cmb rd s.1 w, 1)
def mr_fd (rd : Int32) (l : List Int32) (s : Int32 × Int32) : Int32 × Int32 := l.foldl (mr_st rd) s
theorem mr_fd_app (rd : Int32) (l l' : List Int32) (s : Int32 × Int32) : mr_fd rd (l ++ l') s = mr_fd rd l' (mr_fd rd l s) := List.foldl_append
theorem mr_assoc (rd a b c : Int32) : mr_cmb rd (mr_cmb rd a b) c = mr_cmb rd a (mr_cmb rd b c) := by
  unfold mr_cmb
  by_cases h1 : rd = 1
  · simp only [if_pos h1]
    by_cases hab : a ≤ b <;> by_cases hbc : b ≤ c <;> by_cases hac : a ≤ c <;> simp only [hab, hbc, hac, if_true, if_false] <;> (rw [Int32.le_iff_toInt_le] at hab hbc hac; exact Int32.toInt_inj.mp (by omega))
  · simp only [if_neg h1]
    by_cases h2 : rd = 2
    · simp only [if_pos h2]
      by_cases hab : b ≤ a <;> by_cases hbc : c ≤ b <;> by_cases hac : c ≤ a <;> simp only [hab, hbc, hac, if_true, if_false] <;> (rw [Int32.le_iff_toInt_le] at hab hbc hac; exact Int32.toInt_inj.mp (by omega))
    · simp only [if_neg h2]
      exact Int32.add_assoc a b c
theorem mr_fd2 {rd : Int32} (h4 : ¬ rd = 4) (w0 w1 : Int32) (s : Int32 × Int32) : mr_fd rd [mr_cmb rd w0 w1] s = mr_fd rd [w0, w1] s := by
  show mr_st rd s (mr_cmb rd w0 w1) = mr_st rd (mr_st rd s w0) w1
  unfold mr_st
  simp only [if_neg h4]
  by_cases hs : s.2 = 0
  · simp only [if_pos hs]
    rw [if_neg (show ¬ (1 : Int32) = 0 by decide)]
  · simp only [if_neg hs]
    rw [if_neg (show ¬ (1 : Int32) = 0 by decide), mr_assoc]
/-- the fold over w lo, .., w (lo + n - 1) -/
def mr_rg (rd : Int32) (w : Nat → Int32) (lo : Nat) : Nat → Int32 × Int32 → Int32 × Int32
  | 0 => fun s => s
  | n + 1 => fun s => mr_st rd (mr_rg rd w lo n s) (w (lo + n))
/-- the fold over the ranges [lo s, hi s), s below c -/
def mr_tf (rd : Int32) (w : Nat → Int32) (lo hi : Nat → Nat) : Nat → Int32 × Int32 → Int32 × Int32
  | 0 => fun s => s
  | c + 1 => fun s => mr_rg rd w (lo c) (hi c - lo c) (mr_tf rd w lo hi c s)
theorem mr_rg_c {rd : Int32} {w w' : Nat → Int32} {lo : Nat} (s : Int32 × Int32) : ∀ n, (∀ j, j < n → w (lo + j) = w' (lo + j)) → mr_rg rd w lo n s = mr_rg rd w' lo n s := by
  intro n
  induction n with
  | zero => intro _; rfl
  | succ n ih =>
    intro h
    show mr_st rd (mr_rg rd w lo n s) (w (lo + n)) = mr_st rd (mr_rg rd w' lo n s) (w' (lo + n))
    rw [ih (fun j hj => h j (by omega)), h n (by omega)]
theorem mr_tf_c {rd : Int32} {w w' : Nat → Int32} {lo hi lo' hi' : Nat → Nat} (s : Int32 × Int32) : ∀ c, (∀ t, t < c → lo t = lo' t ∧ hi t = hi' t ∧ ∀ x, lo t ≤ x → x < hi t → w x = w' x) → mr_tf rd w lo hi c s = mr_tf rd w' lo' hi' c s := by
  intro c
  induction c with
  | zero => intro _; rfl
  | succ c ih =>
    intro h
    obtain ⟨h1, h2, h3⟩ := h c (by omega)
    show mr_rg rd w (lo c) (hi c - lo c) (mr_tf rd w lo hi c s) = mr_rg rd w' (lo' c) (hi' c - lo' c) (mr_tf rd w' lo' hi' c s)
    rw [ih (fun t ht => h t (by omega)), ← h1, ← h2]
    exact mr_rg_c _ _ (fun j hj => h3 _ (by omega) (by omega))
/-- the values of the pairs below n whose key is k -/
def mr_sel (k : Nat) (K : Nat → Nat) (w : Nat → Int32) : Nat → List Int32
  | 0 => []
  | n + 1 => mr_sel k K w n ++ (if K n = k then [w n] else [])
/-- the same over the splits below q, cnt pairs each -/
def mr_all (k : Nat) (K : Nat → Nat) (w : Nat → Int32) (cnt : Nat → Nat) : Nat → List Int32
  | 0 => []
  | q + 1 => mr_all k K w cnt q ++ mr_sel k (fun j => K (16 * q + j) % 2) (fun j => w (16 * q + j)) (cnt q)
theorem mr_sel_c {k : Nat} {K K' : Nat → Nat} {w w' : Nat → Int32} : ∀ n, (∀ j, j < n → K j = K' j ∧ w j = w' j) → mr_sel k K w n = mr_sel k K' w' n := by
  intro n
  induction n with
  | zero => intro _; rfl
  | succ n ih =>
    intro h
    show mr_sel k K w n ++ (if K n = k then [w n] else []) = mr_sel k K' w' n ++ (if K' n = k then [w' n] else [])
    rw [ih (fun j hj => h j (by omega)), (h n (by omega)).1, (h n (by omega)).2]
/-- the spills' picture: c spills; spill s lies at [b s, b (s + 1)), its zeros first, its ones from m s on -/
def mr_inv (p : Nat) (rd : Int32) (c : Nat) (b m : Nat → Nat) (a8 a9 a10 : Nat → Int32) (T0 T1 : List Int32) : Prop :=
  (∀ s, s < c → b s ≤ m s ∧ m s ≤ b (s + 1)) ∧ (∀ s, s ≤ c → b s ≤ 2 * s) ∧
  (∀ s, s < c → a10 (5 * s) = nI (b s) ∧ a10 (5 * s + 1) = nI (if p = 1 then b (s + 1) else m s) ∧ a10 (5 * s + 2) = nI (b (s + 1)) ∧ a10 (5 * s + 3) = nI (b (s + 1)) ∧ a10 (5 * s + 4) = nI (b (s + 1))) ∧
  (∀ s, s < c → (∀ x, b s ≤ x → x < m s → a8 x = nI 0) ∧ (∀ x, m s ≤ x → x < b (s + 1) → a8 x = nI 1)) ∧
  (∀ acc, mr_tf rd a9 b m c acc = mr_fd rd T0 acc) ∧ (∀ acc, mr_tf rd a9 m (fun s => b (s + 1)) c acc = mr_fd rd T1 acc) ∧
  ((∃ s, s < c ∧ b s < m s) ↔ T0 ≠ []) ∧ ((∃ s, s < c ∧ m s < b (s + 1)) ↔ T1 ≠ [])
/-- what one more spill writes: at e n0 zeros, then n1 ones, that fold as R0 and R1 -/
def mr_new (p : Nat) (rd : Int32) (c e n0 n1 : Nat) (a8 a9 a10 a8' a9' a10' : Nat → Int32) (R0 R1 : List Int32) : Prop :=
  n0 + n1 ≤ 2 ∧ (∀ x, x < e → a8' x = a8 x ∧ a9' x = a9 x) ∧ (∀ x, x < 5 * c → a10' x = a10 x) ∧
  (a10' (5 * c) = nI e ∧ a10' (5 * c + 1) = nI (e + (if p = 1 then n0 + n1 else n0)) ∧ a10' (5 * c + 2) = nI (e + (n0 + n1)) ∧ a10' (5 * c + 3) = nI (e + (n0 + n1)) ∧ a10' (5 * c + 4) = nI (e + (n0 + n1))) ∧
  (∀ j, j < n0 → a8' (e + j) = nI 0) ∧ (∀ j, j < n1 → a8' (e + n0 + j) = nI 1) ∧
  (∀ acc, mr_rg rd a9' e n0 acc = mr_fd rd R0 acc) ∧ (∀ acc, mr_rg rd a9' (e + n0) n1 acc = mr_fd rd R1 acc) ∧
  (0 < n0 ↔ R0 ≠ []) ∧ (0 < n1 ↔ R1 ≠ [])
theorem mr_inv0 (p : Nat) (rd : Int32) (a8 a9 a10 : Nat → Int32) : mr_inv p rd 0 (fun _ => 0) (fun _ => 0) a8 a9 a10 [] [] :=
  ⟨fun s h => absurd h (by omega), fun s h => Nat.zero_le _, fun s h => absurd h (by omega), fun s h => absurd h (by omega), fun _ => rfl, fun _ => rfl,
    ⟨fun ⟨s, h, _⟩ => absurd h (by omega), fun h => absurd rfl h⟩, ⟨fun ⟨s, h, _⟩ => absurd h (by omega), fun h => absurd rfl h⟩⟩
theorem mr_inv_add {p : Nat} {rd : Int32} {c n0 n1 : Nat} {b m : Nat → Nat} {a8 a9 a10 a8' a9' a10' : Nat → Int32} {T0 T1 R0 R1 : List Int32}
    (I : mr_inv p rd c b m a8 a9 a10 T0 T1) (N : mr_new p rd c (b c) n0 n1 a8 a9 a10 a8' a9' a10' R0 R1) :
    ∃ b' m', mr_inv p rd (c + 1) b' m' a8' a9' a10' (T0 ++ R0) (T1 ++ R1) ∧ b' (c + 1) = b c + (n0 + n1) := by
  obtain ⟨i1, i2, i3, i4, i5, i6, i7, i8⟩ := I
  obtain ⟨n1', n2, n3, ⟨n4a, n4b, n4c, n4d, n4e⟩, n5, n6, n7, n8, n9, n10⟩ := N
  have mono : ∀ s, s ≤ c → b s ≤ b c := by
    intro s hs
    obtain ⟨d, rfl⟩ : ∃ d, c = s + d := ⟨c - s, by omega⟩
    clear n1' n2 n3 n4a n4b n4c n4d n4e n5 n6 n7 n8 n9 n10 i2 i3 i4 i5 i6 i7 i8 hs
    induction d with
    | zero => exact Nat.le_refl _
    | succ d ih =>
      have h1 := ih (fun s hs => i1 s (by omega))
      have h2 := i1 (s + d) (by omega)
      have h3 : s + (d + 1) = s + d + 1 := by omega
      rw [h3]
      omega
  obtain ⟨B, hB⟩ : ∃ B : Nat → Nat, B = fun s => if s = c + 1 then b c + (n0 + n1) else b s := ⟨_, rfl⟩
  obtain ⟨M, hM⟩ : ∃ M : Nat → Nat, M = fun s => if s = c then b c + n0 else m s := ⟨_, rfl⟩
  have B1 : ∀ s, s ≤ c → B s = b s := fun s hs => by rw [hB]; exact if_neg (by omega)
  have B2 : B (c + 1) = b c + (n0 + n1) := by rw [hB]; exact if_pos rfl
  have M1 : ∀ s, s < c → M s = m s := fun s hs => by rw [hM]; exact if_neg (by omega)
  have M2 : M c = b c + n0 := by rw [hM]; exact if_pos rfl
  refine ⟨B, M, ⟨fun s hs => ?_, fun s hs => ?_, fun s hs => ?_, fun s hs => ?_, fun acc => ?_, fun acc => ?_, ?_, ?_⟩, B2⟩
  · by_cases e : s = c
    · rw [e, B1 c (by omega), M2, B2]; omega
    · rw [B1 s (by omega), M1 s (by omega), B1 (s + 1) (by omega)]; exact i1 s (by omega)
  · by_cases e : s = c + 1
    · rw [e, B2]; have := i2 c (by omega); omega
    · rw [B1 s (by omega)]; exact i2 s (by omega)
  · by_cases e : s = c
    · rw [e, B1 c (by omega), M2, B2]
      refine ⟨n4a, ?_, n4c, n4d, n4e⟩
      rw [n4b]
      by_cases hp : p = 1
      · rw [if_pos hp, if_pos hp]
      · rw [if_neg hp, if_neg hp]
    · rw [B1 s (by omega), M1 s (by omega), B1 (s + 1) (by omega), n3 _ (by omega), n3 _ (by omega), n3 _ (by omega), n3 _ (by omega), n3 _ (by omega)]
      exact i3 s (by omega)
  · by_cases e : s = c
    · rw [e, B1 c (by omega), M2, B2]
      refine ⟨fun x h1 h2 => ?_, fun x h1 h2 => ?_⟩
      · have h := n5 (x - b c) (by omega)
        rw [show b c + (x - b c) = x by omega] at h
        exact h
      · have h := n6 (x - (b c + n0)) (by omega)
        rw [show b c + n0 + (x - (b c + n0)) = x by omega] at h
        exact h
    · rw [B1 s (by omega), M1 s (by omega), B1 (s + 1) (by omega)]
      have q1 := i1 s (by omega)
      have q2 := mono (s + 1) (by omega)
      refine ⟨fun x h1 h2 => ?_, fun x h1 h2 => ?_⟩
      · rw [(n2 x (by omega)).1]; exact (i4 s (by omega)).1 x h1 h2
      · rw [(n2 x (by omega)).1]; exact (i4 s (by omega)).2 x h1 h2
  · show mr_rg rd a9' (B c) (M c - B c) (mr_tf rd a9' B M c acc) = _
    rw [B1 c (by omega), M2, show b c + n0 - b c = n0 by omega, n7, mr_fd_app, ← i5]
    refine congrArg _ (mr_tf_c _ _ (fun t ht => ⟨B1 t (by omega), M1 t ht, fun x h1 h2 => ?_⟩))
    have q1 := i1 t (by omega)
    have q2 := mono (t + 1) (by omega)
    rw [M1 t ht] at h2
    exact (n2 x (by omega)).2
  · show mr_rg rd a9' (M c) (B (c + 1) - M c) (mr_tf rd a9' M (fun s => B (s + 1)) c acc) = _
    rw [B2, M2, show b c + (n0 + n1) - (b c + n0) = n1 by omega, n8, mr_fd_app, ← i6]
    refine congrArg _ (mr_tf_c _ _ (fun t ht => ⟨M1 t (by omega), B1 (t + 1) (by omega), fun x h1 h2 => ?_⟩))
    have q2 := mono (t + 1) (by omega)
    have h2' : x < B (t + 1) := h2
    rw [B1 (t + 1) (by omega)] at h2'
    exact (n2 x (by omega)).2
  · constructor
    · rintro ⟨s, hs, h⟩ e
      have e := List.append_eq_nil_iff.mp e
      by_cases es : s = c
      · rw [es, B1 c (by omega), M2] at h
        exact n9.mp (by omega) e.2
      · rw [B1 s (by omega), M1 s (by omega)] at h
        exact i7.mp ⟨s, by omega, h⟩ e.1
    · intro h
      by_cases e : R0 = []
      · obtain ⟨s, hs, h'⟩ := i7.mpr (fun z => h (by rw [z, e]; rfl))
        exact ⟨s, by omega, by rw [B1 s (by omega), M1 s hs]; exact h'⟩
      · have := n9.mpr e
        exact ⟨c, by omega, by rw [B1 c (by omega), M2]; omega⟩
  · constructor
    · rintro ⟨s, hs, h⟩ e
      have e := List.append_eq_nil_iff.mp e
      by_cases es : s = c
      · rw [es, B2, M2] at h
        exact n10.mp (by omega) e.2
      · rw [B1 (s + 1) (by omega), M1 s (by omega)] at h
        exact i8.mp ⟨s, by omega, h⟩ e.1
    · intro h
      by_cases e : R1 = []
      · obtain ⟨s, hs, h'⟩ := i8.mpr (fun z => h (by rw [z, e]; rfl))
        exact ⟨s, by omega, by rw [B1 (s + 1) (by omega), M1 s hs]; exact h'⟩
      · have := n10.mpr e
        exact ⟨c, by omega, by rw [B2, M2]; omega⟩
/-- bytes -/
theorem mr_b8 : ∀ t, t < 128 → (nI t).toInt8.toInt32 = nI t := by decide +kernel
theorem mr_nb {t : Nat} (h : t < 128) : vp_nar .byte (nI t) = nI t := by rw [vp_nar_byte, mr_b8 t h]
theorem mr_mod {k p : Nat} (hk : k ≤ 1) (hp : 1 ≤ p) : (p = 1 ∧ k % p = 0) ∨ (2 ≤ p ∧ k % p = k) := by
  by_cases h : p = 1
  · exact Or.inl ⟨h, by rw [h]; exact Nat.mod_one k⟩
  · exact Or.inr ⟨by omega, Nat.mod_eq_of_lt (by omega)⟩
end
section
section
variable {pc bs md fa og lw hg rd bf mp sc se oe : Int32} {a1 a2 a3 a4 a5 a6 a7 a8 a9 a10 a11 a12 a13 a14 a15 : Nat → Int32}
theorem mr_comb {post : Int32 → Prop} {x y : Int32} (h : post (mr_cmb rd x y)) : wpX_combined post (pc, bs, md, fa, og, lw, hg, rd, bf, mp, sc, se, oe, a1, a2, a3, a4, a5, a6, a7, a8, a9, a10, a11, a12, a13, a14, a15) x y := by
  unfold mr_cmb at h
  refine br_c (fun c1 => ?_) (fun c1 => ?_)
  · rw [if_pos c1] at h
    exact br_c (fun c2 => by rw [if_pos c2] at h; exact h) (fun c2 => by rw [if_neg c2] at h; exact h)
  · rw [if_neg c1] at h
    refine br_c (fun c2 => ?_) (fun c2 => ?_)
    · rw [if_pos c2] at h
      exact br_c (fun c3 => by rw [if_pos c3] at h; exact h) (fun c3 => by rw [if_neg c3] at h; exact h)
    · rw [if_neg c2] at h
      exact h
theorem mr_after {post : Int32 → Prop} {p k0 k1 : Nat} (hp : 1 ≤ p) (hp4 : p ≤ 4) (h0 : k0 ≤ 1) (h1 : k1 ≤ 1) (h : post (if k1 < k0 then 1 else 0)) :
    wpX_comesAfter post (nI p, bs, md, fa, og, lw, hg, rd, bf, mp, sc, se, oe, a1, a2, a3, a4, a5, a6, a7, a8, a9, a10, a11, a12, a13, a14, a15) (nI k0) (nI k1) := by
  have m0 := mr_mod h0 hp
  have m1 := mr_mod h1 hp
  refine ⟨nI_ne0 hp (by omega), nm_r (pk_rem (by omega) hp (by omega)) ⟨nI_ne0 hp (by omega), nm_r (pk_rem (by omega) hp (by omega)) ?_⟩⟩
  refine pk_lt (k1 % p) (k0 % p) (fun z => ?_) (fun z => ?_) rfl rfl (by omega) (by omega)
  · rw [if_pos (by omega)] at h
    exact h
  · refine pk_eq (k0 % p) (k1 % p) (fun e => ?_) (fun e => ?_) rfl rfl (by omega) (by omega)
    · refine pk_le k0 k1 (fun y => ?_) (fun y => ?_)
      · rw [if_neg (by omega)] at h
        exact h
      · rw [if_pos y] at h
        exact h
    · rw [if_neg (by omega)] at h
      exact h
theorem mr_sort1 {post : St2 → Prop} (h : post (pc, bs, md, fa, og, lw, hg, rd, nI 1, mp, sc, se, oe, a1, a2, a3, a4, a5, a6, a7, a8, a9, a10, a11, a12, a13, a14, a15)) : wpX_sortBuffer post (pc, bs, md, fa, og, lw, hg, rd, nI 1, mp, sc, se, oe, a1, a2, a3, a4, a5, a6, a7, a8, a9, a10, a11, a12, a13, a14, a15) :=
  ⟨1, pk_le 1 1 (fun _ => h) (fun z => absurd z (by omega))⟩
theorem mr_sort2 {post : St2 → Prop} {p k0 k1 : Nat} (hp : 1 ≤ p) (hp4 : p ≤ 4) (h0 : k0 ≤ 1) (h1 : k1 ≤ 1) (e0 : a6 0 = nI k0) (e1 : a6 1 = nI k1)
    (H : ∀ a6' a7' : Nat → Int32, (k0 ≤ k1 → a6' 0 = nI k0 ∧ a6' 1 = nI k1 ∧ a7' 0 = a7 0 ∧ a7' 1 = a7 1) → (k1 < k0 → a6' 0 = nI k1 ∧ a6' 1 = nI k0 ∧ a7' 0 = a7 1 ∧ a7' 1 = a7 0) → post (nI p, bs, md, fa, og, lw, hg, rd, nI 2, mp, sc, se, oe, a1, a2, a3, a4, a5, a6', a7', a8, a9, a10, a11, a12, a13, a14, a15)) :
    wpX_sortBuffer post (nI p, bs, md, fa, og, lw, hg, rd, nI 2, mp, sc, se, oe, a1, a2, a3, a4, a5, a6, a7, a8, a9, a10, a11, a12, a13, a14, a15) := by
  refine ⟨2, pk_le 2 1 (fun z => absurd z (by omega)) (fun _ => ⟨pk_in 1 8 (by omega), nm_r (e' := nI k1) e1 ⟨pk_in 1 8 (by omega), nm_r (e' := a7 1) rfl ⟨2, ?_⟩⟩⟩)⟩
  refine pk_le 1 0 (fun z => absurd z (by omega)) (fun _ => ⟨pk_in 0 8 (by omega), ?_⟩)
  have e0' : a6 ((1 : Int32) - 1).toNatClampNeg = nI k0 := e0
  rw [e0']
  refine mr_after hp hp4 h0 h1 ?_
  by_cases hk : k1 < k0
  · rw [if_pos hk]
    refine br_f (by decide) ⟨pk_in 0 8 (by omega), pk_in 1 8 (by omega), nm_r (e' := upd a6 1 (nI k0)) (by rw [mr_nb (by omega)]; rfl) ⟨pk_in 0 8 (by omega), pk_in 1 8 (by omega), nm_r (e' := upd a7 1 (a7 0)) rfl (nm_r (e' := nI 0) rfl ?_)⟩⟩
    refine pk_le 0 0 (fun _ => ?_) (fun z => absurd z (by omega))
    refine ⟨pk_in 0 8 (by omega), nm_r (e' := upd (upd a6 1 (nI k0)) 0 (nI k1)) (by rw [mr_nb (by omega)]; rfl) ⟨pk_in 0 8 (by omega), nm_r (e' := upd (upd a7 1 (a7 0)) 0 (a7 1)) rfl (nm_r (e' := nI 2) rfl ?_)⟩⟩
    refine pk_le 2 2 (fun _ => ?_) (fun z => absurd z (by omega))
    exact H _ _ (fun z => absurd z (by omega)) (fun _ => ⟨rfl, rfl, rfl, rfl⟩)
  · rw [if_neg hk]
    refine br_t rfl ⟨pk_in 1 8 (by omega), nm_r (e' := upd a6 1 (nI k1)) (by rw [mr_nb (by omega)]; rfl) ⟨pk_in 1 8 (by omega), nm_r (e' := upd a7 1 (a7 1)) rfl (nm_r (e' := nI 2) rfl ?_)⟩⟩
    refine pk_le 2 2 (fun _ => ?_) (fun z => absurd z (by omega))
    exact H _ _ (fun _ => ⟨e0, rfl, rfl, rfl⟩) (fun z => absurd z hk)
theorem mr_cb1 {post : St2 → Prop} (h : post (pc, bs, md, fa, og, lw, hg, rd, nI 1, mp, sc, se, oe, a1, a2, a3, a4, a5, a6, a7, a8, a9, a10, a11, a12, a13, a14, a15)) : wpX_combineBuffer post (pc, bs, md, fa, og, lw, hg, rd, nI 1, mp, sc, se, oe, a1, a2, a3, a4, a5, a6, a7, a8, a9, a10, a11, a12, a13, a14, a15) :=
  ⟨1, pk_le 1 1 (fun _ => nm_r (e' := nI 1) rfl h) (fun z => absurd z (by omega))⟩
theorem mr_cb2 {post : St2 → Prop} {k0 k1 : Nat} (h0 : k0 ≤ 1) (h1 : k1 ≤ 1) (e0 : a6 0 = nI k0) (e1 : a6 1 = nI k1)
    (H1 : k0 = k1 → post (pc, bs, md, fa, og, lw, hg, rd, nI 1, mp, sc, se, oe, a1, a2, a3, a4, a5, a6, upd a7 0 (mr_cmb rd (a7 0) (a7 1)), a8, a9, a10, a11, a12, a13, a14, a15))
    (H2 : k0 ≠ k1 → ∀ a6' a7' : Nat → Int32, a6' 0 = nI k0 → a6' 1 = nI k1 → a7' 0 = a7 0 → a7' 1 = a7 1 → post (pc, bs, md, fa, og, lw, hg, rd, nI 2, mp, sc, se, oe, a1, a2, a3, a4, a5, a6', a7', a8, a9, a10, a11, a12, a13, a14, a15)) :
    wpX_combineBuffer post (pc, bs, md, fa, og, lw, hg, rd, nI 2, mp, sc, se, oe, a1, a2, a3, a4, a5, a6, a7, a8, a9, a10, a11, a12, a13, a14, a15) := by
  refine ⟨2, pk_le 2 1 (fun z => absurd z (by omega)) (fun _ => ⟨pk_in 1 8 (by omega), pk_in 0 8 (by omega), ?_⟩)⟩
  refine pk_eq k1 k0 (fun e => ?_) (fun e => ?_) e1 e0
  · refine ⟨pk_in 0 8 (by omega), pk_in 1 8 (by omega), mr_comb ⟨pk_in 0 8 (by omega), nm_r (e' := upd a7 0 (mr_cmb rd (a7 0) (a7 1))) rfl (nm_r (e' := nI 2) rfl ?_)⟩⟩
    refine pk_le 2 2 (fun _ => nm_r (e' := nI 1) rfl (H1 e.symm)) (fun z => absurd z (by omega))
  · refine nm_r (e' := nI 1) rfl ⟨pk_in 1 8 (by omega), pk_in 1 8 (by omega), nm_r (e' := upd a6 1 (nI k1)) (by rw [show a6 (1 : Int32).toNatClampNeg = nI k1 from e1, mr_nb (by omega)]; rfl) ⟨pk_in 1 8 (by omega), pk_in 1 8 (by omega), nm_r (e' := upd a7 1 (a7 1)) rfl (nm_r (e' := nI 2) rfl ?_)⟩⟩
    refine pk_le 2 2 (fun _ => nm_r (e' := nI 2) rfl (H2 (fun z => e z.symm) _ _ e0 rfl rfl rfl)) (fun z => absurd z (by omega))
end
end
section
theorem mr_ix5 (c q : Nat) : (5 : Int32) * nI c + nI q = nI (5 * c + q) := by rw [show (5 : Int32) = nI 5 from rfl, pk_mul, nI_add]
theorem mr_ix16 (q j : Nat) : (16 : Int32) * nI q + nI j = nI (16 * q + j) := by rw [show (16 : Int32) = nI 16 from rfl, pk_mul, nI_add]
theorem mr_rg_s {rd : Int32} {w w' : Nat → Int32} {lo lo' : Nat} (s : Int32 × Int32) : ∀ n, (∀ j, j < n → w (lo + j) = w' (lo' + j)) → mr_rg rd w lo n s = mr_rg rd w' lo' n s := by
  intro n
  induction n with
  | zero => intro _; rfl
  | succ n ih =>
    intro h
    show mr_st rd (mr_rg rd w lo n s) (w (lo + n)) = mr_st rd (mr_rg rd w' lo' n s) (w' (lo' + n))
    rw [ih (fun j hj => h j (by omega)), h n (by omega)]
section
variable {pc bs md fa og lw hg rd bf mp sc se oe : Int32} {a1 a2 a3 a4 a5 a6 a7 a8 a9 a10 a11 a12 a13 a14 a15 : Nat → Int32}
/-- the pairs i .. i' of one part are appended -/
theorem mr_s43 {post : St2 → Prop} {J20 : Int32 → Int32 → Int32 → (Nat → Int32) → (Nat → Int32) → (Nat → Int32) → (Nat → Int32) → (Nat → Int32) → (Nat → Int32) → (Nat → Int32) → (Nat → Int32) → (Nat → Int32) → (Nat → Int32) → (Nat → Int32) → (Nat → Int32) → (Nat → Int32) → (Nat → Int32) → (Nat → Int32) → Prop} {p n e q i i' : Nat} {K : Nat → Nat} {z8 z9 : Nat → Int32}
    (hp : 1 ≤ p) (hp4 : p ≤ 4) (hn : n ≤ 8) (he : e + n ≤ 64) (hq : q < 4) (hi : i ≤ i') (hi' : i' ≤ n)
    (hK : ∀ j, j < n → a6 j = nI (K j) ∧ K j ≤ 1) (hin : ∀ j, i ≤ j → j < i' → K j % p = q) (hst : i' < n → K i' % p ≠ q)
    (I0 : ∀ j, j < i → a8 (e + j) = a6 j ∧ a9 (e + j) = a7 j) (I1 : ∀ x, x < e → a8 x = z8 x ∧ a9 x = z9 x)
    (H : ∀ a8' a9' : Nat → Int32, (∀ j, j < i' → a8' (e + j) = a6 j ∧ a9' (e + j) = a7 j) → (∀ x, x < e → a8' x = z8 x ∧ a9' x = z9 x) → J20 (nI i') (nI (q + 1)) (nI (e + i')) a1 a2 a3 a4 a5 a6 a7 a8' a9' a10 a11 a12 a13 a14 a15) :
    ∃ f, wX_spill_43 post J20 (nI q) (nI p) bs md fa og lw hg rd (nI n) mp sc oe f (nI i) (nI (e + i)) a1 a2 a3 a4 a5 a6 a7 a8 a9 a10 a11 a12 a13 a14 a15 := by
  refine pk_loop (σ := (Nat → Int32) × (Nat → Int32)) (fun f i t => wX_spill_43 post J20 (nI q) (nI p) bs md fa og lw hg rd (nI n) mp sc oe f (nI i) (nI (e + i)) a1 a2 a3 a4 a5 a6 a7 t.1 t.2 a10 a11 a12 a13 a14 a15)
    (fun j t => i ≤ j ∧ (∀ y, y < j → t.1 (e + y) = a6 y ∧ t.2 (e + y) = a7 y) ∧ (∀ x, x < e → t.1 x = z8 x ∧ t.2 x = z9 x)) i' i (a8, a9) hi ⟨Nat.le_refl i, I0, I1⟩ ?_ ?_
  · rintro f ⟨b8, b9⟩ ⟨_, e1, e2⟩
    refine pk_le n i' (fun _ => nm_r (nI_1 q) (H b8 b9 e1 e2)) (fun z => ⟨pk_in i' 8 (by omega), nI_ne0 hp (by omega), ?_⟩)
    have hk := (hK i' z).2
    have hm : K i' % p ≤ K i' := Nat.mod_le _ _
    rw [nI_clamp (show i' < 2 ^ 31 by omega), (hK i' z).1, pk_rem (show K i' < 2 ^ 31 by omega) hp (by omega)]
    exact pk_eq (K i' % p) q (fun y => absurd y (hst z)) (fun _ => nm_r (nI_1 q) (H b8 b9 e1 e2))
  · rintro f j ⟨b8, b9⟩ hj ⟨e0, e1, e2⟩ hw
    dsimp only at e1 e2 ⊢
    have hk := (hK j (by omega)).2
    have hm : K j % p ≤ K j := Nat.mod_le _ _
    have hv : vp_nar .byte (a6 j) = a6 j := by rw [(hK j (by omega)).1]; exact mr_nb (by omega)
    have hr : a6 j - a6 j / nI p * nI p = nI (K j % p) := by rw [(hK j (by omega)).1]; exact pk_rem (by omega) hp (by omega)
    refine pk_le n j (fun z => absurd z (by omega)) (fun _ => ⟨pk_in j 8 (by omega), nI_ne0 hp (by omega), ?_⟩)
    rw [nI_clamp (show j < 2 ^ 31 by omega), nI_clamp (show e + j < 2 ^ 31 by omega), hr, hv]
    refine pk_eq (K j % p) q (fun _ => ⟨pk_in j 8 (by omega), pk_in (e + j) 64 (by omega), nm_e ⟨pk_in j 8 (by omega), pk_in (e + j) 64 (by omega), nm_e (nm_r (nI_1 (e + j)) (nm_r (nI_1 j) ?_))⟩⟩) (fun y => absurd (hin j e0 hj) y)
    refine hw (upd b8 (e + j) (a6 j), upd b9 (e + j) (a7 j)) ⟨by omega, fun y hy => ?_, fun x hx => ?_⟩
    · by_cases ey : y = j
      · rw [ey]; exact ⟨pk_us, pk_us⟩
      · show upd b8 (e + j) (a6 j) (e + y) = a6 y ∧ upd b9 (e + j) (a7 j) (e + y) = a7 y
        rw [pk_un (by omega), pk_un (by omega)]; exact e1 y (by omega)
    · show upd b8 (e + j) (a6 j) x = z8 x ∧ upd b9 (e + j) (a7 j) x = z9 x
      rw [pk_un (by omega), pk_un (by omega)]; exact e2 x hx
/-- all four parts: the part q begins at pos q -/
theorem mr_s20 {post : St2 → Prop} {p n e c : Nat} {K pos : Nat → Nat}
    (hp : 1 ≤ p) (hp4 : p ≤ 4) (hn : n ≤ 8) (he : e + n ≤ 64) (hc : c < 31)
    (hK : ∀ j, j < n → a6 j = nI (K j) ∧ K j ≤ 1) (p0 : pos 0 = 0) (p4 : pos 4 = n) (pm : ∀ q, q < 4 → pos q ≤ pos (q + 1)) (pn : ∀ q, q ≤ 4 → pos q ≤ n)
    (pin : ∀ q, q < 4 → ∀ j, pos q ≤ j → j < pos (q + 1) → K j % p = q) (pst : ∀ q, q < 4 → pos (q + 1) < n → K (pos (q + 1)) % p ≠ q)
    (H : ∀ a8' a9' a10' : Nat → Int32, (∀ j, j < n → a8' (e + j) = a6 j ∧ a9' (e + j) = a7 j) → (∀ x, x < e → a8' x = a8 x ∧ a9' x = a9 x) → (∀ q, q < 5 → a10' (5 * c + q) = nI (e + pos q)) → (∀ x, x < 5 * c → a10' x = a10 x) → post (nI p, bs, md, fa, og, lw, hg, rd, 0, mp, nI (c + 1), nI (e + n), oe, a1, a2, a3, a4, a5, a6, a7, a8', a9', a10', a11, a12, a13, a14, a15)) :
    ∃ f, wX_spill_20 post (nI p) bs md fa og lw hg rd (nI n) mp (nI c) oe f 0 0 (nI e) a1 a2 a3 a4 a5 a6 a7 a8 a9 a10 a11 a12 a13 a14 a15 := by
  refine Exists.elim (pk_loop (σ := (Nat → Int32) × (Nat → Int32) × (Nat → Int32)) (fun f q t => wX_spill_20 post (nI p) bs md fa og lw hg rd (nI n) mp (nI c) oe f (nI (pos q)) (nI q) (nI (e + pos q)) a1 a2 a3 a4 a5 a6 a7 t.1 t.2.1 t.2.2 a11 a12 a13 a14 a15)
    (fun q t => (∀ y, y < pos q → t.1 (e + y) = a6 y ∧ t.2.1 (e + y) = a7 y) ∧ (∀ x, x < e → t.1 x = a8 x ∧ t.2.1 x = a9 x) ∧ (∀ r, r < q → t.2.2 (5 * c + r) = nI (e + pos r)) ∧ (∀ x, x < 5 * c → t.2.2 x = a10 x)) 4 0 (a8, a9, a10) (by omega)
    ⟨fun y hy => absurd hy (by omega), fun _ _ => ⟨rfl, rfl⟩, fun r hr => absurd hr (by omega), fun _ _ => rfl⟩ ?_ ?_) (fun f hf => ?_)
  rotate_left 2
  · have hf' : wX_spill_20 post (nI p) bs md fa og lw hg rd (nI n) mp (nI c) oe f (nI (pos 0)) (nI 0) (nI (e + pos 0)) a1 a2 a3 a4 a5 a6 a7 a8 a9 a10 a11 a12 a13 a14 a15 := hf
    rw [p0] at hf'
    exact ⟨f, hf'⟩
  · rintro f ⟨b8, b9, b10⟩ ⟨e1, e2, e3, e4⟩
    dsimp only at e1 e2 e3 e4 ⊢
    rw [p4] at e1 ⊢
    refine pk_le 4 4 (fun _ => ⟨pk_in (5 * c + 4) 160 (by omega) (mr_ix5 c 4), nm_r (e' := upd b10 (5 * c + 4) (nI (e + n))) ?_ (nm_r (nI_1 c) (H b8 b9 _ e1 e2 (fun q hq => ?_) (fun x hx => ?_)))⟩) (fun z => absurd z (by omega))
    · rw [show (5 : Int32) * nI c + 4 = nI (5 * c + 4) from mr_ix5 c 4, nI_clamp (by omega), mr_b8 _ (by omega)]
    · by_cases eq : q = 4
      · rw [eq, pk_us, p4]
      · rw [pk_un (by omega)]; exact e3 q (by omega)
    · rw [pk_un (by omega)]; exact e4 x hx
  · rintro f q ⟨b8, b9, b10⟩ hq ⟨e1, e2, e3, e4⟩ hw
    dsimp only at e1 e2 e3 e4 ⊢
    have q1 := pn q (by omega)
    have q2 := pn (q + 1) (by omega)
    refine pk_le 4 q (fun z => absurd z (by omega)) (fun _ => ⟨pk_in (5 * c + q) 160 (by omega) (mr_ix5 c q), nm_r (e' := upd b10 (5 * c + q) (nI (e + pos q))) ?_ ?_⟩)
    · rw [mr_ix5 c q, nI_clamp (by omega), mr_b8 _ (by omega)]
    · refine mr_s43 (i' := pos (q + 1)) hp hp4 hn he hq (pm q hq) q2 hK (pin q hq) (pst q hq) e1 e2 (fun b8' b9' h1 h2 => ?_)
      refine hw (b8', b9', upd b10 (5 * c + q) (nI (e + pos q))) ⟨h1, h2, fun r hr => ?_, fun x hx => ?_⟩
      · show upd b10 (5 * c + q) (nI (e + pos q)) (5 * c + r) = nI (e + pos r)
        by_cases er : r = q
        · rw [er, pk_us]
        · rw [pk_un (by omega)]; exact e3 r (by omega)
      · show upd b10 (5 * c + q) (nI (e + pos q)) x = a10 x
        rw [pk_un (by omega)]; exact e4 x hx
/-- a sorted and combined buffer is appended -/
theorem mr_app {post : St2 → Prop} {p e c n0 n1 : Nat} {R0 R1 : List Int32} (hp : 1 ≤ p) (hp4 : p ≤ 4) (hn : n0 + n1 ≤ 2) (he : e + 2 ≤ 64) (hc : c < 31)
    (h0 : ∀ j, j < n0 → a6 j = nI 0) (h1 : ∀ j, n0 ≤ j → j < n0 + n1 → a6 j = nI 1)
    (f0 : ∀ acc, mr_rg rd a7 0 n0 acc = mr_fd rd R0 acc) (f1 : ∀ acc, mr_rg rd a7 n0 n1 acc = mr_fd rd R1 acc) (g0 : 0 < n0 ↔ R0 ≠ []) (g1 : 0 < n1 ↔ R1 ≠ [])
    (H : ∀ a8' a9' a10' : Nat → Int32, mr_new p rd c e n0 n1 a8 a9 a10 a8' a9' a10' R0 R1 → post (nI p, bs, md, fa, og, lw, hg, rd, 0, mp, nI (c + 1), nI (e + (n0 + n1)), oe, a1, a2, a3, a4, a5, a6, a7, a8', a9', a10', a11, a12, a13, a14, a15)) :
    ∃ f, wX_spill_20 post (nI p) bs md fa og lw hg rd (nI (n0 + n1)) mp (nI c) oe f 0 0 (nI e) a1 a2 a3 a4 a5 a6 a7 a8 a9 a10 a11 a12 a13 a14 a15 := by
  obtain ⟨pos, hpos⟩ : ∃ pos : Nat → Nat, pos = fun q => if q = 0 then 0 else if q = 1 then (if p = 1 then n0 + n1 else n0) else n0 + n1 := ⟨_, rfl⟩
  have P0 : pos 0 = 0 := by rw [hpos]; rfl
  have P1 : pos 1 = if p = 1 then n0 + n1 else n0 := by rw [hpos]; rfl
  have P2 : ∀ q, 2 ≤ q → pos q = n0 + n1 := fun q hq => by rw [hpos]; show (if q = 0 then 0 else if q = 1 then (if p = 1 then n0 + n1 else n0) else n0 + n1) = _; rw [if_neg (by omega), if_neg (by omega)]
  have P1' : (p = 1 ∧ pos 1 = n0 + n1) ∨ (2 ≤ p ∧ pos 1 = n0) := by
    by_cases e1 : p = 1
    · rw [if_pos e1] at P1; exact Or.inl ⟨e1, P1⟩
    · rw [if_neg e1] at P1; exact Or.inr ⟨by omega, P1⟩
  have cs : ∀ q, q = 0 ∨ q = 1 ∨ 2 ≤ q := fun q => by omega
  have K0 : ∀ j, j < n0 → (if j < n0 then 0 else 1) = 0 := fun j hj => if_pos hj
  have K1 : ∀ j, n0 ≤ j → (if j < n0 then 0 else 1) = 1 := fun j hj => if_neg (by omega)
  refine mr_s20 (n := n0 + n1) (K := fun j => if j < n0 then 0 else 1) (pos := pos) hp hp4 (by omega) (by omega) hc (fun j hj => ?_) P0 (P2 4 (by omega)) (fun q hq => ?_) (fun q hq => ?_) (fun q hq j hj1 hj2 => ?_) (fun q hq hj => ?_) (fun a8' a9' a10' w1 w2 w3 w4 => H a8' a9' a10' ⟨hn, w2, w4, ⟨?_, ?_, ?_, ?_, ?_⟩, fun j hj => ?_, fun j hj => ?_, fun acc => ?_, fun acc => ?_, g0, g1⟩)
  · show a6 j = nI (if j < n0 then 0 else 1) ∧ (if j < n0 then 0 else 1) ≤ 1
    by_cases hj0 : j < n0
    · rw [K0 j hj0]; exact ⟨h0 j hj0, by omega⟩
    · rw [K1 j (by omega)]; exact ⟨h1 j (by omega) hj, by omega⟩
  · rcases cs q with z | z | z
    · rw [z, P0]; omega
    · have := P2 (q + 1) (by omega); rw [this, z]; omega
    · rw [P2 q z, P2 (q + 1) (by omega)]; omega
  · rcases cs q with z | z | z
    · rw [z, P0]; omega
    · rw [z]; omega
    · rw [P2 q z]; omega
  · show (if j < n0 then 0 else 1) % p = q
    rcases cs q with z | z | z
    · rw [z] at hj2 ⊢
      have hj2' : j < pos 1 := hj2
      rcases P1' with ⟨y1, y2⟩ | ⟨y1, y2⟩
      · rw [y1]; exact Nat.mod_one _
      · rw [K0 j (by omega)]; exact Nat.zero_mod _
    · rw [z] at hj1 hj2 ⊢
      have hj2' : j < pos 2 := hj2
      rw [P2 2 (by omega)] at hj2'
      rcases P1' with ⟨y1, y2⟩ | ⟨y1, y2⟩
      · omega
      · rw [K1 j (by omega)]; exact Nat.mod_eq_of_lt (by omega)
    · rw [P2 q z] at hj1
      rw [P2 (q + 1) (by omega)] at hj2
      omega
  · rcases cs q with z | z | z
    · rw [z] at hj ⊢
      have hj' : pos 1 < n0 + n1 := hj
      show (if pos 1 < n0 then 0 else 1) % p ≠ 0
      rcases P1' with ⟨y1, y2⟩ | ⟨y1, y2⟩
      · omega
      · rw [K1 (pos 1) (by omega), Nat.mod_eq_of_lt (by omega)]; omega
    · rw [P2 (q + 1) (by omega)] at hj; omega
    · rw [P2 (q + 1) (by omega)] at hj; omega
  · have := w3 0 (by omega); rw [P0] at this; exact this
  · have := w3 1 (by omega); rw [P1] at this; exact this
  · have := w3 2 (by omega); rw [P2 2 (by omega)] at this; exact this
  · have := w3 3 (by omega); rw [P2 3 (by omega)] at this; exact this
  · have := w3 4 (by omega); rw [P2 4 (by omega)] at this; exact this
  · rw [(w1 j (by omega)).1]; exact h0 j hj
  · rw [Nat.add_assoc, (w1 (n0 + j) (by omega)).1]; exact h1 (n0 + j) (by omega) (by omega)
  · rw [← f0]; exact mr_rg_s acc n0 (fun j hj => by rw [(w1 j (by omega)).2, Nat.zero_add])
  · rw [← f1]; exact mr_rg_s acc n1 (fun j hj => by rw [Nat.add_assoc]; exact (w1 (n0 + j) (by omega)).2)
end
end
section
theorem mr_min (v : Int32) : ¬ v < -2147483648 := by
  rw [Int32.lt_iff_toInt_lt, show (-2147483648 : Int32).toInt = -2147483648 by decide]
  have := Int32.le_toInt v
  omega
theorem mr_max (v : Int32) : v ≤ 2147483647 := by
  rw [Int32.le_iff_toInt_le, show (2147483647 : Int32).toInt = 2147483647 by decide]
  have := Int32.toInt_lt v
  omega
/-- the value that a record is mapped to -/
def mr_w (rd fa og v : Int32) : Int32 := if rd = 3 then 1 else fa * v + og
theorem mr_ne (x : Int32) (l : List Int32) : x :: l ≠ [] := List.cons_ne_nil x l
section
variable {pc bs md fa og lw hg rd bf mp sc se oe : Int32} {a1 a2 a3 a4 a5 a6 a7 a8 a9 a10 a11 a12 a13 a14 a15 : Nat → Int32}
/-- two sorted pairs, no combining -/
theorem mr_srt4 {post : St2 → Prop} {p e c x0 x1 : Nat} (hp : 1 ≤ p) (hp4 : p ≤ 4) (he : e + 2 ≤ 64) (hc : c < 31) (hx : x0 ≤ x1) (hx1 : x1 ≤ 1) (e0 : a6 0 = nI x0) (e1 : a6 1 = nI x1)
    (H : ∀ (n0 n1 : Nat) (a8' a9' a10' : Nat → Int32), mr_new p rd c e n0 n1 a8 a9 a10 a8' a9' a10' ((if x0 = 0 then [a7 0] else []) ++ (if x1 = 0 then [a7 1] else [])) ((if x0 = 1 then [a7 0] else []) ++ (if x1 = 1 then [a7 1] else [])) → post (nI p, bs, md, fa, og, lw, hg, rd, 0, mp, nI (c + 1), nI (e + (n0 + n1)), oe, a1, a2, a3, a4, a5, a6, a7, a8', a9', a10', a11, a12, a13, a14, a15)) :
    ∃ f, wX_spill_20 post (nI p) bs md fa og lw hg rd (nI 2) mp (nI c) oe f 0 0 (nI e) a1 a2 a3 a4 a5 a6 a7 a8 a9 a10 a11 a12 a13 a14 a15 := by
  have cs : (x0 = 0 ∧ x1 = 0) ∨ (x0 = 0 ∧ x1 = 1) ∨ (x0 = 1 ∧ x1 = 1) := by omega
  have two : ∀ (P : Nat → Prop), P 0 → P 1 → ∀ j, j < 2 → P j := fun P q0 q1 j hj => by
    have : j = 0 ∨ j = 1 := by omega
    rcases this with z | z
    · rw [z]; exact q0
    · rw [z]; exact q1
  rcases cs with ⟨y0, y1⟩ | ⟨y0, y1⟩ | ⟨y0, y1⟩
  · subst y0 y1
    exact mr_app (n0 := 2) (n1 := 0) (R0 := [a7 0, a7 1]) (R1 := []) hp hp4 (by omega) he hc (two (fun j => a6 j = nI 0) e0 e1) (fun j h1 h2 => absurd h2 (by omega)) (fun acc => rfl) (fun acc => rfl)
      ⟨fun _ => mr_ne _ _, fun _ => by omega⟩ ⟨fun h => absurd h (by omega), fun h => absurd rfl h⟩ (H 2 0)
  · subst y0 y1
    exact mr_app (n0 := 1) (n1 := 1) (R0 := [a7 0]) (R1 := [a7 1]) hp hp4 (by omega) he hc (fun j hj => by rw [show j = 0 by omega]; exact e0) (fun j h1 h2 => by rw [show j = 1 by omega]; exact e1) (fun acc => rfl) (fun acc => rfl)
      ⟨fun _ => mr_ne _ _, fun _ => by omega⟩ ⟨fun _ => mr_ne _ _, fun _ => by omega⟩ (H 1 1)
  · subst y0 y1
    exact mr_app (n0 := 0) (n1 := 2) (R0 := []) (R1 := [a7 0, a7 1]) hp hp4 (by omega) he hc (fun j hj => absurd hj (by omega)) (fun j h1 h2 => two (fun j => a6 j = nI 1) e0 e1 j (by omega)) (fun acc => rfl) (fun acc => rfl)
      ⟨fun h => absurd h (by omega), fun h => absurd rfl h⟩ ⟨fun _ => mr_ne _ _, fun _ => by omega⟩ (H 0 2)
/-- two sorted pairs, combined -/
theorem mr_srtc {post : St2 → Prop} {post' : St2 → Prop} {p e c x0 x1 : Nat} (h4 : ¬ rd = 4) (hp : 1 ≤ p) (hp4 : p ≤ 4) (he : e + 2 ≤ 64) (hc : c < 31) (hx : x0 ≤ x1) (hx1 : x1 ≤ 1) (e0 : a6 0 = nI x0) (e1 : a6 1 = nI x1)
    (hpost : ∀ (n' : Int32) (a6' a7' : Nat → Int32), (∃ f, wX_spill_20 post (nI p) bs md fa og lw hg rd n' mp (nI c) oe f 0 0 (nI e) a1 a2 a3 a4 a5 a6' a7' a8 a9 a10 a11 a12 a13 a14 a15) → post' (nI p, bs, md, fa, og, lw, hg, rd, n', mp, nI c, nI e, oe, a1, a2, a3, a4, a5, a6', a7', a8, a9, a10, a11, a12, a13, a14, a15))
    (H : ∀ (n0 n1 : Nat) (a6' a7' a8' a9' a10' : Nat → Int32), mr_new p rd c e n0 n1 a8 a9 a10 a8' a9' a10' ((if x0 = 0 then [a7 0] else []) ++ (if x1 = 0 then [a7 1] else [])) ((if x0 = 1 then [a7 0] else []) ++ (if x1 = 1 then [a7 1] else [])) → post (nI p, bs, md, fa, og, lw, hg, rd, 0, mp, nI (c + 1), nI (e + (n0 + n1)), oe, a1, a2, a3, a4, a5, a6', a7', a8', a9', a10', a11, a12, a13, a14, a15)) :
    wpX_combineBuffer post' (nI p, bs, md, fa, og, lw, hg, rd, nI 2, mp, nI c, nI e, oe, a1, a2, a3, a4, a5, a6, a7, a8, a9, a10, a11, a12, a13, a14, a15) := by
  have cs : (x0 = 0 ∧ x1 = 0) ∨ (x0 = 0 ∧ x1 = 1) ∨ (x0 = 1 ∧ x1 = 1) := by omega
  rcases cs with ⟨y0, y1⟩ | ⟨y0, y1⟩ | ⟨y0, y1⟩
  · subst y0 y1
    refine mr_cb2 (by omega) (by omega) e0 e1 (fun _ => hpost _ _ _ ?_) (fun z => absurd rfl z)
    exact mr_app (n0 := 1) (n1 := 0) (R0 := [a7 0, a7 1]) (R1 := []) hp hp4 (by omega) he hc (fun j hj => by rw [show j = 0 by omega]; exact e0) (fun j h1 h2 => absurd h2 (by omega)) (fun acc => mr_fd2 h4 _ _ acc) (fun acc => rfl)
      ⟨fun _ => mr_ne _ _, fun _ => by omega⟩ ⟨fun h => absurd h (by omega), fun h => absurd rfl h⟩ (H 1 0 _ _)
  · subst y0 y1
    refine mr_cb2 (by omega) (by omega) e0 e1 (fun z => absurd z (by omega)) (fun _ b6 b7 g0 g1 g2 g3 => hpost _ _ _ ?_)
    refine mr_app (n0 := 1) (n1 := 1) (R0 := [a7 0]) (R1 := [a7 1]) hp hp4 (by omega) he hc (fun j hj => by rw [show j = 0 by omega]; exact g0) (fun j h1 h2 => by rw [show j = 1 by omega]; exact g1) (fun acc => ?_) (fun acc => ?_)
      ⟨fun _ => mr_ne _ _, fun _ => by omega⟩ ⟨fun _ => mr_ne _ _, fun _ => by omega⟩ (H 1 1 _ _)
    · rw [← g2]; rfl
    · rw [← g3]; rfl
  · subst y0 y1
    refine mr_cb2 (by omega) (by omega) e0 e1 (fun _ => hpost _ _ _ ?_) (fun z => absurd rfl z)
    exact mr_app (n0 := 0) (n1 := 1) (R0 := []) (R1 := [a7 0, a7 1]) hp hp4 (by omega) he hc (fun j hj => absurd hj (by omega)) (fun j h1 h2 => by rw [show j = 0 by omega]; exact e0) (fun acc => rfl) (fun acc => mr_fd2 h4 _ _ acc)
      ⟨fun h => absurd h (by omega), fun h => absurd rfl h⟩ ⟨fun _ => mr_ne _ _, fun _ => by omega⟩ (H 0 1 _ _)
theorem mr_spill1 {post : St2 → Prop} {p e c : Nat} {k : Nat → Nat} {w : Nat → Int32} (hp : 1 ≤ p) (hp4 : p ≤ 4) (he : e + 2 ≤ 64) (hc : c < 31) (e0 : a6 0 = nI (k 0)) (k0 : k 0 ≤ 1) (w0 : a7 0 = w 0)
    (H : ∀ (n0 n1 : Nat) (a6' a7' a8' a9' a10' : Nat → Int32), mr_new p rd c e n0 n1 a8 a9 a10 a8' a9' a10' (mr_sel 0 k w 1) (mr_sel 1 k w 1) → post (nI p, bs, md, fa, og, lw, hg, rd, 0, mp, nI (c + 1), nI (e + (n0 + n1)), oe, a1, a2, a3, a4, a5, a6', a7', a8', a9', a10', a11, a12, a13, a14, a15)) :
    wpX_spill post (nI p, bs, md, fa, og, lw, hg, rd, nI 1, mp, nI c, nI e, oe, a1, a2, a3, a4, a5, a6, a7, a8, a9, a10, a11, a12, a13, a14, a15) := by
  have F : ∃ f, wX_spill_20 post (nI p) bs md fa og lw hg rd (nI 1) mp (nI c) oe f 0 0 (nI e) a1 a2 a3 a4 a5 a6 a7 a8 a9 a10 a11 a12 a13 a14 a15 := by
    have cs : k 0 = 0 ∨ k 0 = 1 := by omega
    rcases cs with y | y
    · rw [y] at e0
      have s0 : mr_sel 0 k w 1 = [w 0] := by show [] ++ (if k 0 = 0 then [w 0] else []) = _; rw [if_pos y]; rfl
      have s1 : mr_sel 1 k w 1 = [] := by show [] ++ (if k 0 = 1 then [w 0] else []) = _; rw [if_neg (by omega)]; rfl
      rw [s0, s1] at H
      exact mr_app (n0 := 1) (n1 := 0) (R0 := [w 0]) (R1 := []) hp hp4 (by omega) he hc (fun j hj => by rw [show j = 0 by omega]; exact e0) (fun j h1 h2 => absurd h2 (by omega)) (fun acc => by rw [← w0]; rfl) (fun acc => rfl)
        ⟨fun _ => mr_ne _ _, fun _ => by omega⟩ ⟨fun h => absurd h (by omega), fun h => absurd rfl h⟩ (H 1 0 _ _)
    · rw [y] at e0
      have s0 : mr_sel 0 k w 1 = [] := by show [] ++ (if k 0 = 0 then [w 0] else []) = _; rw [if_neg (by omega)]; rfl
      have s1 : mr_sel 1 k w 1 = [w 0] := by show [] ++ (if k 0 = 1 then [w 0] else []) = _; rw [if_pos y]; rfl
      rw [s0, s1] at H
      exact mr_app (n0 := 0) (n1 := 1) (R0 := []) (R1 := [w 0]) hp hp4 (by omega) he hc (fun j hj => absurd hj (by omega)) (fun j h1 h2 => by rw [show j = 0 by omega]; exact e0) (fun acc => rfl) (fun acc => by rw [← w0]; rfl)
        ⟨fun h => absurd h (by omega), fun h => absurd rfl h⟩ ⟨fun _ => mr_ne _ _, fun _ => by omega⟩ (H 0 1 _ _)
  unfold wpX_spill
  dsimp only
  exact mr_sort1 (br_c (fun _ => F) (fun _ => mr_cb1 F))
theorem mr_spill2 {post : St2 → Prop} {p e c : Nat} {k : Nat → Nat} {w : Nat → Int32} (hp : 1 ≤ p) (hp4 : p ≤ 4) (he : e + 2 ≤ 64) (hc : c < 31) (e0 : a6 0 = nI (k 0)) (k0 : k 0 ≤ 1) (w0 : a7 0 = w 0) (e1 : a6 1 = nI (k 1)) (k1 : k 1 ≤ 1) (w1 : a7 1 = w 1)
    (H : ∀ (n0 n1 : Nat) (a6' a7' a8' a9' a10' : Nat → Int32), mr_new p rd c e n0 n1 a8 a9 a10 a8' a9' a10' (mr_sel 0 k w 2) (mr_sel 1 k w 2) → post (nI p, bs, md, fa, og, lw, hg, rd, 0, mp, nI (c + 1), nI (e + (n0 + n1)), oe, a1, a2, a3, a4, a5, a6', a7', a8', a9', a10', a11, a12, a13, a14, a15)) :
    wpX_spill post (nI p, bs, md, fa, og, lw, hg, rd, nI 2, mp, nI c, nI e, oe, a1, a2, a3, a4, a5, a6, a7, a8, a9, a10, a11, a12, a13, a14, a15) := by
  unfold wpX_spill
  dsimp only
  refine mr_sort2 hp hp4 k0 k1 e0 e1 (fun b6 b7 s1 s2 => ?_)
  by_cases hk : k 0 ≤ k 1
  · obtain ⟨t1, t2, t3, t4⟩ := s1 hk
    have L : ∀ v, (if k 0 = v then [b7 0] else []) ++ (if k 1 = v then [b7 1] else []) = mr_sel v k w 2 := by
      intro v
      rw [t3, t4, w0, w1]
      rfl
    have H' : ∀ (n0 n1 : Nat) (a6' a7' a8' a9' a10' : Nat → Int32), mr_new p rd c e n0 n1 a8 a9 a10 a8' a9' a10' ((if k 0 = 0 then [b7 0] else []) ++ (if k 1 = 0 then [b7 1] else [])) ((if k 0 = 1 then [b7 0] else []) ++ (if k 1 = 1 then [b7 1] else [])) → post (nI p, bs, md, fa, og, lw, hg, rd, 0, mp, nI (c + 1), nI (e + (n0 + n1)), oe, a1, a2, a3, a4, a5, a6', a7', a8', a9', a10', a11, a12, a13, a14, a15) := by
      rw [L 0, L 1]; exact H
    exact br_c (fun h4 => mr_srt4 hp hp4 he hc hk k1 t1 t2 (fun n0 n1 => H' n0 n1 _ _)) (fun h4 => mr_srtc (post := post) h4 hp hp4 he hc hk k1 t1 t2 (fun _ _ _ h => h) H')
  · obtain ⟨t1, t2, t3, t4⟩ := s2 (by omega)
    have z0 : k 0 = 1 := by omega
    have z1 : k 1 = 0 := by omega
    have L0 : (if k 1 = 0 then [b7 0] else []) ++ (if k 0 = 0 then [b7 1] else []) = mr_sel 0 k w 2 := by
      show _ = ([] ++ (if k 0 = 0 then [w 0] else [])) ++ (if k 1 = 0 then [w 1] else [])
      rw [t3, t4, w0, w1, if_pos z1, if_neg (show ¬ k 0 = 0 by omega)]
      rfl
    have L1 : (if k 1 = 1 then [b7 0] else []) ++ (if k 0 = 1 then [b7 1] else []) = mr_sel 1 k w 2 := by
      show _ = ([] ++ (if k 0 = 1 then [w 0] else [])) ++ (if k 1 = 1 then [w 1] else [])
      rw [t3, t4, w0, w1, if_pos z0, if_neg (show ¬ k 1 = 1 by omega)]
      rfl
    have H' : ∀ (n0 n1 : Nat) (a6' a7' a8' a9' a10' : Nat → Int32), mr_new p rd c e n0 n1 a8 a9 a10 a8' a9' a10' ((if k 1 = 0 then [b7 0] else []) ++ (if k 0 = 0 then [b7 1] else [])) ((if k 1 = 1 then [b7 0] else []) ++ (if k 0 = 1 then [b7 1] else [])) → post (nI p, bs, md, fa, og, lw, hg, rd, 0, mp, nI (c + 1), nI (e + (n0 + n1)), oe, a1, a2, a3, a4, a5, a6', a7', a8', a9', a10', a11, a12, a13, a14, a15) := by
      rw [L0, L1]; exact H
    exact br_c (fun h4 => mr_srt4 hp hp4 he hc (by omega) k0 t1 t2 (fun n0 n1 => H' n0 n1 _ _)) (fun h4 => mr_srtc (post := post) h4 hp hp4 he hc (by omega) k0 t1 t2 (fun _ _ _ h => h) H')
theorem mr_rec {post : St2 → Prop} {x j K N B : Nat} {y : Int32} (hy : y = nI x) (hx : x < 64) (hj : j < B) (hB : B ≤ 8) (ha2 : a2 x = nI K) (hK : K < 2 ^ 31)
    (H : post (pc, nI B, 2, fa, og, -2147483648, 2147483647, rd, nI (j + 1), nI (N + 1), sc, se, oe, a1, a2, a3, a4, a5, upd a6 j (nI (K % 2)), upd a7 j (mr_w rd fa og (a3 x)), a8, a9, a10, a11, a12, a13, a14, a15)) :
    wpX_mapRecord post (pc, nI B, 2, fa, og, -2147483648, 2147483647, rd, nI j, nI N, sc, se, oe, a1, a2, a3, a4, a5, a6, a7, a8, a9, a10, a11, a12, a13, a14, a15) y := by
  subst hy
  have k2 : K % 2 < 2 := Nat.mod_lt _ (by omega)
  have hc : (nI x).toNatClampNeg = x := nI_clamp (by omega)
  have hr : a2 (nI x).toNatClampNeg - a2 (nI x).toNatClampNeg / 2 * 2 = nI (K % 2) := by rw [hc, ha2]; exact pk_rem (d := 2) hK (by omega) (by omega)
  refine ⟨pk_in x 64 hx, nm_r (e' := a3 x) (by rw [hc]) (br_f (mr_min _) (br_t (mr_max _) (nm_r (nI_1 N) ⟨pk_in x 64 hx, by decide, nm_r hr (br_t (nI_pos' (by omega)) ?_)⟩)))⟩
  refine pk_eq j B (fun z => absurd z (by omega)) (fun _ => ?_)
  refine ⟨pk_in j 8 (by omega), nm_r (e' := upd a6 j (nI (K % 2))) (by rw [nI_clamp (by omega), mr_b8 _ (by omega)]) ?_⟩
  unfold mr_w at H
  refine br_c (fun h3 => ?_) (fun h3 => ?_)
  · rw [if_pos h3] at H
    exact ⟨pk_in j 8 (by omega), nm_r (e' := upd a7 j 1) (by rw [nI_clamp (by omega)]) (nm_r (nI_1 j) H)⟩
  · rw [if_neg h3] at H
    exact ⟨pk_in j 8 (by omega), nm_r (e' := upd a7 j (fa * a3 x + og)) (by rw [nI_clamp (by omega)]) (nm_r (nI_1 j) H)⟩
theorem mr_split {post : St2 → Prop} {p q n c N B : Nat} {b m K : Nat → Nat} {T0 T1 : List Int32} (hp : 1 ≤ p) (hp4 : p ≤ 4) (hq : q < 4) (hn : n ≤ 2) (hc : c < 4) (hB : 2 ≤ B) (hB8 : B ≤ 8)
    (h4 : a4 q = 0) (h1 : a1 q = nI n) (h2 : ∀ j, j < n → a2 (16 * q + j) = nI (K (16 * q + j)) ∧ K (16 * q + j) < 2 ^ 31) (I : mr_inv p rd c b m a8 a9 a10 T0 T1)
    (H : ∀ (c' : Nat) (b' m' : Nat → Nat) (a6' a7' a8' a9' a10' : Nat → Int32), c' ≤ c + 1 →
      mr_inv p rd c' b' m' a8' a9' a10' (T0 ++ mr_sel 0 (fun j => K (16 * q + j) % 2) (fun j => mr_w rd fa og (a3 (16 * q + j))) n) (T1 ++ mr_sel 1 (fun j => K (16 * q + j) % 2) (fun j => mr_w rd fa og (a3 (16 * q + j))) n) →
      post (nI p, nI B, 2, fa, og, -2147483648, 2147483647, rd, 0, nI (N + n), nI c', nI (b' c'), oe, a1, a2, a3, a4, a5, a6', a7', a8', a9', a10', a11, a12, a13, a14, a15)) :
    wpX_mapSplit post (nI p, nI B, 2, fa, og, -2147483648, 2147483647, rd, bf, nI N, nI c, nI (b c), oe, a1, a2, a3, a4, a5, a6, a7, a8, a9, a10, a11, a12, a13, a14, a15) (nI q) := by
  have hq' : (nI q).toNatClampNeg = q := nI_clamp (by omega)
  have hbc : b c ≤ 2 * c := I.2.1 c (Nat.le_refl c)
  refine ⟨pk_in q 4 hq, nm_r (e' := nI 0) (by rw [hq']; exact h4) ⟨2, pk_lt 0 0 (fun z => absurd z (by omega)) (fun _ => pk_le 0 0 (fun _ => ⟨pk_in q 4 hq, nm_r (e' := nI n) (by rw [hq']; exact h1) ?_⟩) (fun z => absurd z (by omega)))⟩⟩
  have m2 : ∀ x : Nat, x % 2 ≤ 1 := fun x => by omega
  have cs : n = 0 ∨ n = 1 ∨ n = 2 := by omega
  rcases cs with z | z | z
  · subst z
    refine ⟨1, pk_le 0 0 (fun _ => pk_le 0 0 (fun _ => nm_r (e' := -1) rfl (br_t (by decide) ?_)) (fun z => absurd z (by omega))) (fun z => absurd z (by omega))⟩
    have H' := H c b m a6 a7 a8 a9 a10 (by omega)
    rw [show ∀ k, mr_sel k (fun j => K (16 * q + j) % 2) (fun j => mr_w rd fa og (a3 (16 * q + j))) 0 = [] from fun _ => rfl, show ∀ k, mr_sel k (fun j => K (16 * q + j) % 2) (fun j => mr_w rd fa og (a3 (16 * q + j))) 0 = [] from fun _ => rfl, List.append_nil, List.append_nil] at H'
    exact H' I
  · subst z
    refine ⟨2, pk_le 1 0 (fun z => absurd z (by omega)) (fun _ => mr_rec (x := 16 * q + 0) (j := 0) (mr_ix16 q 0) (by omega) (by omega) hB8 (h2 0 (by omega)).1 (h2 0 (by omega)).2 (nm_r (e' := nI 1) rfl ?_))⟩
    refine pk_le 1 1 (fun _ => pk_le 1 0 (fun z => absurd z (by omega)) (fun _ => ?_)) (fun z => absurd z (by omega))
    refine mr_spill1 (k := fun j => K (16 * q + j) % 2) (w := fun j => mr_w rd fa og (a3 (16 * q + j))) hp hp4 (by omega) (by omega) rfl (m2 _) rfl (fun n0 n1 b6 b7 b8 b9 b10 N1 => nm_r (e' := -1) rfl (br_t (by decide) ?_))
    obtain ⟨b', m', I', hb'⟩ := mr_inv_add I N1
    rw [← hb']
    exact H (c + 1) b' m' b6 b7 b8 b9 b10 (by omega) I'
  · subst z
    refine ⟨3, pk_le 2 0 (fun z => absurd z (by omega)) (fun _ => mr_rec (x := 16 * q + 0) (j := 0) (mr_ix16 q 0) (by omega) (by omega) hB8 (h2 0 (by omega)).1 (h2 0 (by omega)).2 (nm_r (e' := nI 1) rfl ?_))⟩
    refine pk_le 2 1 (fun z => absurd z (by omega)) (fun _ => mr_rec (x := 16 * q + 1) (j := 1) (mr_ix16 q 1) (by omega) (by omega) hB8 (h2 1 (by omega)).1 (h2 1 (by omega)).2 (nm_r (e' := nI 2) rfl ?_))
    refine pk_le 2 2 (fun _ => pk_le 2 0 (fun z => absurd z (by omega)) (fun _ => ?_)) (fun z => absurd z (by omega))
    refine mr_spill2 (k := fun j => K (16 * q + j) % 2) (w := fun j => mr_w rd fa og (a3 (16 * q + j))) hp hp4 (by omega) (by omega) rfl (m2 _) rfl rfl (m2 _) rfl (fun n0 n1 b6 b7 b8 b9 b10 N1 => nm_r (e' := -1) rfl (br_t (by decide) ?_))
    obtain ⟨b', m', I', hb'⟩ := mr_inv_add I N1
    rw [← hb']
    exact H (c + 1) b' m' b6 b7 b8 b9 b10 (by omega) I'
end
end
section
/-- the least key at a head of the spills below s, or -1 -/
def mr_ls (a8 a11 a12 : Nat → Int32) : Nat → Int32
  | 0 => -1
  | s + 1 => if a11 s = a12 s then mr_ls a8 a11 a12 s else if mr_ls a8 a11 a12 s < 0 then a8 (a11 s).toNatClampNeg else if mr_ls a8 a11 a12 s ≤ a8 (a11 s).toNatClampNeg then mr_ls a8 a11 a12 s else a8 (a11 s).toNatClampNeg
theorem mr_lsQ {a8 a11 a12 : Nat → Int32} {c : Nat} {h E : Nat → Nat} (hh : ∀ s, s < c → a11 s = nI (h s) ∧ a12 s = nI (E s) ∧ h s ≤ E s ∧ E s ≤ 64) (kk : ∀ s, s < c → h s < E s → a8 (h s) = nI 0 ∨ a8 (h s) = nI 1) :
    ∀ n, n ≤ c → (mr_ls a8 a11 a12 n = -1 ∧ ∀ s, s < n → h s = E s) ∨ (mr_ls a8 a11 a12 n = nI 1 ∧ (∃ s, s < n ∧ h s < E s) ∧ ∀ s, s < n → h s < E s → a8 (h s) = nI 1) ∨ (mr_ls a8 a11 a12 n = nI 0 ∧ ∃ s, s < n ∧ h s < E s ∧ a8 (h s) = nI 0) := by
  intro n
  induction n with
  | zero => exact fun _ => Or.inl ⟨rfl, fun s hs => absurd hs (by omega)⟩
  | succ n ih =>
    intro hn
    have e : mr_ls a8 a11 a12 (n + 1) = if a11 n = a12 n then mr_ls a8 a11 a12 n else if mr_ls a8 a11 a12 n < 0 then a8 (a11 n).toNatClampNeg else if mr_ls a8 a11 a12 n ≤ a8 (a11 n).toNatClampNeg then mr_ls a8 a11 a12 n else a8 (a11 n).toNatClampNeg := rfl
    obtain ⟨q1, q2, q3, q4⟩ := hh n (by omega)
    rw [e, q1, q2, nI_clamp (show h n < 2 ^ 31 by omega)]
    by_cases hne : h n = E n
    · rw [if_pos (by rw [hne])]
      rcases ih (by omega) with ⟨i1, i2⟩ | ⟨i1, ⟨s, i2, i3⟩, i4⟩ | ⟨i1, s, i2, i3, i4⟩
      · exact Or.inl ⟨i1, lt_s i2 hne⟩
      · exact Or.inr (Or.inl ⟨i1, ⟨s, by omega, i3⟩, lt_s i4 (fun z => absurd z (by omega))⟩)
      · exact Or.inr (Or.inr ⟨i1, s, by omega, i3, i4⟩)
    · rw [if_neg (fun z => hne ((nI_eq (by omega) (by omega)).mp z))]
      have hlt : h n < E n := by omega
      rcases ih (by omega) with ⟨i1, i2⟩ | ⟨i1, ⟨s, i2, i3⟩, i4⟩ | ⟨i1, s, i2, i3, i4⟩
      · rw [i1, if_pos (by decide)]
        rcases kk n (by omega) hlt with k | k
        · exact Or.inr (Or.inr ⟨k, n, by omega, hlt, k⟩)
        · exact Or.inr (Or.inl ⟨k, ⟨n, by omega, hlt⟩, lt_s (fun s hs z => absurd (i2 s hs) (by omega)) (fun _ => k)⟩)
      · rw [i1, if_neg (by decide)]
        rcases kk n (by omega) hlt with k | k
        · rw [k, if_neg (by decide)]
          exact Or.inr (Or.inr ⟨rfl, n, by omega, hlt, k⟩)
        · rw [k, if_pos (by decide)]
          exact Or.inr (Or.inl ⟨rfl, ⟨s, by omega, i3⟩, lt_s i4 (fun _ => k)⟩)
      · rw [i1, if_neg (by decide)]
        rcases kk n (by omega) hlt with k | k
        · rw [k, if_pos (by decide)]
          exact Or.inr (Or.inr ⟨rfl, s, by omega, i3, i4⟩)
        · rw [k, if_pos (by decide)]
          exact Or.inr (Or.inr ⟨rfl, s, by omega, i3, i4⟩)
/-- what a group begins with -/
def mr_in (rd : Int32) : Int32 × Int32 := (if rd = 4 then 7 else 0, 0)
section
variable {pc bs md fa og lw hg rd bf mp sc se oe : Int32} {a1 a2 a3 a4 a5 a6 a7 a8 a9 a10 a11 a12 a13 a14 a15 : Nat → Int32}
theorem mr_open {post : St2 → Prop} {c q : Nat} {Hh Ee : Nat → Nat} (hc : c < 31) (hq : q < 4) (h : ∀ s, s < c → a10 (5 * s + q) = nI (Hh s) ∧ a10 (5 * s + q + 1) = nI (Ee s) ∧ Hh s ≤ 64 ∧ Ee s ≤ 64)
    (H : ∀ a11' a12' : Nat → Int32, (∀ s, s < c → a11' s = nI (Hh s) ∧ a12' s = nI (Ee s)) → post (pc, bs, md, fa, og, lw, hg, rd, bf, mp, nI c, se, oe, a1, a2, a3, a4, a5, a6, a7, a8, a9, a10, a11', a12', a13, a14, a15)) :
    wpX_openSpills post (pc, bs, md, fa, og, lw, hg, rd, bf, mp, nI c, se, oe, a1, a2, a3, a4, a5, a6, a7, a8, a9, a10, a11, a12, a13, a14, a15) (nI q) := by
  refine pk_loop (σ := (Nat → Int32) × (Nat → Int32)) (fun f s t => wX_openSpills_2 post (nI q) pc bs md fa og lw hg rd bf mp (nI c) se oe f (nI s) a1 a2 a3 a4 a5 a6 a7 a8 a9 a10 t.1 t.2 a13 a14 a15)
    (fun s t => ∀ u, u < s → t.1 u = nI (Hh u) ∧ t.2 u = nI (Ee u)) c 0 (a11, a12) (by omega) (fun u hu => absurd hu (by omega)) ?_ ?_
  · rintro f ⟨b11, b12⟩ e1
    exact pk_le c c (fun _ => H b11 b12 e1) (fun z => absurd z (by omega))
  · rintro f s ⟨b11, b12⟩ hs e1 hw
    dsimp only at e1 ⊢
    obtain ⟨g1, g2, g3, g4⟩ := h s hs
    have ix : (5 : Int32) * nI s + nI q + 1 = nI (5 * s + q + 1) := by rw [mr_ix5, nI_1]
    refine pk_le c s (fun z => absurd z (by omega)) (fun _ => ⟨pk_in (5 * s + q) 160 (by omega) (mr_ix5 s q), pk_in s 32 (by omega), nm_r (e' := upd b11 s (nI (Hh s))) ?_ ⟨pk_in (5 * s + q + 1) 160 (by omega) ix, pk_in s 32 (by omega), nm_r (e' := upd b12 s (nI (Ee s))) ?_ (nm_r (nI_1 s) (hw (upd b11 s (nI (Hh s)), upd b12 s (nI (Ee s))) (fun u hu => ?_)))⟩⟩)
    · rw [mr_ix5, nI_clamp (show 5 * s + q < 2 ^ 31 by omega), g1, mr_nb (by omega), nI_clamp (by omega)]
    · rw [ix, nI_clamp (show 5 * s + q + 1 < 2 ^ 31 by omega), g2, mr_nb (by omega), nI_clamp (by omega)]
    · show upd b11 s (nI (Hh s)) u = nI (Hh u) ∧ upd b12 s (nI (Ee s)) u = nI (Ee u)
      by_cases eu : u = s
      · rw [eu]; exact ⟨pk_us, pk_us⟩
      · rw [pk_un eu, pk_un eu]; exact e1 u (by omega)
theorem mr_least0 {post : Int32 → Prop} {c : Nat} (hc : c < 31) (h : ∀ s, s < c → ¬ a11 s = a12 s → vp_in (a11 s) 64) (H : post (mr_ls a8 a11 a12 c)) : wpX_leastHead post (pc, bs, md, fa, og, lw, hg, rd, bf, mp, nI c, se, oe, a1, a2, a3, a4, a5, a6, a7, a8, a9, a10, a11, a12, a13, a14, a15) := by
  refine pk_loop (σ := Unit) (fun f s _ => wX_leastHead_4 post pc bs md fa og lw hg rd bf mp (nI c) se oe a1 a2 a3 a4 a5 a6 a7 a8 a9 a10 a11 a12 a13 a14 a15 f (mr_ls a8 a11 a12 s) (nI s)) (fun _ _ => True) c 0 () (by omega) trivial ?_ ?_
  · intro f _ _
    exact pk_le c c (fun _ => H) (fun z => absurd z (by omega))
  · intro f s _ hs _ hw
    have hw' : wX_leastHead_4 post pc bs md fa og lw hg rd bf mp (nI c) se oe a1 a2 a3 a4 a5 a6 a7 a8 a9 a10 a11 a12 a13 a14 a15 f (mr_ls a8 a11 a12 (s + 1)) (nI (s + 1)) := hw () trivial
    have e : mr_ls a8 a11 a12 (s + 1) = if a11 s = a12 s then mr_ls a8 a11 a12 s else if mr_ls a8 a11 a12 s < 0 then a8 (a11 s).toNatClampNeg else if mr_ls a8 a11 a12 s ≤ a8 (a11 s).toNatClampNeg then mr_ls a8 a11 a12 s else a8 (a11 s).toNatClampNeg := rfl
    rw [e] at hw'
    refine pk_le c s (fun z => absurd z (by omega)) (fun _ => ⟨pk_in s 32 (by omega), pk_in s 32 (by omega), ?_⟩)
    rw [nI_clamp (show s < 2 ^ 31 by omega)]
    refine br_c (fun y => nm_r (nI_1 s) ?_) (fun y => ⟨pk_in s 32 (by omega), h s hs y, nm_e ?_⟩)
    · rw [if_pos y] at hw'; exact hw'
    · rw [if_neg y] at hw'
      refine br_c (fun y2 => nm_r (nI_1 s) ?_) (fun y2 => br_c (fun y3 => nm_r (nI_1 s) ?_) (fun y3 => nm_r (nI_1 s) ?_))
      · rw [if_pos y2] at hw'; exact hw'
      · rw [if_neg y2, if_pos y3] at hw'; exact hw'
      · rw [if_neg y2, if_neg y3] at hw'; exact hw'
theorem mr_least {post : Int32 → Prop} {c : Nat} {h E : Nat → Nat} (hc : c < 31) (hh : ∀ s, s < c → a11 s = nI (h s) ∧ a12 s = nI (E s) ∧ h s ≤ E s ∧ E s ≤ 64) (kk : ∀ s, s < c → h s < E s → a8 (h s) = nI 0 ∨ a8 (h s) = nI 1)
    (HA : (∀ s, s < c → h s = E s) → post (-1)) (H1 : (∃ s, s < c ∧ h s < E s) → (∀ s, s < c → h s < E s → a8 (h s) = nI 1) → post (nI 1)) (H0 : (∃ s, s < c ∧ h s < E s ∧ a8 (h s) = nI 0) → post (nI 0)) :
    wpX_leastHead post (pc, bs, md, fa, og, lw, hg, rd, bf, mp, nI c, se, oe, a1, a2, a3, a4, a5, a6, a7, a8, a9, a10, a11, a12, a13, a14, a15) := by
  refine mr_least0 hc (fun s hs y => ?_) ?_
  · obtain ⟨q1, q2, q3, q4⟩ := hh s hs
    rw [q1]
    refine vp_in_nI ?_ (by omega)
    rcases Nat.lt_or_ge (h s) (E s) with z | z
    · omega
    · exact absurd (by rw [q1, q2, show h s = E s by omega]) y
  · rcases mr_lsQ hh kk c (Nat.le_refl c) with ⟨i1, i2⟩ | ⟨i1, i2, i3⟩ | ⟨i1, i2⟩
    · rw [i1]; exact HA i2
    · rw [i1]; exact H1 i2 i3
    · rw [i1]; exact H0 i2
theorem mr_g29 {post : St2 → Prop} {J20 : Int32 → Int32 → Int32 → (Nat → Int32) → (Nat → Int32) → (Nat → Int32) → (Nat → Int32) → (Nat → Int32) → (Nat → Int32) → (Nat → Int32) → (Nat → Int32) → (Nat → Int32) → (Nat → Int32) → (Nat → Int32) → (Nat → Int32) → (Nat → Int32) → (Nat → Int32) → (Nat → Int32) → Prop} {key x2 x3 : Int32} {s l r L : Nat}
    (hs : s < 32) (h1 : l ≤ r) (h2 : r ≤ L) (h3 : L ≤ 64) (ha : a11 s = nI l) (hb : a12 s = nI L) (hk : ∀ x, l ≤ x → x < r → a8 x = key) (hn : r < L → ¬ a8 r = key)
    (H : ∀ a11' : Nat → Int32, (∀ u, u ≠ s → a11' u = a11 u) → a11' s = nI r → J20 (mr_rg rd a9 l (r - l) (x2, x3)).1 (mr_rg rd a9 l (r - l) (x2, x3)).2 (nI (s + 1)) a1 a2 a3 a4 a5 a6 a7 a8 a9 a10 a11' a12 a13 a14 a15) :
    ∃ f, wX_reduceGroup_29 post J20 key (nI s) pc bs md fa og lw hg rd bf mp sc se oe f x2 x3 a1 a2 a3 a4 a5 a6 a7 a8 a9 a10 a11 a12 a13 a14 a15 := by
  have hc : (nI s).toNatClampNeg = s := nI_clamp (by omega)
  refine pk_loop (σ := Nat → Int32) (fun f i t => wX_reduceGroup_29 post J20 key (nI s) pc bs md fa og lw hg rd bf mp sc se oe f (mr_rg rd a9 l i (x2, x3)).1 (mr_rg rd a9 l i (x2, x3)).2 a1 a2 a3 a4 a5 a6 a7 a8 a9 a10 t a12 a13 a14 a15)
    (fun i t => (∀ u, u ≠ s → t u = a11 u) ∧ t s = nI (l + i)) (r - l) 0 a11 (by omega) ⟨fun _ _ => rfl, ha⟩ ?_ ?_
  · rintro f t ⟨e1, e2⟩
    have e2' : t s = nI r := by rw [e2, show l + (r - l) = r by omega]
    refine ⟨pk_in s 32 hs, pk_in s 32 hs, ?_⟩
    rw [hc, hb, e2', nI_clamp (show r < 2 ^ 31 by omega)]
    refine pk_le L r (fun _ => nm_r (nI_1 s) (H t e1 e2')) (fun z => ⟨pk_in s 32 hs, pk_in r 64 (by omega), br_f (hn z) (nm_r (nI_1 s) (H t e1 e2'))⟩)
  · rintro f i t hi ⟨e1, e2⟩ hw
    have hw' : ∀ t', t' = upd t s (nI (l + i + 1)) → wX_reduceGroup_29 post J20 key (nI s) pc bs md fa og lw hg rd bf mp sc se oe f (mr_st rd (mr_rg rd a9 l i (x2, x3)) (a9 (l + i))).1 1 a1 a2 a3 a4 a5 a6 a7 a8 a9 a10 t' a12 a13 a14 a15 := by
      intro t' ht'
      refine hw t' ⟨fun u hu => ?_, ?_⟩
      · rw [ht', pk_un hu]; exact e1 u hu
      · rw [ht']; exact pk_us
    have st : ∀ v, v = (mr_st rd (mr_rg rd a9 l i (x2, x3)) (a9 (l + i))).1 → wX_reduceGroup_112 post J20 (wX_reduceGroup_29 post J20 key (nI s) pc bs md fa og lw hg rd bf mp sc se oe f) key v (nI s) pc bs md fa og lw hg rd bf mp sc se oe a1 a2 a3 a4 a5 a6 a7 a8 a9 a10 t a12 a13 a14 a15 := by
      intro v hv
      rw [hv]
      refine ⟨pk_in s 32 hs, pk_in s 32 hs, fun t' ht' => hw' t' ?_⟩
      rw [ht', hc, e2, nI_1, mr_b8 _ (by omega)]
    have e3 : (mr_st rd (mr_rg rd a9 l i (x2, x3)) (a9 (l + i))).1 = if rd = 4 then 31 * (mr_rg rd a9 l i (x2, x3)).1 + a9 (l + i) else if (mr_rg rd a9 l i (x2, x3)).2 = 0 then a9 (l + i) else mr_cmb rd (mr_rg rd a9 l i (x2, x3)).1 (a9 (l + i)) := rfl
    refine ⟨pk_in s 32 hs, pk_in s 32 hs, ?_⟩
    rw [hc, hb, e2, nI_clamp (show l + i < 2 ^ 31 by omega)]
    refine pk_le L (l + i) (fun z => absurd z (by omega)) (fun z => ⟨pk_in s 32 hs, pk_in (l + i) 64 (by omega), br_t (hk _ (by omega) (by omega)) ⟨pk_in s 32 hs, pk_in (l + i) 64 (by omega), nm_e ?_⟩⟩)
    refine br_c (fun h4 => nm_e (st _ ?_)) (fun h4 => br_c (fun h0 => st _ ?_) (fun h0 => mr_comb (st _ ?_)))
    · rw [e3, if_pos h4]
    · rw [e3, if_neg h4, if_pos h0]
    · rw [e3, if_neg h4, if_neg h0]
theorem mr_group {post : St2 → Prop} {c o k : Nat} {l r L : Nat → Nat} (hc : c < 31) (ho : o < 16) (hk1 : k ≤ 1)
    (hh : ∀ s, s < c → a11 s = nI (l s) ∧ a12 s = nI (L s) ∧ l s ≤ r s ∧ r s ≤ L s ∧ L s ≤ 64) (hk : ∀ s, s < c → ∀ x, l s ≤ x → x < r s → a8 x = nI k) (hn : ∀ s, s < c → r s < L s → ¬ a8 (r s) = nI k)
    (H : ∀ a11' : Nat → Int32, (∀ s, s < c → a11' s = nI (r s)) → post (pc, bs, md, fa, og, lw, hg, rd, bf, mp, nI c, se, nI (o + 1), a1, a2, a3, a4, a5, a6, a7, a8, a9, a10, a11', a12, a13, upd a14 o (nI k), upd a15 o (mr_tf rd a9 l r c (mr_in rd)).1)) :
    wpX_reduceGroup post (pc, bs, md, fa, og, lw, hg, rd, bf, mp, nI c, se, nI o, a1, a2, a3, a4, a5, a6, a7, a8, a9, a10, a11, a12, a13, a14, a15) (nI k) := by
  have main : ∀ x2 x3 : Int32, (x2, x3) = mr_in rd → ∃ f, wX_reduceGroup_20 post (nI k) pc bs md fa og lw hg rd bf mp (nI c) se (nI o) f x2 x3 0 a1 a2 a3 a4 a5 a6 a7 a8 a9 a10 a11 a12 a13 a14 a15 := by
    intro x2 x3 hx
    rw [← hx] at H
    refine pk_loop (σ := Nat → Int32) (fun f s t => wX_reduceGroup_20 post (nI k) pc bs md fa og lw hg rd bf mp (nI c) se (nI o) f (mr_tf rd a9 l r s (x2, x3)).1 (mr_tf rd a9 l r s (x2, x3)).2 (nI s) a1 a2 a3 a4 a5 a6 a7 a8 a9 a10 t a12 a13 a14 a15)
      (fun s t => (∀ u, u < s → t u = nI (r u)) ∧ (∀ u, s ≤ u → t u = a11 u)) c 0 a11 (by omega) ⟨fun u hu => absurd hu (by omega), fun _ _ => rfl⟩ ?_ ?_
    · rintro f t ⟨e1, e2⟩
      have hoc : (nI o).toNatClampNeg = o := nI_clamp (by omega)
      exact pk_le c c (fun _ => ⟨pk_in o 16 ho, nm_r (e' := upd a14 o (nI k)) (by rw [hoc, mr_b8 _ (by omega)]) ⟨pk_in o 16 ho, nm_r (e' := upd a15 o (mr_tf rd a9 l r c (x2, x3)).1) (by rw [hoc]) (nm_r (nI_1 o) (H t e1))⟩⟩) (fun z => absurd z (by omega))
    · rintro f s t hs ⟨e1, e2⟩ hw
      obtain ⟨q1, q2, q3, q4, q5⟩ := hh s hs
      refine pk_le c s (fun z => absurd z (by omega)) (fun _ => ?_)
      refine mr_g29 (l := l s) (r := r s) (L := L s) (by omega) q3 q4 q5 (by rw [e2 s (Nat.le_refl s)]; exact q1) q2 (hk s hs) (hn s hs) (fun t' g1 g2 => ?_)
      refine hw t' ⟨fun u hu => ?_, fun u hu => ?_⟩
      · by_cases eu : u = s
        · rw [eu]; exact g2
        · rw [g1 u eu]; exact e1 u (by omega)
      · rw [g1 u (by omega)]; exact e2 u (by omega)
  refine br_c (fun h4 => main 7 0 ?_) (fun h4 => main 0 0 ?_)
  · unfold mr_in; rw [if_pos h4]
  · unfold mr_in; rw [if_neg h4]
/-- a part: the zeros of spill s lie at [h s, m s), its ones at [m s, E s) -/
theorem mr_part {post : St2 → Prop} {c o q z1 o1 : Nat} {h m E : Nat → Nat} (hc : c < 31) (ho : o + 2 ≤ 16) (hq : q < 4) (h5 : a5 q = 0)
    (ha : ∀ s, s < c → a10 (5 * s + q) = nI (h s) ∧ a10 (5 * s + q + 1) = nI (E s) ∧ h s ≤ m s ∧ m s ≤ E s ∧ E s ≤ 64)
    (k0 : ∀ s, s < c → ∀ x, h s ≤ x → x < m s → a8 x = nI 0) (k1 : ∀ s, s < c → ∀ x, m s ≤ x → x < E s → a8 x = nI 1)
    (hz : z1 ≤ 1) (hz' : (∃ s, s < c ∧ h s < m s) ↔ z1 = 1) (ho1 : o1 ≤ 1) (ho' : (∃ s, s < c ∧ m s < E s) ↔ o1 = 1)
    (H : ∀ a11' a12' a14' a15' : Nat → Int32, (z1 = 1 → a14' o = nI 0 ∧ a15' o = (mr_tf rd a9 h m c (mr_in rd)).1) → (o1 = 1 → a14' (o + z1) = nI 1 ∧ a15' (o + z1) = (mr_tf rd a9 m E c (mr_in rd)).1) → (∀ x, x < o → a14' x = a14 x ∧ a15' x = a15 x) →
      post (pc, bs, md, fa, og, lw, hg, rd, bf, mp, nI c, se, nI (o + z1 + o1), a1, a2, a3, a4, a5, a6, a7, a8, a9, a10, a11', a12', a13, a14', a15')) :
    wpX_reducePart post (pc, bs, md, fa, og, lw, hg, rd, bf, mp, nI c, se, nI o, a1, a2, a3, a4, a5, a6, a7, a8, a9, a10, a11, a12, a13, a14, a15) (nI q) := by
  have n10 : ¬ nI 1 = nI 0 := by decide
  have n01 : ¬ nI 0 = nI 1 := by decide
  refine ⟨pk_in q 4 hq, nm_r (e' := nI 0) (by rw [nI_clamp (by omega)]; exact h5) ⟨2, pk_lt 0 0 (fun z => absurd z (by omega)) (fun _ => ?_)⟩⟩
  refine mr_open (Hh := h) (Ee := E) hc hq (fun s hs => ?_) (fun b11 b12 hb => ?_)
  · obtain ⟨g1, g2, g3, g4, g5⟩ := ha s hs
    exact ⟨g1, g2, by omega, g5⟩
  refine mr_least (h := h) (E := E) hc (fun s hs => ?_) (fun s hs hlt => ?_) (fun all => ?_) (fun ex one => ?_) (fun ex => ?_)
  · obtain ⟨g1, g2, g3, g4, g5⟩ := ha s hs
    exact ⟨(hb s hs).1, (hb s hs).2, by omega, g5⟩
  · obtain ⟨g1, g2, g3, g4, g5⟩ := ha s hs
    rcases Nat.lt_or_ge (h s) (m s) with z | z
    · exact Or.inl (k0 s hs _ (Nat.le_refl _) z)
    · exact Or.inr (k1 s hs _ z hlt)
  · -- nothing in this part
    have ez : z1 = 0 := by
      rcases (show z1 = 0 ∨ z1 = 1 by omega) with z | z
      · exact z
      · obtain ⟨s, hs, hlt⟩ := hz'.mpr z
        have := all s hs
        have := ha s hs
        omega
    have eo : o1 = 0 := by
      rcases (show o1 = 0 ∨ o1 = 1 by omega) with z | z
      · exact z
      · obtain ⟨s, hs, hlt⟩ := ho'.mpr z
        have := all s hs
        have := ha s hs
        omega
    have H' := H b11 b12 a14 a15 (fun z => absurd z (by omega)) (fun z => absurd z (by omega)) (fun _ _ => ⟨rfl, rfl⟩)
    rw [ez, eo] at H'
    exact ⟨1, br_t (by decide) (nm_r (e' := -1) rfl (br_t (by decide) H'))⟩
  · -- ones alone
    have hm : ∀ s, s < c → h s = m s := by
      intro s hs
      obtain ⟨g1, g2, g3, g4, g5⟩ := ha s hs
      rcases Nat.lt_or_ge (h s) (m s) with z | z
      · exact absurd ((k0 s hs _ (Nat.le_refl _) z).symm.trans (one s hs (by omega))) n01
      · omega
    have ez : z1 = 0 := by
      rcases (show z1 = 0 ∨ z1 = 1 by omega) with z | z
      · exact z
      · obtain ⟨s, hs, hlt⟩ := hz'.mpr z
        have := hm s hs
        omega
    have eo : o1 = 1 := by
      obtain ⟨s, hs, hlt⟩ := ex
      exact ho'.mp ⟨s, hs, by rw [← hm s hs]; exact hlt⟩
    refine ⟨3, pk_lt 1 0 (fun z => absurd z (by omega)) (fun _ => br_f (by decide) ?_)⟩
    refine mr_group (k := 1) (l := h) (r := E) (L := E) hc (by omega) (by omega) (fun s hs => ?_) (fun s hs x x1 x2 => k1 s hs x (by rw [← hm s hs]; exact x1) x2) (fun s hs z => absurd z (by omega)) (fun b11' hb' => br_t rfl ?_)
    · obtain ⟨g1, g2, g3, g4, g5⟩ := ha s hs
      exact ⟨(hb s hs).1, (hb s hs).2, by omega, Nat.le_refl _, g5⟩
    refine mr_least (h := E) (E := E) hc (fun s hs => ⟨hb' s hs, (hb s hs).2, Nat.le_refl _, (ha s hs).2.2.2.2⟩) (fun s hs z => absurd z (by omega)) (fun _ => ?_) (fun ⟨s, _, z⟩ _ => absurd z (by omega)) (fun ⟨s, _, z, _⟩ => absurd z (by omega))
    have H' := H b11' b12 (upd a14 o (nI 1)) (upd a15 o (mr_tf rd a9 h E c (mr_in rd)).1) (fun z => absurd z (by omega)) (fun _ => ⟨by rw [ez]; exact pk_us, by rw [ez, Nat.add_zero, pk_us]; exact congrArg Prod.fst (mr_tf_c _ _ (fun s hs => ⟨hm s hs, rfl, fun _ _ _ => rfl⟩))⟩) (fun x hx => ⟨pk_un (by omega), pk_un (by omega)⟩)
    rw [ez, eo] at H'
    exact br_t (by decide) (nm_r (e' := -1) rfl (br_t (by decide) H'))
  · -- zeros, then perhaps ones
    have ez : z1 = 1 := by
      obtain ⟨s, hs, hlt, e0⟩ := ex
      refine hz'.mp ⟨s, hs, ?_⟩
      rcases Nat.lt_or_ge (h s) (m s) with z | z
      · exact z
      · exact absurd (e0.symm.trans (k1 s hs _ z hlt)) n01
    refine ⟨3, pk_lt 0 0 (fun z => absurd z (by omega)) (fun _ => br_f (by decide) ?_)⟩
    refine mr_group (k := 0) (l := h) (r := m) (L := E) hc (by omega) (by omega) (fun s hs => ?_) (fun s hs x x1 x2 => k0 s hs x x1 x2) (fun s hs z y => n10 ((k1 s hs _ (Nat.le_refl _) z).symm.trans y)) (fun b11' hb' => br_t rfl ?_)
    · obtain ⟨g1, g2, g3, g4, g5⟩ := ha s hs
      exact ⟨(hb s hs).1, (hb s hs).2, g3, g4, g5⟩
    refine mr_least (h := m) (E := E) hc (fun s hs => ⟨hb' s hs, (hb s hs).2, (ha s hs).2.2.2.1, (ha s hs).2.2.2.2⟩) (fun s hs z => Or.inr (k1 s hs _ (Nat.le_refl _) z)) (fun all => ?_) (fun ex2 one => ?_) (fun ⟨s, hs, z, y⟩ => absurd ((k1 s hs _ (Nat.le_refl _) z).symm.trans y) n10)
    · have eo : o1 = 0 := by
        rcases (show o1 = 0 ∨ o1 = 1 by omega) with z | z
        · exact z
        · obtain ⟨s, hs, hlt⟩ := ho'.mpr z
          have := all s hs
          omega
      have H' := H b11' b12 (upd a14 o (nI 0)) (upd a15 o (mr_tf rd a9 h m c (mr_in rd)).1) (fun _ => ⟨pk_us, pk_us⟩) (fun z => absurd z (by omega)) (fun x hx => ⟨pk_un (by omega), pk_un (by omega)⟩)
      rw [ez, eo] at H'
      exact br_t (by decide) (nm_r (e' := -1) rfl (br_t (by decide) H'))
    · have eo : o1 = 1 := ho'.mp ex2
      refine pk_lt 1 0 (fun z => absurd z (by omega)) (fun _ => br_f (by decide) ?_)
      refine mr_group (k := 1) (l := m) (r := E) (L := E) hc (by omega) (by omega) (fun s hs => ?_) (fun s hs x x1 x2 => k1 s hs x x1 x2) (fun s hs z => absurd z (by omega)) (fun b11'' hb'' => br_t rfl ?_)
      · obtain ⟨g1, g2, g3, g4, g5⟩ := ha s hs
        exact ⟨hb' s hs, (hb s hs).2, g4, Nat.le_refl _, g5⟩
      refine mr_least (h := E) (E := E) hc (fun s hs => ⟨hb'' s hs, (hb s hs).2, Nat.le_refl _, (ha s hs).2.2.2.2⟩) (fun s hs z => absurd z (by omega)) (fun _ => ?_) (fun ⟨s, _, z⟩ _ => absurd z (by omega)) (fun ⟨s, _, z, _⟩ => absurd z (by omega))
      have H' := H b11'' b12 (upd (upd a14 o (nI 0)) (o + 1) (nI 1)) (upd (upd a15 o (mr_tf rd a9 h m c (mr_in rd)).1) (o + 1) (mr_tf rd a9 m E c (mr_in rd)).1) (fun _ => ⟨by rw [pk_un (by omega), pk_us], by rw [pk_un (by omega), pk_us]⟩) (fun _ => ⟨by rw [ez]; exact pk_us, by rw [ez]; exact pk_us⟩) (fun x hx => ⟨by rw [pk_un (by omega), pk_un (by omega)], by rw [pk_un (by omega), pk_un (by omega)]⟩)
      rw [ez, eo] at H'
      exact br_t (by decide) (nm_r (e' := -1) rfl (br_t (by decide) H'))
end
end
section
/-- the output: z for 'key 0 is there', o for 'key 1 is there', with their values -/
def mr_out (p z o : Nat) (v0 v1 : Int32) (a13 a14 a15 : Nat → Int32) : Prop :=
  a13 0 = nI 0 ∧ a13 1 = nI (if p = 1 then z + o else z) ∧ (∀ q, 2 ≤ q → q ≤ 4 → a13 q = nI (z + o)) ∧ (z = 1 → a14 0 = nI 0 ∧ a15 0 = v0) ∧ (o = 1 → a14 z = nI 1 ∧ a15 z = v1)
def mr_sum (cnt : Nat → Nat) : Nat → Nat
  | 0 => 0
  | q + 1 => mr_sum cnt q + cnt q
section
variable {pc bs md fa og lw hg rd bf mp sc se oe : Int32} {a1 a2 a3 a4 a5 a6 a7 a8 a9 a10 a11 a12 a13 a14 a15 : Nat → Int32}
theorem mr_fail {post : Int32 → Prop} (h4 : ∀ j, j < 4 → a4 j = 0) (h5 : ∀ j, j < 4 → a5 j = 0) (H : post 0) : wpX_failuresToCome post (pc, bs, md, fa, og, lw, hg, rd, bf, mp, sc, se, oe, a1, a2, a3, a4, a5, a6, a7, a8, a9, a10, a11, a12, a13, a14, a15) :=
  pk_loop (σ := Unit) (fun f i _ => wX_failuresToCome_4 post pc bs md fa og lw hg rd bf mp sc se oe a1 a2 a3 a4 a5 a6 a7 a8 a9 a10 a11 a12 a13 a14 a15 f 0 (nI i)) (fun _ _ => True) 4 0 () (by omega) trivial
    (fun f _ _ => pk_le 4 4 (fun _ => H) (fun z => absurd z (by omega)))
    (fun f i _ hi _ hw => pk_le 4 i (fun z => absurd z (by omega)) (fun _ => ⟨pk_in i 4 hi, pk_in i 4 hi, nm_r (e' := 0) (by rw [nI_clamp (by omega), h4 i hi, h5 i hi]; rfl) (nm_r (nI_1 i) (hw () trivial))⟩))
theorem mr_r71 {post : Int32 → St2 → Prop} {p c z o : Nat} {b m : Nat → Nat} {T0 T1 : List Int32} (hp : 1 ≤ p) (hp4 : p ≤ 4) (hc : c ≤ 4) (I : mr_inv p rd c b m a8 a9 a10 T0 T1)
    (h4 : ∀ j, j < 4 → a4 j = 0) (h5 : ∀ j, j < 4 → a5 j = 0) (hz : z ≤ 1) (hz' : T0 ≠ [] ↔ z = 1) (ho : o ≤ 1) (ho' : T1 ≠ [] ↔ o = 1)
    (H : ∀ a4' a5' a11' a12' a13' a14' a15' : Nat → Int32, (∀ j, j < 4 → a4' j = 0) → (∀ j, j < 4 → a5' j = 0) → mr_out p z o (mr_fd rd T0 (mr_in rd)).1 (mr_fd rd T1 (mr_in rd)).1 a13' a14' a15' →
      post (nI (z + o)) (nI p, bs, md, fa, og, lw, hg, rd, bf, mp, nI c, se, nI (z + o), a1, a2, a3, a4', a5', a6, a7, a8, a9, a10, a11', a12', a13', a14', a15')) :
    ∃ f, wX_run_71 post 0 f 0 (nI p) bs md fa og lw hg rd bf mp (nI c) se 0 a1 a2 a3 a4 a5 a6 a7 a8 a9 a10 a11 a12 a13 a14 a15 := by
  obtain ⟨i1, i2, i3, i4, i5, i6, i7, i8⟩ := I
  obtain ⟨v0, hv0⟩ : ∃ v0, v0 = (mr_fd rd T0 (mr_in rd)).1 := ⟨_, rfl⟩
  obtain ⟨v1, hv1⟩ : ∃ v1, v1 = (mr_fd rd T1 (mr_in rd)).1 := ⟨_, rfl⟩
  have F0 : (mr_tf rd a9 b m c (mr_in rd)).1 = v0 := by rw [i5, hv0]
  have F1 : (mr_tf rd a9 m (fun s => b (s + 1)) c (mr_in rd)).1 = v1 := by rw [i6, hv1]
  rw [← hv0, ← hv1] at H
  obtain ⟨os, hos⟩ : ∃ os : Nat → Nat, os = fun q => if q = 0 then 0 else if q = 1 then (if p = 1 then z + o else z) else z + o := ⟨_, rfl⟩
  have O0 : os 0 = 0 := by rw [hos]; rfl
  have O1 : os 1 = if p = 1 then z + o else z := by rw [hos]; rfl
  have O2 : ∀ q, 2 ≤ q → os q = z + o := fun q hq => by rw [hos]; show (if q = 0 then 0 else if q = 1 then (if p = 1 then z + o else z) else z + o) = _; rw [if_neg (by omega), if_neg (by omega)]
  have O1' : (p = 1 ∧ os 1 = z + o) ∨ (2 ≤ p ∧ os 1 = z) := by
    by_cases e1 : p = 1
    · rw [if_pos e1] at O1; exact Or.inl ⟨e1, O1⟩
    · rw [if_neg e1] at O1; exact Or.inr ⟨by omega, O1⟩
  have Ob : ∀ q, os q ≤ 2 := by
    intro q
    rcases (show q = 0 ∨ q = 1 ∨ 2 ≤ q by omega) with y | y | y
    · rw [y, O0]; omega
    · rw [y]; omega
    · rw [O2 q y]; omega
  have bB : ∀ s, s < c → b (s + 1) ≤ 64 := fun s hs => by have := i2 (s + 1) (by omega); omega
  refine Exists.elim (pk_loop (σ := (Nat → Int32) × (Nat → Int32) × (Nat → Int32) × (Nat → Int32) × (Nat → Int32) × (Nat → Int32) × (Nat → Int32))
    (fun f q t => wX_run_71 post 0 f (nI q) (nI p) bs md fa og lw hg rd bf mp (nI c) se (nI (os q)) a1 a2 a3 t.1 t.2.1 a6 a7 a8 a9 a10 t.2.2.1 t.2.2.2.1 t.2.2.2.2.1 t.2.2.2.2.2.1 t.2.2.2.2.2.2)
    (fun q t => (∀ j, j < 4 → t.1 j = 0) ∧ (∀ j, j < 4 → t.2.1 j = 0) ∧ (∀ s, s < q → t.2.2.2.2.1 s = nI (os s)) ∧ (z = 1 → 1 ≤ q → t.2.2.2.2.2.1 0 = nI 0 ∧ t.2.2.2.2.2.2 0 = v0) ∧ (o = 1 → ((1 ≤ q ∧ p = 1) ∨ 2 ≤ q) → t.2.2.2.2.2.1 z = nI 1 ∧ t.2.2.2.2.2.2 z = v1))
    4 0 (a4, a5, a11, a12, a13, a14, a15) (by omega) ⟨h4, h5, fun s hs => absurd hs (by omega), fun _ y => absurd y (by omega), fun _ y => absurd y (by omega)⟩ ?_ ?_) (fun f hf => ?_)
  rotate_left 2
  · have hf' : wX_run_71 post 0 f (nI 0) (nI p) bs md fa og lw hg rd bf mp (nI c) se (nI (os 0)) a1 a2 a3 a4 a5 a6 a7 a8 a9 a10 a11 a12 a13 a14 a15 := hf
    rw [O0] at hf'
    exact ⟨f, hf'⟩
  · rintro f ⟨b4, b5, b11, b12, b13, b14, b15⟩ ⟨e1, e2, e3, e4, e5⟩
    dsimp only at e1 e2 e3 e4 e5 ⊢
    rw [O2 4 (by omega)]
    refine pk_le 4 4 (fun _ => nm_r (e' := upd b13 4 (nI (z + o))) (by rw [mr_b8 _ (by omega)]) (br_t rfl ?_)) (fun y => absurd y (by omega))
    refine H b4 b5 b11 b12 _ b14 b15 e1 e2 ⟨?_, ?_, fun q q1 q2 => ?_, fun y => e4 y (by omega), fun y => e5 y (Or.inr (by omega))⟩
    · rw [pk_un (by omega), e3 0 (by omega), O0]
    · rw [pk_un (by omega), e3 1 (by omega), O1]
    · by_cases eq : q = 4
      · rw [eq, pk_us]
      · rw [pk_un eq, e3 q (by omega), O2 q q1]
  · rintro f q ⟨b4, b5, b11, b12, b13, b14, b15⟩ hq ⟨e1, e2, e3, e4, e5⟩ hw
    dsimp only at e1 e2 e3 e4 e5 ⊢
    have hqc : (nI q).toNatClampNeg = q := nI_clamp (by omega)
    have oq := Ob q
    have fin : ∀ b11' b12' b14' b15' : Nat → Int32, (z = 1 → b14' 0 = nI 0 ∧ b15' 0 = v0) → (o = 1 → (p = 1 ∨ 1 ≤ q) → b14' z = nI 1 ∧ b15' z = v1) →
        wX_run_104 post (wX_run_71 post 0 f) 0 (nI q) (nI p) bs md fa og lw hg rd bf mp (nI c) se (nI (os (q + 1))) a1 a2 a3 b4 b5 a6 a7 a8 a9 a10 b11' b12' (upd b13 q (nI (os q))) b14' b15' := by
      intro b11' b12' b14' b15' y0 y1
      refine ⟨pk_in q 4 hq, nm_r (e' := upd b4 q 0) (by rw [hqc]) ⟨pk_in q 4 hq, nm_r (e' := upd b5 q 0) (by rw [hqc]) (nm_r (nI_1 q) ?_)⟩⟩
      refine hw (upd b4 q 0, upd b5 q 0, b11', b12', upd b13 q (nI (os q)), b14', b15') ⟨fun j hj => ?_, fun j hj => ?_, fun s hs => ?_, fun y _ => y0 y, fun y x => y1 y (by omega)⟩
      · show upd b4 q 0 j = 0
        by_cases ej : j = q
        · rw [ej, pk_us]
        · rw [pk_un ej]; exact e1 j hj
      · show upd b5 q 0 j = 0
        by_cases ej : j = q
        · rw [ej, pk_us]
        · rw [pk_un ej]; exact e2 j hj
      · show upd b13 q (nI (os q)) s = nI (os s)
        by_cases es : s = q
        · rw [es, pk_us]
        · rw [pk_un es]; exact e3 s (by omega)
    refine pk_le 4 q (fun y => absurd y (by omega)) (fun _ => ⟨pk_in q 5 (by omega), nm_r (e' := upd b13 q (nI (os q))) (by rw [hqc, mr_b8 _ (by omega)]) (br_t rfl ?_)⟩)
    refine pk_le p q (fun hpq => ?_) (fun hpq => ?_)
    · -- no such part
      have eo : os q = os (q + 1) := by
        rw [O2 (q + 1) (by omega)]
        rcases (show q = 1 ∨ 2 ≤ q by omega) with y | y
        · rw [y]; omega
        · exact O2 q y
      rw [eo]
      rw [eo] at fin
      exact fin b11 b12 b14 b15 (fun y => e4 y (by omega)) (fun y _ => e5 y (by omega))
    · rcases (show q = 0 ∨ q = 1 ∨ 2 ≤ q by omega) with y | y | y
      · subst y
        rcases O1' with ⟨p1, o1⟩ | ⟨p1, o1⟩
        · refine mr_part (o := os 0) (z1 := z) (o1 := o) (h := b) (m := m) (E := fun s => b (s + 1)) (by omega) (by omega) hq (e2 0 (by omega)) (fun s hs => ?_) (fun s hs => (i4 s hs).1) (fun s hs => (i4 s hs).2) hz (i7.trans hz') ho (i8.trans ho') (fun b11' b12' b14' b15' g1 g2 _ => ?_)
          · obtain ⟨t1, t2, t3, t4, t5⟩ := i3 s hs
            rw [if_pos p1] at t2
            exact ⟨t1, t2, (i1 s hs).1, (i1 s hs).2, bB s hs⟩
          · rw [F0] at g1
            rw [F1] at g2
            rw [O0, Nat.zero_add] at g2
            rw [O0] at g1
            rw [show os 0 + z + o = os (0 + 1) by rw [O0]; show 0 + z + o = os 1; omega]
            exact fin b11' b12' b14' b15' g1 (fun y _ => g2 y)
        · refine mr_part (o := os 0) (z1 := z) (o1 := 0) (h := b) (m := m) (E := m) (by omega) (by omega) hq (e2 0 (by omega)) (fun s hs => ?_) (fun s hs => (i4 s hs).1) (fun s hs x x1 x2 => absurd x2 (by omega)) hz (i7.trans hz') (by omega) ⟨fun ⟨s, _, y⟩ => absurd y (by omega), fun y => absurd y (by omega)⟩ (fun b11' b12' b14' b15' g1 g2 _ => ?_)
          · obtain ⟨t1, t2, t3, t4, t5⟩ := i3 s hs
            rw [if_neg (by omega)] at t2
            have := bB s hs
            have := i1 s hs
            exact ⟨t1, t2, by omega, by omega, by omega⟩
          · rw [F0, O0] at g1
            rw [show os 0 + z + 0 = os (0 + 1) by rw [O0]; show 0 + z + 0 = os 1; omega]
            exact fin b11' b12' b14' b15' g1 (fun y x => absurd x (by omega))
      · subst y
        have o1 : os 1 = z := by omega
        refine mr_part (o := os 1) (z1 := 0) (o1 := o) (h := m) (m := m) (E := fun s => b (s + 1)) (by omega) (by omega) hq (e2 1 (by omega)) (fun s hs => ?_) (fun s hs x x1 x2 => absurd x2 (by omega)) (fun s hs => (i4 s hs).2) (by omega) ⟨fun ⟨s, _, y⟩ => absurd y (by omega), fun y => absurd y (by omega)⟩ ho (i8.trans ho') (fun b11' b12' b14' b15' g1 g2 g3 => ?_)
        · obtain ⟨t1, t2, t3, t4, t5⟩ := i3 s hs
          rw [if_neg (by omega)] at t2
          have := bB s hs
          have := i1 s hs
          exact ⟨t2, t3, by omega, by omega, by omega⟩
        · rw [F1, Nat.add_zero, o1] at g2
          rw [o1] at g3
          rw [show os 1 + 0 + o = os (1 + 1) by rw [O2 (1 + 1) (by omega)]; omega]
          exact fin b11' b12' b14' b15' (fun y => by rw [(g3 0 (by omega)).1, (g3 0 (by omega)).2]; exact e4 y (by omega)) (fun y _ => g2 y)
      · have oq2 := O2 q y
        refine mr_part (o := os q) (z1 := 0) (o1 := 0) (h := fun s => b (s + 1)) (m := fun s => b (s + 1)) (E := fun s => b (s + 1)) (by omega) (by omega) hq (e2 q (by omega)) (fun s hs => ?_) (fun s hs x x1 x2 => absurd x2 (Nat.not_lt.mpr x1)) (fun s hs x x1 x2 => absurd x2 (Nat.not_lt.mpr x1)) (by omega) ⟨fun ⟨s, _, y⟩ => absurd y (Nat.lt_irrefl _), fun y => absurd y (by omega)⟩ (by omega) ⟨fun ⟨s, _, y⟩ => absurd y (Nat.lt_irrefl _), fun y => absurd y (by omega)⟩ (fun b11' b12' b14' b15' g1 g2 g3 => ?_)
        · obtain ⟨t1, t2, t3, t4, t5⟩ := i3 s hs
          rcases (show q = 2 ∨ q = 3 by omega) with y | y
          · rw [y]; exact ⟨t3, t4, Nat.le_refl _, Nat.le_refl _, bB s hs⟩
          · rw [y]; exact ⟨t4, t5, Nat.le_refl _, Nat.le_refl _, bB s hs⟩
        · rw [oq2] at g3
          rw [show os q + 0 + 0 = os (q + 1) by rw [O2 (q + 1) (by omega)]; omega]
          exact fin b11' b12' b14' b15' (fun y => by rw [(g3 0 (by omega)).1, (g3 0 (by omega)).2]; exact e4 y (by omega)) (fun y _ => by rw [(g3 z (by omega)).1, (g3 z (by omega)).2]; exact e5 y (by omega))
theorem mr_run {post : Int32 → St2 → Prop} {p B r z o : Nat} {K cnt : Nat → Nat} (hp : 1 ≤ p) (hp4 : p ≤ 4) (hB : 2 ≤ B) (hB8 : B ≤ 8) (hr : r < 5)
    (h4 : ∀ j, j < 4 → a4 j = 0) (h5 : ∀ j, j < 4 → a5 j = 0) (h1 : ∀ q, q < 4 → a1 q = nI (cnt q) ∧ cnt q ≤ 2) (h2 : ∀ q, q < 4 → ∀ j, j < cnt q → a2 (16 * q + j) = nI (K (16 * q + j)) ∧ K (16 * q + j) < 2 ^ 31)
    (hz : z ≤ 1) (hz' : mr_all 0 K (fun x => mr_w (nI r) fa og (a3 x)) cnt 4 ≠ [] ↔ z = 1) (ho : o ≤ 1) (ho' : mr_all 1 K (fun x => mr_w (nI r) fa og (a3 x)) cnt 4 ≠ [] ↔ o = 1)
    (H : ∀ (bf' sc' se' : Int32) (a4' a5' a6' a7' a8' a9' a10' a11' a12' a13' a14' a15' : Nat → Int32), (∀ j, j < 4 → a4' j = 0) → (∀ j, j < 4 → a5' j = 0) →
      mr_out p z o (mr_fd (nI r) (mr_all 0 K (fun x => mr_w (nI r) fa og (a3 x)) cnt 4) (mr_in (nI r))).1 (mr_fd (nI r) (mr_all 1 K (fun x => mr_w (nI r) fa og (a3 x)) cnt 4) (mr_in (nI r))).1 a13' a14' a15' →
      post (nI (z + o)) (nI p, nI B, 2, fa, og, -2147483648, 2147483647, nI r, bf', nI (mr_sum cnt 4), sc', se', nI (z + o), a1, a2, a3, a4', a5', a6', a7', a8', a9', a10', a11', a12', a13', a14', a15')) :
    wpX_run post (nI p, nI B, 2, fa, og, -2147483648, 2147483647, rd, bf, mp, sc, se, oe, a1, a2, a3, a4, a5, a6, a7, a8, a9, a10, a11, a12, a13, a14, a15) (nI r) := by
  refine pk_lt r 0 (fun y => absurd y (by omega)) (fun _ => pk_le r 4 (fun _ => mr_fail h4 h5 (br_t (by decide) ?_)) (fun y => absurd y (by omega)))
  refine pk_loop (σ := Int32 × Int32 × Int32 × (Nat → Int32) × (Nat → Int32) × (Nat → Int32) × (Nat → Int32) × (Nat → Int32))
    (fun f q t => wX_run_48 post 0 f (nI q) (nI p) (nI B) 2 fa og (-2147483648) 2147483647 (nI r) t.1 (nI (mr_sum cnt q)) t.2.1 t.2.2.1 oe a1 a2 a3 a4 a5 t.2.2.2.1 t.2.2.2.2.1 t.2.2.2.2.2.1 t.2.2.2.2.2.2.1 t.2.2.2.2.2.2.2 a11 a12 a13 a14 a15)
    (fun q t => ∃ (c : Nat) (b m : Nat → Nat), c ≤ q ∧ t.2.1 = nI c ∧ t.2.2.1 = nI (b c) ∧ mr_inv p (nI r) c b m t.2.2.2.2.2.1 t.2.2.2.2.2.2.1 t.2.2.2.2.2.2.2 (mr_all 0 K (fun x => mr_w (nI r) fa og (a3 x)) cnt q) (mr_all 1 K (fun x => mr_w (nI r) fa og (a3 x)) cnt q))
    4 0 (bf, 0, 0, a6, a7, a8, a9, a10) (by omega) ⟨0, fun _ => 0, fun _ => 0, by omega, rfl, rfl, mr_inv0 p (nI r) a8 a9 a10⟩ ?_ ?_
  · rintro f ⟨bf', sc', se', b6, b7, b8, b9, b10⟩ ⟨c, b, m, hc, e1, e2, I⟩
    dsimp only at e1 e2 I ⊢
    subst e1 e2
    refine pk_le 4 4 (fun _ => mr_r71 hp hp4 hc I h4 h5 hz hz' ho ho' (fun a4' a5' a11' a12' a13' a14' a15' g4 g5 g => ?_)) (fun y => absurd y (by omega))
    exact H bf' _ _ a4' a5' b6 b7 b8 b9 b10 a11' a12' a13' a14' a15' g4 g5 g
  · rintro f q ⟨bf', sc', se', b6, b7, b8, b9, b10⟩ hq ⟨c, b, m, hc, e1, e2, I⟩ hw
    dsimp only at e1 e2 I ⊢
    subst e1 e2
    refine pk_le 4 q (fun y => absurd y (by omega)) (fun _ => ?_)
    refine mr_split (K := K) (n := cnt q) hp hp4 hq (h1 q hq).2 (by omega) hB hB8 (h4 q hq) (h1 q hq).1 (h2 q hq) I (fun c' b' m' b6' b7' b8' b9' b10' hc' I' => nm_r (nI_1 q) ?_)
    exact hw (0, nI c', nI (b' c'), b6', b7', b8', b9', b10') ⟨c', b', m', by omega, rfl, rfl, I'⟩
end
end
section
section
variable {pc bs md fa og lw hg rd bf mp sc se oe : Int32} {a1 a2 a3 a4 a5 a6 a7 a8 a9 a10 a11 a12 a13 a14 a15 : Nat → Int32}
theorem mr_isr {post : Int32 → Prop} {p q i x y : Nat} (hp4 : p ≤ 4) (hq : q < p) (hx : a13 q = nI x) (hy : a13 (q + 1) = nI y) (hi : x + i < y) (hy2 : y ≤ 16) (H : post 1) : wpX_isResult post (nI p, bs, md, fa, og, lw, hg, rd, bf, mp, sc, se, oe, a1, a2, a3, a4, a5, a6, a7, a8, a9, a10, a11, a12, a13, a14, a15) (nI q) (nI i) := by
  refine pk_lt q 0 (fun z => absurd z (by omega)) (fun _ => pk_le p q (fun z => absurd z (by omega)) (fun _ => pk_le 0 i (fun _ => ⟨pk_in (q + 1) 5 (by omega) (nI_1 q), pk_in q 5 (by omega), ?_⟩) (fun z => absurd z (by omega))))
  rw [nI_1, nI_clamp (show q + 1 < 2 ^ 31 by omega), nI_clamp (show q < 2 ^ 31 by omega), hx, hy, pk_sub (by omega)]
  exact pk_le (y - x) i (fun z => absurd z (by omega)) (fun _ => H)
theorem mr_val {post : Int32 → Prop} {p q i x y : Nat} (hp4 : p ≤ 4) (hq : q < p) (hx : a13 q = nI x) (hy : a13 (q + 1) = nI y) (hi : x + i < y) (hy2 : y ≤ 16) (H : post (a15 (x + i))) : wpX_valueAt post (nI p, bs, md, fa, og, lw, hg, rd, bf, mp, sc, se, oe, a1, a2, a3, a4, a5, a6, a7, a8, a9, a10, a11, a12, a13, a14, a15) (nI q) (nI i) := by
  have e : a13 (nI q).toNatClampNeg + nI i = nI (x + i) := by rw [nI_clamp (by omega), hx, nI_add]
  unfold wpX_valueAt
  dsimp only
  refine mr_isr hp4 hq hx hy hi hy2 (br_f (by decide) ⟨pk_in q 5 (by omega), pk_in (x + i) 16 (by omega) e, ?_⟩)
  rw [e, nI_clamp (by omega)]
  exact H
theorem mr_key {post : Int32 → Prop} {p q i x y : Nat} (hp4 : p ≤ 4) (hq : q < p) (hx : a13 q = nI x) (hy : a13 (q + 1) = nI y) (hi : x + i < y) (hy2 : y ≤ 16) (H : post (a14 (x + i))) : wpX_keyAt post (nI p, bs, md, fa, og, lw, hg, rd, bf, mp, sc, se, oe, a1, a2, a3, a4, a5, a6, a7, a8, a9, a10, a11, a12, a13, a14, a15) (nI q) (nI i) := by
  have e : a13 (nI q).toNatClampNeg + nI i = nI (x + i) := by rw [nI_clamp (by omega), hx, nI_add]
  unfold wpX_keyAt
  dsimp only
  refine mr_isr hp4 hq hx hy hi hy2 (br_f (by decide) ⟨pk_in q 5 (by omega), pk_in (x + i) 16 (by omega) e, ?_⟩)
  rw [e, nI_clamp (by omega)]
  exact H
/-- key 0, and its value: part 0, place 0 -/
theorem mr_at0 {p z o : Nat} {v0 v1 : Int32} (hp : 1 ≤ p) (hp4 : p ≤ 4) (hz : z = 1) (ho : o ≤ 1) (g : mr_out p z o v0 v1 a13 a14 a15) :
    (∀ post : Int32 → Prop, post (nI 0) → wpX_keyAt post (nI p, bs, md, fa, og, lw, hg, rd, bf, mp, sc, se, oe, a1, a2, a3, a4, a5, a6, a7, a8, a9, a10, a11, a12, a13, a14, a15) 0 0) ∧ (∀ post : Int32 → Prop, post v0 → wpX_valueAt post (nI p, bs, md, fa, og, lw, hg, rd, bf, mp, sc, se, oe, a1, a2, a3, a4, a5, a6, a7, a8, a9, a10, a11, a12, a13, a14, a15) 0 0) := by
  obtain ⟨g0, g1, g2, g3, g4⟩ := g
  have l : 0 + 0 < (if p = 1 then z + o else z) ∧ (if p = 1 then z + o else z) ≤ 16 := by
    by_cases e : p = 1
    · rw [if_pos e]; omega
    · rw [if_neg e]; omega
  refine ⟨fun post h => mr_key (q := 0) (i := 0) (x := 0) hp4 hp g0 g1 l.1 l.2 ?_, fun post h => mr_val (q := 0) (i := 0) (x := 0) hp4 hp g0 g1 l.1 l.2 ?_⟩
  · show post (a14 0)
    rw [(g3 hz).1]; exact h
  · show post (a15 0)
    rw [(g3 hz).2]; exact h
/-- key 1, and its value: part 1 % p, place z where there is one part, else 0 -/
theorem mr_at1 {p z o : Nat} {v0 v1 : Int32} (hp : 1 ≤ p) (hp4 : p ≤ 4) (hz : z ≤ 1) (ho : o = 1) (g : mr_out p z o v0 v1 a13 a14 a15) :
    (∀ post : Int32 → Prop, post (nI 1) → wpX_keyAt post (nI p, bs, md, fa, og, lw, hg, rd, bf, mp, sc, se, oe, a1, a2, a3, a4, a5, a6, a7, a8, a9, a10, a11, a12, a13, a14, a15) (nI (1 % p)) (nI (if p = 1 then z else 0))) ∧ (∀ post : Int32 → Prop, post v1 → wpX_valueAt post (nI p, bs, md, fa, og, lw, hg, rd, bf, mp, sc, se, oe, a1, a2, a3, a4, a5, a6, a7, a8, a9, a10, a11, a12, a13, a14, a15) (nI (1 % p)) (nI (if p = 1 then z else 0))) := by
  obtain ⟨g0, g1, g2, g3, g4⟩ := g
  by_cases e : p = 1
  · rw [if_pos e]
    rw [if_pos e] at g1
    have e1 : 1 % p = 0 := by rw [e]
    rw [e1]
    refine ⟨fun post h => mr_key (q := 0) (i := z) (x := 0) hp4 hp g0 g1 (by omega) (by omega) ?_, fun post h => mr_val (q := 0) (i := z) (x := 0) hp4 hp g0 g1 (by omega) (by omega) ?_⟩
    · rw [Nat.zero_add, (g4 ho).1]; exact h
    · rw [Nat.zero_add, (g4 ho).2]; exact h
  · rw [if_neg e]
    rw [if_neg e] at g1
    have e1 : 1 % p = 1 := Nat.mod_eq_of_lt (by omega)
    rw [e1]
    refine ⟨fun post h => mr_key (q := 1) (i := 0) (x := z) (y := z + o) hp4 (by omega) g1 (g2 2 (by omega) (by omega)) (by omega) (by omega) ?_, fun post h => mr_val (q := 1) (i := 0) (x := z) (y := z + o) hp4 (by omega) g1 (g2 2 (by omega) (by omega)) (by omega) (by omega) ?_⟩
    · rw [Nat.add_zero, (g4 ho).1]; exact h
    · rw [Nat.add_zero, (g4 ho).2]; exact h
theorem mr_feed36 {post : Int32 → St2 → Prop} {J2 : Int32 → (Nat → Int32) → (Nat → Int32) → (Nat → Int32) → (Nat → Int32) → (Nat → Int32) → (Nat → Int32) → (Nat → Int32) → (Nat → Int32) → (Nat → Int32) → (Nat → Int32) → (Nat → Int32) → (Nat → Int32) → (Nat → Int32) → (Nat → Int32) → (Nat → Int32) → Prop} {s f n : Nat} (hs : s < 4) (hf : f + n ≤ 16)
    (H : ∀ a2' a3' : Nat → Int32, (∀ y, y < n → a2' (16 * s + y) = a14 (f + y) ∧ a3' (16 * s + y) = a15 (f + y)) → (∀ x, x < 16 * s → a2' x = a2 x ∧ a3' x = a3 x) → J2 (nI (s + 1)) a1 a2' a3' a4 a5 a6 a7 a8 a9 a10 a11 a12 a13 a14 a15) :
    ∃ fu, wX_feedBack_36 post J2 (nI s) (nI f) (nI n) pc bs md fa og lw hg rd bf mp sc se oe fu 0 a1 a2 a3 a4 a5 a6 a7 a8 a9 a10 a11 a12 a13 a14 a15 := by
  refine pk_loop (σ := (Nat → Int32) × (Nat → Int32)) (fun fu i t => wX_feedBack_36 post J2 (nI s) (nI f) (nI n) pc bs md fa og lw hg rd bf mp sc se oe fu (nI i) a1 t.1 t.2 a4 a5 a6 a7 a8 a9 a10 a11 a12 a13 a14 a15)
    (fun i t => (∀ y, y < i → t.1 (16 * s + y) = a14 (f + y) ∧ t.2 (16 * s + y) = a15 (f + y)) ∧ (∀ x, x < 16 * s → t.1 x = a2 x ∧ t.2 x = a3 x)) n 0 (a2, a3) (by omega) ⟨fun y hy => absurd hy (by omega), fun _ _ => ⟨rfl, rfl⟩⟩ ?_ ?_
  · rintro fu ⟨b2, b3⟩ ⟨e1, e2⟩
    exact pk_le n n (fun _ => nm_r (nI_1 s) (H b2 b3 e1 e2)) (fun z => absurd z (by omega))
  · rintro fu i ⟨b2, b3⟩ hi ⟨e1, e2⟩ hw
    dsimp only at e1 e2 ⊢
    refine pk_le n i (fun z => absurd z (by omega)) (fun _ => ⟨pk_in (f + i) 16 (by omega) (nI_add f i), pk_in (16 * s + i) 64 (by omega) (mr_ix16 s i), ?_⟩)
    rw [mr_ix16, nI_add, nI_clamp (show f + i < 2 ^ 31 by omega), nI_clamp (show 16 * s + i < 2 ^ 31 by omega)]
    refine nm_e ⟨pk_in (f + i) 16 (by omega), pk_in (16 * s + i) 64 (by omega), nm_e (nm_r (nI_1 i) (hw (upd b2 (16 * s + i) (a14 (f + i)), upd b3 (16 * s + i) (a15 (f + i))) ⟨fun y hy => ?_, fun x hx => ?_⟩))⟩
    · show upd b2 (16 * s + i) (a14 (f + i)) (16 * s + y) = a14 (f + y) ∧ upd b3 (16 * s + i) (a15 (f + i)) (16 * s + y) = a15 (f + y)
      by_cases ey : y = i
      · rw [ey]; exact ⟨pk_us, pk_us⟩
      · rw [pk_un (by omega), pk_un (by omega)]; exact e1 y (by omega)
    · show upd b2 (16 * s + i) (a14 (f + i)) x = a2 x ∧ upd b3 (16 * s + i) (a15 (f + i)) x = a3 x
      rw [pk_un (by omega), pk_un (by omega)]; exact e2 x hx
theorem mr_feed {post : Int32 → St2 → Prop} {st : Nat → Nat} (h : ∀ s, s ≤ 4 → a13 s = nI (st s) ∧ st s ≤ 16) (hm : ∀ s, s < 4 → st s ≤ st (s + 1))
    (H : ∀ a1' a2' a3' : Nat → Int32, (∀ s, s < 4 → a1' s = nI (st (s + 1) - st s)) → (∀ s, s < 4 → ∀ y, y < st (s + 1) - st s → a2' (16 * s + y) = a14 (st s + y) ∧ a3' (16 * s + y) = a15 (st s + y)) → post oe (pc, bs, md, fa, og, lw, hg, rd, bf, mp, sc, se, oe, a1', a2', a3', a4, a5, a6, a7, a8, a9, a10, a11, a12, a13, a14, a15)) :
    wpX_feedBack post (pc, bs, md, fa, og, lw, hg, rd, bf, mp, sc, se, oe, a1, a2, a3, a4, a5, a6, a7, a8, a9, a10, a11, a12, a13, a14, a15) := by
  refine pk_loop (σ := (Nat → Int32) × (Nat → Int32) × (Nat → Int32)) (fun fu s t => wX_feedBack_2 post pc bs md fa og lw hg rd bf mp sc se oe fu (nI s) t.1 t.2.1 t.2.2 a4 a5 a6 a7 a8 a9 a10 a11 a12 a13 a14 a15)
    (fun s t => ∀ u, u < s → t.1 u = nI (st (u + 1) - st u) ∧ ∀ y, y < st (u + 1) - st u → t.2.1 (16 * u + y) = a14 (st u + y) ∧ t.2.2 (16 * u + y) = a15 (st u + y)) 4 0 (a1, a2, a3) (by omega) (fun u hu => absurd hu (by omega)) ?_ ?_
  · rintro fu ⟨b1, b2, b3⟩ e1
    exact pk_le 4 4 (fun _ => H b1 b2 b3 (fun s hs => (e1 s hs).1) (fun s hs => (e1 s hs).2)) (fun z => absurd z (by omega))
  · rintro fu s ⟨b1, b2, b3⟩ hs e1 hw
    dsimp only at e1 ⊢
    have q1 := h s (by omega)
    have q2 := h (s + 1) (by omega)
    have q3 := hm s hs
    refine pk_le 4 s (fun z => absurd z (by omega)) (fun _ => ⟨pk_in s 5 (by omega), nm_r (e' := nI (st s)) (by rw [nI_clamp (by omega)]; exact q1.1) ⟨pk_in (s + 1) 5 (by omega) (nI_1 s), nm_r (e' := nI (st (s + 1) - st s)) (by rw [nI_1, nI_clamp (by omega), q2.1, pk_sub q3]) ⟨pk_in s 4 hs, nm_r (e' := upd b1 s (nI (st (s + 1) - st s))) (by rw [nI_clamp (by omega), mr_b8 _ (by omega)]) ?_⟩⟩⟩)
    refine mr_feed36 hs (by omega) (fun b2' b3' g1 g2 => hw (upd b1 s (nI (st (s + 1) - st s)), b2', b3') (fun u hu => ?_))
    show upd b1 s (nI (st (s + 1) - st s)) u = nI (st (u + 1) - st u) ∧ ∀ y, y < st (u + 1) - st u → b2' (16 * u + y) = a14 (st u + y) ∧ b3' (16 * u + y) = a15 (st u + y)
    by_cases eu : u = s
    · rw [eu]; exact ⟨pk_us, g1⟩
    · rw [pk_un eu]
      refine ⟨(e1 u (by omega)).1, fun y hy => ?_⟩
      have q4 := (h (u + 1) (by omega)).2
      rw [(g2 (16 * u + y) (by omega)).1, (g2 (16 * u + y) (by omega)).2]
      exact (e1 u (by omega)).2 y hy
theorem mr_addr {post : Int32 → St2 → Prop} {s n : Nat} {ke v : Int32} (hs : s < 4) (hn : n < 16) (h : a1 s = nI n)
    (H : post (nI (n + 1)) (pc, bs, md, fa, og, lw, hg, rd, bf, mp, sc, se, oe, upd a1 s (nI (n + 1)), upd a2 (16 * s + n) ke, upd a3 (16 * s + n) v, a4, a5, a6, a7, a8, a9, a10, a11, a12, a13, a14, a15)) : wpX_addRecord post (pc, bs, md, fa, og, lw, hg, rd, bf, mp, sc, se, oe, a1, a2, a3, a4, a5, a6, a7, a8, a9, a10, a11, a12, a13, a14, a15) (nI s) ke v := by
  have hc : (nI s).toNatClampNeg = s := nI_clamp (by omega)
  have hc2 : (nI (16 * s + n)).toNatClampNeg = 16 * s + n := nI_clamp (by omega)
  refine pk_lt s 0 (fun z => absurd z (by omega)) (fun _ => pk_le s 3 (fun _ => ⟨pk_in s 4 hs, ?_⟩) (fun z => absurd z (by omega)))
  rw [hc, h]
  refine pk_lt n 16 (fun _ => ⟨pk_in s 4 hs, nm_r (e' := nI (16 * s + n)) (mr_ix16 s n) ⟨pk_in (16 * s + n) 64 (by omega), nm_r (e' := upd a2 (16 * s + n) ke) (by rw [hc2]) ⟨pk_in (16 * s + n) 64 (by omega), nm_r (e' := upd a3 (16 * s + n) v) (by rw [hc2]) ⟨pk_in s 4 hs, pk_in s 4 hs, nm_r (e' := upd a1 s (nI (n + 1))) (by rw [nI_1, mr_b8 _ (by omega)]) ⟨pk_in s 4 hs, ?_⟩⟩⟩⟩⟩) (fun z => absurd z (by omega))
  rw [pk_us]
  exact H
end
/-- the law's values -/
def mr_pk (a b c : Int32) (i : Nat) : Int32 := if i % 3 = 0 then a + nI i else if i % 3 = 1 then b - nI i else c * (nI i + 1)
theorem mr_pick {post : Int32 → Prop} {a b c : Int32} {i : Nat} (hi : i < 2 ^ 31) (H : post (mr_pk a b c i)) : wpL_pick post () (nI i) a b c := by
  unfold mr_pk at H
  have e : nI i - nI i / 3 * 3 = nI (i % 3) := pk_rem (d := 3) hi (by omega) (by omega)
  unfold wpL_pick
  rw [e]
  refine ⟨by decide, pk_eq (i % 3) 0 (fun z => ?_) (fun z => ⟨by decide, pk_eq (i % 3) 1 (fun y => ?_) (fun y => ?_)⟩)⟩
  · rw [if_pos z] at H; exact H
  · rw [if_neg z, if_pos y] at H; exact H
  · rw [if_neg z, if_neg y] at H; exact H
def mr_bt (sh : Int32) (i : Nat) : Nat := (sh >>> (nI i &&& 31)).toBitVec.toNat % 2
theorem mr_bit (sh : Int32) (i : Nat) : (sh >>> (nI i &&& 31)) &&& 1 = nI (mr_bt sh i) := pk_and _ 1 (by decide)
theorem mr_bt1 (sh : Int32) (i : Nat) : mr_bt sh i ≤ 1 := by unfold mr_bt; omega
def mr_ds (d : Int32 × Int32 × Int32 × Int32 × Int32) (w : Int32) : Int32 × Int32 × Int32 × Int32 × Int32 :=
  (31 * d.1 + w, d.2.1 + w, if d.2.2.2.2 = 0 then w else if w ≤ d.2.2.1 then d.2.2.1 else w, if d.2.2.2.2 = 0 then w else if d.2.2.2.1 ≤ w then d.2.2.2.1 else w, d.2.2.2.2 + 1)
def mr_du (sh : Int32) (q : Nat) (a b c : Int32) : Nat → Int32 × Int32 × Int32 × Int32 × Int32
  | 0 => (7, 0, 0, 0, 0)
  | i + 1 => if mr_bt sh i = q then mr_ds (mr_du sh q a b c i) (-2 * mr_pk a b c i + 9) else mr_du sh q a b c i
def mr_dr (r : Int32) (d : Int32 × Int32 × Int32 × Int32 × Int32) : Int32 := if r = 0 then d.2.1 else if r = 1 then d.2.2.1 else if r = 2 then d.2.2.2.1 else if r = 3 then d.2.2.2.2 else d.1
theorem mr_due {post : Int32 → Prop} {r sh a b c : Int32} {q : Nat} (hq : q ≤ 1) (H : post (mr_dr r (mr_du sh q a b c 8))) : wpL_due post () r sh (nI q) a b c := by
  refine pk_loop (σ := Unit) (fun f i _ => wL_due_19 post r sh (nI q) a b c f (mr_du sh q a b c i).1 (mr_du sh q a b c i).2.1 (mr_du sh q a b c i).2.2.1 (mr_du sh q a b c i).2.2.2.1 (mr_du sh q a b c i).2.2.2.2 (nI i)) (fun _ _ => True) 8 0 () (by omega) trivial ?_ ?_
  · intro f _ _
    unfold mr_dr at H
    refine pk_le 8 8 (fun _ => br_c (fun y => ?_) (fun y => br_c (fun y1 => ?_) (fun y1 => br_c (fun y2 => ?_) (fun y2 => br_c (fun y3 => ?_) (fun y3 => ?_))))) (fun z => absurd z (by omega))
    · rw [if_pos y] at H; exact H
    · rw [if_neg y, if_pos y1] at H; exact H
    · rw [if_neg y, if_neg y1, if_pos y2] at H; exact H
    · rw [if_neg y, if_neg y1, if_neg y2, if_pos y3] at H; exact H
    · rw [if_neg y, if_neg y1, if_neg y2, if_neg y3] at H; exact H
  · intro f i _ hi _ hw
    have b1 := mr_bt1 sh i
    refine pk_le 8 i (fun z => absurd z (by omega)) (fun _ => ?_)
    refine pk_eq (mr_bt sh i) q (fun z => mr_pick (by omega) ?_) (fun z => nm_r (nI_1 i) ?_) (mr_bit sh i) rfl (by omega) (by omega)
    · have e : mr_du sh q a b c (i + 1) = mr_ds (mr_du sh q a b c i) (-2 * mr_pk a b c i + 9) := if_pos z
      have hw' : wL_due_19 post r sh (nI q) a b c f (mr_du sh q a b c (i + 1)).1 (mr_du sh q a b c (i + 1)).2.1 (mr_du sh q a b c (i + 1)).2.2.1 (mr_du sh q a b c (i + 1)).2.2.2.1 (mr_du sh q a b c (i + 1)).2.2.2.2 (nI (i + 1)) := hw () trivial
      rw [e] at hw'
      unfold mr_ds at hw'
      dsimp only at hw' ⊢
      refine nm_e (nm_e (nm_e ?_))
      refine br_c (fun y => ?_) (fun y => ?_)
      · rw [if_pos y, if_pos y] at hw'
        exact br_t y (nm_e (nm_r (nI_1 i) hw'))
      · rw [if_neg y, if_neg y] at hw'
        refine br_c (fun y1 => ?_) (fun y1 => ?_)
        · rw [if_pos y1] at hw'
          refine br_f y (br_c (fun y2 => ?_) (fun y2 => ?_))
          · rw [if_pos y2] at hw'; exact nm_e (nm_r (nI_1 i) hw')
          · rw [if_neg y2] at hw'; exact nm_e (nm_r (nI_1 i) hw')
        · rw [if_neg y1] at hw'
          refine br_f y (br_c (fun y2 => ?_) (fun y2 => ?_))
          · rw [if_pos y2] at hw'; exact nm_e (nm_r (nI_1 i) hw')
          · rw [if_neg y2] at hw'; exact nm_e (nm_r (nI_1 i) hw')
    · have e : mr_du sh q a b c (i + 1) = mr_du sh q a b c i := if_neg z
      have hw' : wL_due_19 post r sh (nI q) a b c f (mr_du sh q a b c (i + 1)).1 (mr_du sh q a b c (i + 1)).2.1 (mr_du sh q a b c (i + 1)).2.2.1 (mr_du sh q a b c (i + 1)).2.2.2.1 (mr_du sh q a b c (i + 1)).2.2.2.2 (nI (i + 1)) := hw () trivial
      rw [e] at hw'
      exact hw'
end
section
/-- the mapped values of the records below i whose bit is q -/
def mr_tl (sh : Int32) (q : Nat) (a b c rd : Int32) : Nat → List Int32
  | 0 => []
  | i + 1 => mr_tl sh q a b c rd i ++ (if mr_bt sh i = q then [mr_w rd (-2) 9 (mr_pk a b c i)] else [])
def mr_ct (sh : Int32) (q : Nat) : Nat → Nat
  | 0 => 0
  | i + 1 => mr_ct sh q i + (if mr_bt sh i = q then 1 else 0)
theorem mr_d0 {r : Nat} (hr : r < 5) (x : Int32) : mr_st (nI r) (mr_in (nI r)) (mr_w (nI r) (-2) 9 x) = (mr_dr (nI r) (mr_ds (7, 0, 0, 0, 0) (-2 * x + 9)), 1) := by
  rcases (show r = 0 ∨ r = 1 ∨ r = 2 ∨ r = 3 ∨ r = 4 by omega) with z | z | z | z | z <;> subst z
  · show ((-2 * x + 9 : Int32), (1 : Int32)) = (0 + (-2 * x + 9), 1)
    rw [Int32.zero_add]
  · rfl
  · rfl
  · rfl
  · rfl
theorem mr_d1 {r : Nat} (hr : r < 5) (x : Int32) (d : Int32 × Int32 × Int32 × Int32 × Int32) (hd : ¬ d.2.2.2.2 = 0) : mr_st (nI r) (mr_dr (nI r) d, 1) (mr_w (nI r) (-2) 9 x) = (mr_dr (nI r) (mr_ds d (-2 * x + 9)), 1) := by
  rcases (show r = 0 ∨ r = 1 ∨ r = 2 ∨ r = 3 ∨ r = 4 by omega) with z | z | z | z | z <;> subst z
  · rfl
  · show ((if d.2.2.1 ≤ -2 * x + 9 then -2 * x + 9 else d.2.2.1 : Int32), (1 : Int32)) = ((if d.2.2.2.2 = 0 then -2 * x + 9 else if -2 * x + 9 ≤ d.2.2.1 then d.2.2.1 else -2 * x + 9), 1)
    rw [if_neg hd]
    by_cases h1 : d.2.2.1 ≤ -2 * x + 9 <;> by_cases h2 : -2 * x + 9 ≤ d.2.2.1
    · rw [if_pos h1, if_pos h2, Int32.le_antisymm h1 h2]
    · rw [if_pos h1, if_neg h2]
    · rw [if_neg h1, if_pos h2]
    · rw [Int32.le_iff_toInt_le] at h1 h2; omega
  · show ((if -2 * x + 9 ≤ d.2.2.2.1 then -2 * x + 9 else d.2.2.2.1 : Int32), (1 : Int32)) = ((if d.2.2.2.2 = 0 then -2 * x + 9 else if d.2.2.2.1 ≤ -2 * x + 9 then d.2.2.2.1 else -2 * x + 9), 1)
    rw [if_neg hd]
    by_cases h1 : -2 * x + 9 ≤ d.2.2.2.1 <;> by_cases h2 : d.2.2.2.1 ≤ -2 * x + 9
    · rw [if_pos h1, if_pos h2, Int32.le_antisymm h1 h2]
    · rw [if_pos h1, if_neg h2]
    · rw [if_neg h1, if_pos h2]
    · rw [Int32.le_iff_toInt_le] at h1 h2; omega
  · rfl
  · rfl
theorem mr_ctb (sh : Int32) (q : Nat) : ∀ i, mr_ct sh q i ≤ i := by
  intro i
  induction i with
  | zero => exact Nat.le_refl 0
  | succ i ih =>
    show mr_ct sh q i + (if mr_bt sh i = q then 1 else 0) ≤ i + 1
    by_cases h : mr_bt sh i = q
    · rw [if_pos h]; omega
    · rw [if_neg h]; omega
theorem mr_ct8 (sh : Int32) : ∀ i, mr_ct sh 0 i + mr_ct sh 1 i = i := by
  intro i
  induction i with
  | zero => rfl
  | succ i ih =>
    show (mr_ct sh 0 i + (if mr_bt sh i = 0 then 1 else 0)) + (mr_ct sh 1 i + (if mr_bt sh i = 1 then 1 else 0)) = i + 1
    have := mr_bt1 sh i
    rcases (show mr_bt sh i = 0 ∨ mr_bt sh i = 1 by omega) with h | h
    · rw [if_pos h, if_neg (by omega)]; omega
    · rw [if_neg (by omega), if_pos h]; omega
theorem mr_tlQ {r : Nat} (hr : r < 5) (sh : Int32) (q : Nat) (a b c : Int32) : ∀ i, i ≤ 8 →
    (mr_ct sh q i = 0 ∧ mr_tl sh q a b c (nI r) i = [] ∧ mr_du sh q a b c i = (7, 0, 0, 0, 0)) ∨
    (0 < mr_ct sh q i ∧ mr_tl sh q a b c (nI r) i ≠ [] ∧ (mr_du sh q a b c i).2.2.2.2 = nI (mr_ct sh q i) ∧ mr_fd (nI r) (mr_tl sh q a b c (nI r) i) (mr_in (nI r)) = (mr_dr (nI r) (mr_du sh q a b c i), 1)) := by
  intro i
  induction i with
  | zero => exact fun _ => Or.inl ⟨rfl, rfl, rfl⟩
  | succ i ih =>
    intro hi
    have e1 : mr_tl sh q a b c (nI r) (i + 1) = mr_tl sh q a b c (nI r) i ++ (if mr_bt sh i = q then [mr_w (nI r) (-2) 9 (mr_pk a b c i)] else []) := rfl
    have e2 : mr_ct sh q (i + 1) = mr_ct sh q i + (if mr_bt sh i = q then 1 else 0) := rfl
    have e3 : mr_du sh q a b c (i + 1) = if mr_bt sh i = q then mr_ds (mr_du sh q a b c i) (-2 * mr_pk a b c i + 9) else mr_du sh q a b c i := rfl
    have cb := mr_ctb sh q i
    by_cases h : mr_bt sh i = q
    · rw [if_pos h] at e1 e2 e3
      right
      rw [e1, e2, e3, mr_fd_app]
      rcases ih (by omega) with ⟨i1, i2, i3⟩ | ⟨i1, i2, i3, i4⟩
      · rw [i1, i2, i3]
        exact ⟨by omega, mr_ne _ _, rfl, mr_d0 hr _⟩
      · rw [i4]
        refine ⟨by omega, fun z => i2 (List.append_eq_nil_iff.mp z).1, ?_, mr_d1 hr _ _ (by rw [i3]; exact nI_ne0 i1 (by omega))⟩
        show (mr_du sh q a b c i).2.2.2.2 + 1 = nI (mr_ct sh q i + 1)
        rw [i3, nI_1]
    · rw [if_neg h] at e1 e2 e3
      rw [List.append_nil] at e1
      rw [e1, e2, e3, Nat.add_zero]
      exact ih (by omega)
/-- the eight records of the first runs -/
def mr_ri (x : Nat) : Nat := 2 * (x / 16) + x % 16
theorem mr_all1 {sh a b c rd : Int32} {k : Nat} {w : Nat → Int32} (hw : ∀ t, t < 8 → w (16 * (t / 2) + t % 2) = mr_w rd (-2) 9 (mr_pk a b c t)) :
    ∀ q, q ≤ 4 → mr_all k (fun x => 2 * mr_ri x + mr_bt sh (mr_ri x)) w (fun _ => 2) q = mr_tl sh k a b c rd (2 * q) := by
  intro q
  induction q with
  | zero => exact fun _ => rfl
  | succ q ih =>
    intro hq
    have b0 := mr_bt1 sh (2 * q)
    have b1 := mr_bt1 sh (2 * q + 1)
    have r0 : mr_ri (16 * q + 0) = 2 * q := by unfold mr_ri; omega
    have r1 : mr_ri (16 * q + 1) = 2 * q + 1 := by unfold mr_ri; omega
    have w0 := hw (2 * q) (by omega)
    have w1 := hw (2 * q + 1) (by omega)
    rw [show 16 * (2 * q / 2) + 2 * q % 2 = 16 * q + 0 by omega] at w0
    rw [show 16 * ((2 * q + 1) / 2) + (2 * q + 1) % 2 = 16 * q + 1 by omega] at w1
    show mr_all k (fun x => 2 * mr_ri x + mr_bt sh (mr_ri x)) w (fun _ => 2) q ++ (([] ++ (if (2 * mr_ri (16 * q + 0) + mr_bt sh (mr_ri (16 * q + 0))) % 2 = k then [w (16 * q + 0)] else [])) ++ (if (2 * mr_ri (16 * q + 1) + mr_bt sh (mr_ri (16 * q + 1))) % 2 = k then [w (16 * q + 1)] else []))
      = (mr_tl sh k a b c rd (2 * q) ++ (if mr_bt sh (2 * q) = k then [mr_w rd (-2) 9 (mr_pk a b c (2 * q))] else [])) ++ (if mr_bt sh (2 * q + 1) = k then [mr_w rd (-2) 9 (mr_pk a b c (2 * q + 1))] else [])
    rw [ih (by omega), r0, r1, w0, w1, show (2 * (2 * q) + mr_bt sh (2 * q)) % 2 = mr_bt sh (2 * q) by omega, show (2 * (2 * q + 1) + mr_bt sh (2 * q + 1)) % 2 = mr_bt sh (2 * q + 1) by omega, List.nil_append, List.append_assoc]
/-- where the output's parts begin -/
def mr_sp (p z o s : Nat) : Nat := if s = 0 then 0 else if s = 1 then (if p = 1 then z + o else z) else z + o
def mr_k2 (p z o x : Nat) : Nat := if mr_sp p z o (x / 16) + x % 16 < z then 0 else 1
def mr_c2 (p z o s : Nat) : Nat := mr_sp p z o (s + 1) - mr_sp p z o s
theorem mr_snd : ∀ p, p < 2 → ∀ z, z < 2 → ∀ o, o < 2 → mr_all 0 (mr_k2 p z o) (fun _ => 1) (mr_c2 p z o) 4 = (if z = 1 then [1] else []) ∧ mr_all 1 (mr_k2 p z o) (fun _ => 1) (mr_c2 p z o) 4 = (if o = 1 then [1] else []) ∧ mr_sum (mr_c2 p z o) 4 = z + o := by
  decide +kernel
theorem mr_p0 {p : Nat} (h : ¬ p = 1) (z o : Nat) : mr_sp p z o = mr_sp 0 z o := by
  funext s
  unfold mr_sp
  rw [if_neg h]
  rfl
theorem mr_snd' {p z o : Nat} (hz : z ≤ 1) (ho : o ≤ 1) : mr_all 0 (mr_k2 p z o) (fun _ => 1) (mr_c2 p z o) 4 = (if z = 1 then [1] else []) ∧ mr_all 1 (mr_k2 p z o) (fun _ => 1) (mr_c2 p z o) 4 = (if o = 1 then [1] else []) ∧ mr_sum (mr_c2 p z o) 4 = z + o := by
  by_cases h : p = 1
  · rw [h]; exact mr_snd 1 (by omega) z (by omega) o (by omega)
  · have e1 : mr_k2 p z o = mr_k2 0 z o := by funext x; unfold mr_k2; rw [mr_p0 h]
    have e2 : mr_c2 p z o = mr_c2 0 z o := by funext x; unfold mr_c2; rw [mr_p0 h]
    rw [e1, e2]; exact mr_snd 0 (by omega) z (by omega) o (by omega)
theorem mr_wv {fa og : Int32} {a3 : Nat → Int32} : (fun x => mr_w (nI 3) fa og (a3 x)) = fun _ => (1 : Int32) := funext (fun x => if_pos rfl)
theorem mr_oneT {z : Nat} (hz : z ≤ 1) : (if z = 1 then [(1 : Int32)] else []) ≠ [] ↔ z = 1 := by
  by_cases h : z = 1
  · rw [if_pos h]; exact ⟨fun _ => h, fun _ => mr_ne _ _⟩
  · rw [if_neg h]; exact ⟨fun y => absurd rfl y, fun y => absurd y h⟩
end
section
theorem mr_nn1 {x : Int32} (h : 1 ≤ x) : ¬ x < 0 := by
  rw [Int32.le_iff_toInt_le, show (1 : Int32).toInt = 1 from by decide] at h
  rw [Int32.lt_iff_toInt_lt, show (0 : Int32).toInt = 0 from by decide]
  omega
theorem mr_nn2 {x : Int32} (h : 2 ≤ x) : ¬ x < 0 := by
  rw [Int32.le_iff_toInt_le, show (2 : Int32).toInt = 2 from by decide] at h
  rw [Int32.lt_iff_toInt_lt, show (0 : Int32).toInt = 0 from by decide]
  omega
section
variable {pc bs md fa og lw hg rd bf mp sc se oe : Int32} {a1 a2 a3 a4 a5 a6 a7 a8 a9 a10 a11 a12 a13 a14 a15 : Nat → Int32}
variable {post : Int32 → St0 → Prop} {mc ms kc ks : Nat} {sh a b c : Int32}
/-- the last part of the law's own loop and what stands behind it -/
theorem mr_l175 {p B z o n1 : Nat} (hp : 1 ≤ p) (hp4 : p ≤ 4) (hB : 2 ≤ B) (hB8 : B ≤ 8) (hn1 : n1 = mr_ct sh 1 8) (hz : z = if n1 = 8 then 0 else 1) (ho : o = if n1 = 0 then 0 else 1)
    (h4 : ∀ j, j < 4 → a4 j = 0) (h5 : ∀ j, j < 4 → a5 j = 0) (h1 : ∀ q, q < 4 → a1 q = nI 2)
    (h2 : ∀ t, t < 8 → a2 (16 * (t / 2) + t % 2) = nI (2 * t + mr_bt sh t) ∧ a3 (16 * (t / 2) + t % 2) = mr_pk a b c t) (hpost : post 1 ()) :
    ∃ f, wL_lawOf_175 post mc ms sh a b c (nI n1) (nI (z + o)) (nI (1 % p)) (nI (if p = 1 then z else 0)) kc ks f 0 (nI p) (nI B) 2 (-2) 9 (-2147483648) 2147483647 rd bf mp sc se oe a1 a2 a3 a4 a5 a6 a7 a8 a9 a10 a11 a12 a13 a14 a15 := by
  have c8 := mr_ct8 sh 8
  have z1 : z ≤ 1 := by rw [hz]; split <;> omega
  have o1 : o ≤ 1 := by rw [ho]; split <;> omega
  have z2 : z = 1 ↔ n1 < 8 := by
    rw [hz]
    by_cases h : n1 = 8
    · rw [if_pos h]; omega
    · rw [if_neg h]; omega
  have o2 : o = 1 ↔ 0 < n1 := by
    rw [ho]
    by_cases h : n1 = 0
    · rw [if_pos h]; omega
    · rw [if_neg h]; omega
  have A : ∀ r, r < 5 → ∀ k, mr_all k (fun x => 2 * mr_ri x + mr_bt sh (mr_ri x)) (fun x => mr_w (nI r) (-2) 9 (a3 x)) (fun _ => 2) 4 = mr_tl sh k a b c (nI r) 8 := fun r hr k => mr_all1 (fun t ht => by rw [(h2 t ht).2]) 4 (Nat.le_refl 4)
  have E0 : ∀ r, r < 5 → (mr_tl sh 0 a b c (nI r) 8 ≠ [] ↔ z = 1) ∧ (z = 1 → (mr_fd (nI r) (mr_tl sh 0 a b c (nI r) 8) (mr_in (nI r))).1 = mr_dr (nI r) (mr_du sh 0 a b c 8)) := by
    intro r hr
    rcases mr_tlQ hr sh 0 a b c 8 (by omega) with ⟨i1, i2, i3⟩ | ⟨i1, i2, i3, i4⟩
    · exact ⟨⟨fun y => absurd i2 y, fun y => by omega⟩, fun y => by omega⟩
    · exact ⟨⟨fun _ => by omega, fun _ => i2⟩, fun _ => by rw [i4]⟩
  have E1 : ∀ r, r < 5 → (mr_tl sh 1 a b c (nI r) 8 ≠ [] ↔ o = 1) ∧ (o = 1 → (mr_fd (nI r) (mr_tl sh 1 a b c (nI r) 8) (mr_in (nI r))).1 = mr_dr (nI r) (mr_du sh 1 a b c 8)) := by
    intro r hr
    rcases mr_tlQ hr sh 1 a b c 8 (by omega) with ⟨i1, i2, i3⟩ | ⟨i1, i2, i3, i4⟩
    · exact ⟨⟨fun y => absurd i2 y, fun y => by omega⟩, fun y => by omega⟩
    · exact ⟨⟨fun _ => by omega, fun _ => i2⟩, fun _ => by rw [i4]⟩
  have h2' : ∀ q, q < 4 → ∀ j, j < 2 → a2 (16 * q + j) = nI (2 * mr_ri (16 * q + j) + mr_bt sh (mr_ri (16 * q + j))) ∧ 2 * mr_ri (16 * q + j) + mr_bt sh (mr_ri (16 * q + j)) < 2 ^ 31 := by
    intro q hq j hj
    have e : mr_ri (16 * q + j) = 2 * q + j := by unfold mr_ri; omega
    have g := (h2 (2 * q + j) (by omega)).1
    rw [show 16 * ((2 * q + j) / 2) + (2 * q + j) % 2 = 16 * q + j by omega] at g
    have := mr_bt1 sh (2 * q + j)
    rw [e]
    exact ⟨g, by omega⟩
  refine pk_loop (σ := Int32 × Int32 × Int32 × Int32 × Int32 × Int32 × (Nat → Int32) × (Nat → Int32) × (Nat → Int32) × (Nat → Int32) × (Nat → Int32) × (Nat → Int32) × (Nat → Int32) × (Nat → Int32) × (Nat → Int32) × (Nat → Int32) × (Nat → Int32) × (Nat → Int32))
    (fun f r t => wL_lawOf_175 post mc ms sh a b c (nI n1) (nI (z + o)) (nI (1 % p)) (nI (if p = 1 then z else 0)) kc ks f (nI r) (nI p) (nI B) 2 (-2) 9 (-2147483648) 2147483647 t.1 t.2.1 t.2.2.1 t.2.2.2.1 t.2.2.2.2.1 t.2.2.2.2.2.1 a1 a2 a3 t.2.2.2.2.2.2.1 t.2.2.2.2.2.2.2.1 t.2.2.2.2.2.2.2.2.1 t.2.2.2.2.2.2.2.2.2.1 t.2.2.2.2.2.2.2.2.2.2.1 t.2.2.2.2.2.2.2.2.2.2.2.1 t.2.2.2.2.2.2.2.2.2.2.2.2.1 t.2.2.2.2.2.2.2.2.2.2.2.2.2.1 t.2.2.2.2.2.2.2.2.2.2.2.2.2.2.1 t.2.2.2.2.2.2.2.2.2.2.2.2.2.2.2.1 t.2.2.2.2.2.2.2.2.2.2.2.2.2.2.2.2.1 t.2.2.2.2.2.2.2.2.2.2.2.2.2.2.2.2.2)
    (fun r t => (∀ j, j < 4 → t.2.2.2.2.2.2.1 j = 0) ∧ (∀ j, j < 4 → t.2.2.2.2.2.2.2.1 j = 0) ∧ (1 ≤ r → t.2.2.2.2.2.1 = nI (z + o) ∧ ∃ v0 v1, mr_out p z o v0 v1 t.2.2.2.2.2.2.2.2.2.2.2.2.2.2.2.1 t.2.2.2.2.2.2.2.2.2.2.2.2.2.2.2.2.1 t.2.2.2.2.2.2.2.2.2.2.2.2.2.2.2.2.2))
    5 0 (rd, bf, mp, sc, se, oe, a4, a5, a6, a7, a8, a9, a10, a11, a12, a13, a14, a15) (by omega) ⟨h4, h5, fun y => absurd y (by omega)⟩ ?_ ?_
  · rintro f ⟨rd', bf', mp', sc', se', oe', b4, b5, b6, b7, b8, b9, b10, b11, b12, b13, b14, b15⟩ ⟨e1, e2, e3⟩
    dsimp only at e1 e2 e3 ⊢
    obtain ⟨e4, v0, v1, g⟩ := e3 (by omega)
    subst e4
    obtain ⟨g0, g1, g2, g3, g4⟩ := g
    have S0 : ∀ s, s ≤ 4 → b13 s = nI (mr_sp p z o s) ∧ mr_sp p z o s ≤ 16 := by
      intro s hs
      unfold mr_sp
      rcases (show s = 0 ∨ s = 1 ∨ 2 ≤ s by omega) with y | y | y
      · rw [if_pos y, y]; exact ⟨g0, by omega⟩
      · rw [if_neg (by omega), if_pos y, y]
        refine ⟨g1, ?_⟩
        by_cases hp1 : p = 1
        · rw [if_pos hp1]; omega
        · rw [if_neg hp1]; omega
      · rw [if_neg (by omega), if_neg (by omega)]; exact ⟨g2 s y hs, by omega⟩
    have S1 : ∀ s, s < 4 → mr_sp p z o s ≤ mr_sp p z o (s + 1) := by
      intro s hs
      unfold mr_sp
      by_cases hp1 : p = 1
      · rw [if_pos hp1]
        rcases (show s = 0 ∨ s = 1 ∨ 2 ≤ s by omega) with y | y | y
        · rw [if_pos y]; omega
        · rw [if_neg (by omega), if_pos y, if_neg (by omega), if_neg (by omega)]; omega
        · rw [if_neg (by omega), if_neg (by omega), if_neg (by omega), if_neg (by omega)]; omega
      · rw [if_neg hp1]
        rcases (show s = 0 ∨ s = 1 ∨ 2 ≤ s by omega) with y | y | y
        · rw [if_pos y]; omega
        · rw [if_neg (by omega), if_pos y, if_neg (by omega), if_neg (by omega)]; omega
        · rw [if_neg (by omega), if_neg (by omega), if_neg (by omega), if_neg (by omega)]; omega
    have S2 : ∀ s, s ≤ 4 → mr_sp p z o s ≤ z + o := by
      intro s hs
      unfold mr_sp
      rcases (show s = 0 ∨ s = 1 ∨ 2 ≤ s by omega) with y | y | y
      · rw [if_pos y]; omega
      · rw [if_neg (by omega), if_pos y]
        by_cases hp1 : p = 1
        · rw [if_pos hp1]; omega
        · rw [if_neg hp1]; omega
      · rw [if_neg (by omega), if_neg (by omega)]; omega
    obtain ⟨N0, N1, N2⟩ := mr_snd' (p := p) z1 o1
    refine pk_le 5 5 (fun _ => mr_feed (st := mr_sp p z o) S0 S1 (fun a1' a2' a3' q1 q2 => br_t rfl ?_)) (fun y => absurd y (by omega))
    refine mr_run (r := 3) (z := z) (o := o) (K := mr_k2 p z o) (cnt := mr_c2 p z o) hp hp4 hB hB8 (by omega) e1 e2 (fun s hs => ⟨q1 s hs, ?_⟩) (fun s hs y hy => ?_) z1 ?_ o1 ?_ (fun bf'' sc'' se'' b4' b5' b6' b7' b8' b9' b10' b11' b12' b13' b14' b15' _ _ g' => br_t rfl ?_)
    · have := S2 (s + 1) (by omega)
      unfold mr_c2
      omega
    · have y1 := S2 (s + 1) (by omega)
      unfold mr_c2 at hy
      have e : mr_sp p z o ((16 * s + y) / 16) + (16 * s + y) % 16 = mr_sp p z o s + y := by rw [show (16 * s + y) / 16 = s by omega, show (16 * s + y) % 16 = y by omega]
      unfold mr_k2
      rw [e, (q2 s hs y hy).1]
      by_cases hlt : mr_sp p z o s + y < z
      · rw [if_pos hlt, show mr_sp p z o s + y = 0 by omega]
        exact ⟨(g3 (by omega)).1, by omega⟩
      · rw [if_neg hlt, show mr_sp p z o s + y = z by omega]
        exact ⟨(g4 (by omega)).1, by omega⟩
    · rw [mr_wv, N0]; exact mr_oneT z1
    · rw [mr_wv, N1]; exact mr_oneT o1
    · rw [mr_wv, N0, N1] at g'
      rw [N2]
      refine br_t rfl ?_
      refine pk_le n1 0 (fun y => ?_) (fun y => ?_)
      · have hz1 : z = 1 := by omega
        rw [if_pos hz1] at g'
        exact pk_le n1 0 (fun _ => (mr_at0 hp hp4 hz1 o1 g').2 _ (br_t rfl hpost)) (fun x => absurd x (by omega))
      · have ho1 : o = 1 := by omega
        rw [if_pos ho1] at g'
        exact pk_le n1 0 (fun x => absurd x (by omega)) (fun _ => (mr_at1 hp hp4 z1 ho1 g').2 _ (br_t rfl hpost))
  · rintro f r ⟨rd', bf', mp', sc', se', oe', b4, b5, b6, b7, b8, b9, b10, b11, b12, b13, b14, b15⟩ hr ⟨e1, e2, _⟩ hw
    dsimp only at e1 e2 ⊢
    refine pk_le 5 r (fun y => absurd y (by omega)) (fun _ => ?_)
    refine mr_run (r := r) (z := z) (o := o) (K := fun x => 2 * mr_ri x + mr_bt sh (mr_ri x)) (cnt := fun _ => 2) hp hp4 hB hB8 hr e1 e2 (fun s hs => ⟨h1 s hs, by omega⟩) h2' z1 ?_ o1 ?_ (fun bf'' sc'' se'' b4' b5' b6' b7' b8' b9' b10' b11' b12' b13' b14' b15' q4 q5 g => br_t rfl (br_t rfl ?_))
    · rw [A r hr]; exact (E0 r hr).1
    · rw [A r hr]; exact (E1 r hr).1
    · rw [A r hr, A r hr] at g
      have nx := hw (nI r, bf'', nI 8, sc'', se'', nI (z + o), b4', b5', b6', b7', b8', b9', b10', b11', b12', b13', b14', b15') ⟨q4, q5, fun _ => ⟨rfl, _, _, g⟩⟩
      have k244 : wL_lawOf_244 post mc ms (wL_lawOf_175 post mc ms sh a b c (nI n1) (nI (z + o)) (nI (1 % p)) (nI (if p = 1 then z else 0)) kc ks f) sh a b c (nI n1) (nI (z + o)) (nI (1 % p)) (nI (if p = 1 then z else 0)) (nI r) kc ks (nI p) (nI B) 2 (-2) 9 (-2147483648) 2147483647 (nI r) bf'' (nI 8) sc'' se'' (nI (z + o)) a1 a2 a3 b4' b5' b6' b7' b8' b9' b10' b11' b12' b13' b14' b15' := by
        refine pk_le n1 0 (fun y => nm_r (nI_1 r) nx) (fun y => ?_)
        have ho1 : o = 1 := by omega
        refine (mr_at1 hp hp4 z1 ho1 g).1 _ (br_t rfl ((mr_at1 hp hp4 z1 ho1 g).2 _ (mr_due (q := 1) (by omega) (br_t ((E1 r hr).2 ho1) (nm_r (nI_1 r) nx)))))
      refine pk_le 8 n1 (fun y => k244) (fun y => ?_)
      have hz1 : z = 1 := by omega
      exact (mr_at0 hp hp4 hz1 o1 g).1 _ (br_t rfl ((mr_at0 hp hp4 hz1 o1 g).2 _ (mr_due (q := 0) (by omega) (br_t ((E0 r hr).2 hz1) k244))))
/-- the eight records are added -/
theorem mr_l39 {x5 : Int32} (h1 : ∀ q, q < 4 → a1 q = nI 0)
    (Hx : ∀ (f : Nat) (a1' a2' a3' : Nat → Int32), (∀ q, q < 4 → a1' q = nI 2) → (∀ t, t < 8 → a2' (16 * (t / 2) + t % 2) = nI (2 * t + mr_bt sh t) ∧ a3' (16 * (t / 2) + t % 2) = mr_pk a b c t) → wL_lawOf_39 post mc ms sh a b c x5 kc ks (f + 1) (nI 8) pc bs md fa og lw hg rd bf mp sc se oe a1' a2' a3' a4 a5 a6 a7 a8 a9 a10 a11 a12 a13 a14 a15) :
    ∃ f, wL_lawOf_39 post mc ms sh a b c x5 kc ks f 0 pc bs md fa og lw hg rd bf mp sc se oe a1 a2 a3 a4 a5 a6 a7 a8 a9 a10 a11 a12 a13 a14 a15 := by
  refine pk_loop (σ := (Nat → Int32) × (Nat → Int32) × (Nat → Int32)) (fun f i t => wL_lawOf_39 post mc ms sh a b c x5 kc ks f (nI i) pc bs md fa og lw hg rd bf mp sc se oe t.1 t.2.1 t.2.2 a4 a5 a6 a7 a8 a9 a10 a11 a12 a13 a14 a15)
    (fun i t => (∀ q, q < 4 → t.1 q = nI (min 2 (i - 2 * q))) ∧ (∀ u, u < i → t.2.1 (16 * (u / 2) + u % 2) = nI (2 * u + mr_bt sh u) ∧ t.2.2 (16 * (u / 2) + u % 2) = mr_pk a b c u)) 8 0 (a1, a2, a3) (by omega) ⟨fun q hq => by show a1 q = _; rw [h1 q hq, show min 2 (0 - 2 * q) = 0 by omega], fun u hu => absurd hu (by omega)⟩ ?_ ?_
  · rintro f ⟨b1, b2, b3⟩ ⟨e1, e2⟩
    refine Hx f b1 b2 b3 (fun q hq => ?_) e2
    have := e1 q hq
    rw [show min 2 (8 - 2 * q) = 2 by omega] at this
    exact this
  · rintro f i ⟨b1, b2, b3⟩ hi ⟨e1, e2⟩ hw
    dsimp only at e1 e2 ⊢
    have ek : (2 : Int32) * nI i + ((sh >>> (nI i &&& 31)) &&& 1) = nI (2 * i + mr_bt sh i) := by rw [mr_bit, show (2 : Int32) * nI i = nI (2 * i) from pk_mul 2 i, nI_add]
    have ed : nI i / 2 = nI (i / 2) := pk_div (d := 2) (by omega) (by omega) (by omega)
    have ea : nI (i % 2 + 1) = 1 + (nI i &&& 1) := by rw [pk_andN (show i < 2 ^ 32 by omega) 1 (by decide), show (1 : Int32) + nI (i % 2 ^ 1) = nI (1 + i % 2) from nI_add 1 (i % 2), Nat.add_comm]
    refine pk_le 8 i (fun z => absurd z (by omega)) (fun _ => mr_pick (by omega) ⟨by decide, ?_⟩)
    rw [ek, ed]
    have e1i := e1 (i / 2) (by omega)
    rw [show min 2 (i - 2 * (i / 2)) = i % 2 by omega] at e1i
    refine mr_addr (s := i / 2) (n := i % 2) (by omega) (by omega) e1i (br_t ea (nm_r (nI_1 i) (hw (upd b1 (i / 2) (nI (i % 2 + 1)), upd b2 (16 * (i / 2) + i % 2) (nI (2 * i + mr_bt sh i)), upd b3 (16 * (i / 2) + i % 2) (mr_pk a b c i)) ⟨fun q hq => ?_, fun u hu => ?_⟩)))
    · show upd b1 (i / 2) (nI (i % 2 + 1)) q = nI (min 2 (i + 1 - 2 * q))
      by_cases eq : q = i / 2
      · rw [eq, pk_us, show min 2 (i + 1 - 2 * (i / 2)) = i % 2 + 1 by omega]
      · rw [pk_un eq, e1 q hq, show min 2 (i + 1 - 2 * q) = min 2 (i - 2 * q) by omega]
    · show upd b2 (16 * (i / 2) + i % 2) (nI (2 * i + mr_bt sh i)) (16 * (u / 2) + u % 2) = nI (2 * u + mr_bt sh u) ∧ upd b3 (16 * (i / 2) + i % 2) (mr_pk a b c i) (16 * (u / 2) + u % 2) = mr_pk a b c u
      by_cases eu : u = i
      · rw [eu]; exact ⟨pk_us, pk_us⟩
      · rw [pk_un (by omega), pk_un (by omega)]; exact e2 u (by omega)
/-- from the made object on -/
theorem mr_from {p B : Nat} (hp : 1 ≤ p) (hp4 : p ≤ 4) (hB : 2 ≤ B) (hB8 : B ≤ 8) (h1 : ∀ q, q < 4 → a1 q = nI 0) (h4 : ∀ j, j < 4 → a4 j = 0) (h5 : ∀ j, j < 4 → a5 j = 0) (hpost : post 1 ()) :
    ∃ f, wL_lawOf_39 post mc ms sh a b c (nI p) kc ks f 0 (nI p) (nI B) md fa og (-2147483648) 2147483647 rd bf mp sc se oe a1 a2 a3 a4 a5 a6 a7 a8 a9 a10 a11 a12 a13 a14 a15 := by
  refine mr_l39 h1 (fun f a1' a2' a3' g1 g2 => ?_)
  refine pk_le 8 8 (fun _ => ?_) (fun y => absurd y (by omega))
  refine br_f (by decide) (br_t (by decide) (br_f (by decide) (mr_due (q := 1) (by omega) ?_)))
  have cb := mr_ctb sh 1 8
  obtain ⟨n1, hn1⟩ : ∃ n1, n1 = mr_ct sh 1 8 := ⟨_, rfl⟩
  have e : mr_dr 3 (mr_du sh 1 a b c 8) = nI n1 := by
    rcases mr_tlQ (r := 3) (by omega) sh 1 a b c 8 (by omega) with ⟨i1, i2, i3⟩ | ⟨i1, i2, i3, i4⟩
    · rw [i3, hn1, i1]; rfl
    · rw [hn1, ← i3]; rfl
  rw [e]
  have K : ∀ z o : Nat, z = (if n1 = 8 then 0 else 1) → o = (if n1 = 0 then 0 else 1) → wL_lawOf_143 post mc ms sh a b c (nI p) (nI n1) (nI z) (nI o) kc ks (nI p) (nI B) 2 (-2) 9 (-2147483648) 2147483647 rd bf mp sc se oe a1' a2' a3' a4 a5 a6 a7 a8 a9 a10 a11 a12 a13 a14 a15 := by
    intro z o hz ho
    have L : ∃ f, wL_lawOf_175 post mc ms sh a b c (nI n1) (nI (z + o)) (nI (1 % p)) (nI (if p = 1 then z else 0)) kc ks f 0 (nI p) (nI B) 2 (-2) 9 (-2147483648) 2147483647 rd bf mp sc se oe a1' a2' a3' a4 a5 a6 a7 a8 a9 a10 a11 a12 a13 a14 a15 :=
      mr_l175 hp hp4 hB hB8 hn1 hz ho h4 h5 g1 g2 hpost
    refine nm_r (e' := nI (z + o)) (by rw [nI_add, Nat.add_comm]) ⟨nI_ne0 hp (by omega), nm_r (e' := nI (1 % p)) (pk_rem (a := 1) (by omega) hp (by omega)) ?_⟩
    refine pk_eq p 1 (fun y => pk_le 8 n1 (fun x => ?_) (fun x => ?_)) (fun y => ?_)
    · rw [if_pos y, hz, if_pos (show n1 = 8 by omega)] at L
      rw [hz, if_pos (show n1 = 8 by omega)]
      exact L
    · rw [if_pos y, hz, if_neg (show ¬ n1 = 8 by omega)] at L
      rw [hz, if_neg (show ¬ n1 = 8 by omega)]
      exact L
    · rw [if_neg y] at L
      exact L
  refine pk_le n1 0 (fun y => pk_le 8 n1 (fun x => absurd x (by omega)) (fun x => ?_)) (fun y => pk_le 8 n1 (fun x => ?_) (fun x => ?_))
  · exact K 1 0 (by rw [if_neg (by omega)]) (by rw [if_pos (by omega)])
  · exact K 0 1 (by rw [if_pos (by omega)]) (by rw [if_neg (by omega)])
  · exact K 1 1 (by rw [if_neg (by omega)]) (by rw [if_neg (by omega)])
end
theorem mr_init {post : St2 → Prop} {p0 p1 : Int32} {p : Nat} (hc1 : 1 ≤ p0 → p0 ≤ 4 → p0 = nI p) (hc2 : 1 ≤ p0 → ¬ p0 ≤ 4 → p = 4) (hc3 : ¬ 1 ≤ p0 → p = 1)
    (H : ∀ B, 2 ≤ B → B ≤ 8 → post (nI p, nI B, 16, 1, 0, -2147483648, 2147483647, 0, 0, 0, 0, 0, 0, (fun _ => 0), (fun _ => 0), (fun _ => 0), (fun _ => 0), (fun _ => 0), (fun _ => 0), (fun _ => 0), (fun _ => 0), (fun _ => 0), (fun _ => 0), (fun _ => 0), (fun _ => 0), (fun _ => 0), (fun _ => 0), (fun _ => 0))) :
    wpX_init post 15 545 (0, 0, 0, 0, 0, 0, 0, 0, 0, 0, 0, 0, 0) p0 p1 := by
  have T : ∀ z : Int32, z = nI p → wX_init_141 post 15 545 p1 z 15 545 0 0 0 0 0 0 0 0 0 0 0 0 0 (fun _ => 0) (fun _ => 0) (fun _ => 0) (fun _ => 0) (fun _ => 0) (fun _ => 0) (fun _ => 0) (fun _ => 0) (fun _ => 0) (fun _ => 0) (fun _ => 0) (fun _ => 0) (fun _ => 0) (fun _ => 0) (fun _ => 0) := by
    intro z hz
    subst hz
    refine br_c (fun y => br_c (fun x => ?_) (fun x => ?_)) (fun y => ?_)
    · obtain ⟨B, hB, e⟩ := nI_of2 (x := p1) (M := 8) (n := 8) (by decide) (mr_nn2 y) x
      subst e
      have : 2 ≤ B := by
        rcases Nat.lt_or_ge B 2 with w | w
        · exact absurd y (nI_ge (b := 2) w (by decide))
        · exact w
      exact H B this hB
    · exact H 8 (by omega) (by omega)
    · exact H 2 (by omega) (by omega)
  refine ⟨by decide, by decide, by decide, by decide, by decide, by decide, by decide, by decide, by decide, by decide, by decide, by decide, by decide, by decide, by decide, by decide, by decide, by decide, by decide, by decide, by decide, by decide, by decide, by decide, by decide, by decide, by decide, by decide, by decide, by decide, ?_⟩
  refine br_c (fun y => br_c (fun x => T p0 (hc1 y x)) (fun x => T 4 ?_)) (fun y => T 1 ?_)
  · rw [hc2 y x]; rfl
  · rw [hc3 y]; rfl
theorem mr_law {post : Int32 → St0 → Prop} (p0 p1 p2 p3 p4 : Int32) (hpost : post 1 ()) : wpL_lawOf post 16 573 () p0 p1 p2 p3 p4 := by
  have M : ∀ (p : Nat) (z : Int32), z = nI p → 1 ≤ p → p ≤ 4 → (1 ≤ p4 → p4 ≤ 4 → p4 = nI p) → (1 ≤ p4 → ¬ p4 ≤ 4 → p = 4) → (¬ 1 ≤ p4 → p = 1) → wL_lawOf_22 post 16 573 p0 p1 p2 p3 p4 z 0 0 := by
    intro p z hz q1 q2 c1 c2 c3
    subst hz
    exact ⟨by decide, by decide, 15, 545, by decide, by decide, mr_init c1 c2 c3 (fun B b1 b2 => mr_from q1 q2 b1 b2 (fun _ _ => rfl) (fun _ _ => rfl) (fun _ _ => rfl) hpost)⟩
  refine br_c (fun y => br_c (fun x => ?_) (fun x => ?_)) (fun y => ?_)
  · obtain ⟨p, hp, e⟩ := nI_of2 (x := p4) (M := 4) (n := 4) (by decide) (mr_nn1 y) x
    have : 1 ≤ p := by
      rcases Nat.lt_or_ge p 1 with w | w
      · rw [e] at y; exact absurd y (nI_ge (b := 1) w (by decide))
      · exact w
    exact M p p4 e this hp (fun _ _ => e) (fun _ w => absurd x w) (fun w => absurd y w)
  · exact M 4 4 rfl (by omega) (by omega) (fun _ w => absurd w x) (fun _ _ => rfl) (fun w => absurd y w)
  · exact M 1 1 rfl (by omega) (by omega) (fun w => absurd w y) (fun w => absurd w y) (fun _ => rfl)
theorem mr_cell {post : Int32 → Prop} {L : Nat} {xs : Nat → Int32} (hL : L ≤ 5) (k : Nat) (hk : k < 5) (H : ∀ r, post r) {x : Int32} (hx : x = nI k) : wpL_cellAt post L xs () x :=
  pk_le L k (fun _ => H 0) (fun z => ⟨pk_in k L z hx, H _⟩) rfl hx
theorem i_vc (xs : Nat → Int32) (L : Nat) (hL : L ≤ 5) : wpL_law (fun r => r = 1) L xs :=
  mr_cell hL 0 (by omega) (fun r1 => mr_cell hL 1 (by omega) (fun r2 => mr_cell hL 2 (by omega) (fun r3 => mr_cell hL 3 (by omega) (fun r4 => mr_cell hL 4 (by omega) (fun r5 =>
    ⟨16, 573, by decide, by decide, mr_law r1 r2 r3 r4 r5 rfl⟩) rfl) rfl) rfl) rfl) rfl
end
