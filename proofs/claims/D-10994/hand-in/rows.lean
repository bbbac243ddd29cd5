section
/-! the pure picture: one cell q of the table holds e, all others hold 0 -/
def fr_v (q e j : Nat) : Nat := if j = q then e else 0
def fr_E (N q e : Nat) (a : Nat → Int32) : Prop := 2 ≤ N ∧ N ≤ 5 ∧ e < 3 * (N + 1) ∧ ∀ j, a j = nI (fr_v q e j)
theorem fr_v_lt {N q e j : Nat} (h : e < 3 * (N + 1)) : fr_v q e j < 3 * (N + 1) := by
  unfold fr_v
  split <;> omega
theorem fr_v_ne {q e j k : Nat} (h : j ≠ k) : fr_v q e j = 0 ∨ fr_v q e k = 0 := by
  unfold fr_v
  by_cases hj : j = q
  · right
    rw [if_neg (by omega)]
  · left
    rw [if_neg hj]
theorem fr_m1 {k : Nat} (h : k < 2 ^ 31) : nI k - 1 = -1 ↔ k = 0 := by
  constructor
  · intro z
    cases k with
    | zero => rfl
    | succ k =>
      rw [nI_pred] at z
      exact absurd (show nI k < 0 by rw [z]; decide) (nI_pos (by omega))
  · intro z
    subst z
    decide
theorem fr_ix2 (s i : Nat) : 2 * nI s + nI i = nI (2 * s + i) := by
  rw [show (2 : Int32) = nI 2 from rfl, pk_mul, nI_add]
theorem fr_ix5 (s t : Nat) : 5 * nI s + nI t = nI (5 * s + t) := by
  rw [show (5 : Int32) = nI 5 from rfl, pk_mul, nI_add]
theorem fr_div {k N : Nat} (h : k < N * N) : k / N < N ∧ k % N < N := by
  have hN : 0 < N := by
    rcases Nat.eq_zero_or_pos N with z | z
    · subst z
      omega
    · exact z
  exact ⟨Nat.div_lt_of_lt_mul h, Nat.mod_lt k hN⟩
theorem fr_sq {N : Nat} (h : N ≤ 5) : N * N ≤ 25 := Nat.mul_le_mul h h
theorem fr_fill {f s : Nat → Int32} {i k : Nat} {x : Int32} (hk : k = i) (h : ∀ j, j < i → s j = f j) (hx : x = f i) : ∀ j, j < i + 1 → upd s k x j = f j := by
  intro j hj
  rw [hk]
  by_cases e : j = i
  · rw [e, pk_us, hx]
  · rw [pk_un e]
    exact h j (by omega)
/-! tables -/
theorem fr_sh : ∀ N, N < 6 → (1 : Int32) <<< (nI N &&& 31) = nI (2 ^ N) := by decide +kernel
theorem fr_or : ∀ N, N < 6 → ∀ t, t < 2 ^ N → ∀ r, r < N → nI t ||| ((1 : Int32) <<< (nI r &&& 31)) = nI (t ||| 2 ^ r) ∧ t ||| 2 ^ r < 2 ^ N := by decide +kernel
theorem fr_sub : ∀ N, N < 6 → ∀ t, t < 2 ^ N → nI t &&& (nI (2 ^ N - 1) ^^^ (-1)) = 0 := by decide +kernel
theorem fr_bit : ∀ N, N < 6 → ∀ s, s < N → (nI (2 ^ N - 1) >>> (nI s &&& 31)) &&& 1 = 1 := by decide +kernel
theorem fr_k : ∀ k, k < 2 → nI k >>> ((1 : Int32) &&& 31) = nI 0 ∧ nI k &&& 1 = nI k := by decide +kernel
theorem fr_pw : ∀ N, N < 6 → 2 ≤ N → 4 ≤ 2 ^ N ∧ 2 ^ N ≤ 32 := by decide +kernel
section
variable {N q e : Nat} {f1 f2 f3 f4 f5 f6 : Int32} {a1 a2 a3 a4 a5 a6 a7 a8 a9 a10 : Nat → Int32}
theorem fr_next {post : Int32 → Prop} {s i : Nat} (hE : fr_E N q e a1) (hs : s < N) (hi : i < 2) (H : post (nI (fr_v q e (2 * s + i) / 3) - 1)) : wpX_next post (nI N, f1, f2, f3, f4, f5, f6, a1, a2, a3, a4, a5, a6, a7, a8, a9, a10) (nI s) (nI i) := by
  obtain ⟨h2, h5, he, ha⟩ := hE
  have hv := fr_v_lt (q := q) (j := 2 * s + i) he
  unfold wpX_next
  dsimp only
  rw [fr_ix2, nI_clamp (by omega), ha, show (3 : Int32) = nI 3 from rfl, pk_div (by omega) (by omega) (by omega)]
  exact ⟨vp_in_nI (by omega) (by omega), nI_ne0 (by omega) (by omega), H⟩
theorem fr_output {post : Int32 → Prop} {s i : Nat} (hE : fr_E N q e a1) (hs : s < N) (hi : i < 2) (H : post (nI (fr_v q e (2 * s + i) % 3) - 1)) : wpX_output post (nI N, f1, f2, f3, f4, f5, f6, a1, a2, a3, a4, a5, a6, a7, a8, a9, a10) (nI s) (nI i) := by
  obtain ⟨h2, h5, he, ha⟩ := hE
  have hv := fr_v_lt (q := q) (j := 2 * s + i) he
  unfold wpX_output
  dsimp only
  rw [fr_ix2, nI_clamp (by omega), ha, show (3 : Int32) = nI 3 from rfl, pk_rem (by omega) (by omega) (by omega)]
  exact ⟨vp_in_nI (by omega) (by omega), nI_ne0 (by omega) (by omega), H⟩
theorem fr_splits {post : Int32 → Prop} {s t i l : Nat} (hE : fr_E N q e a1) (hL : ∀ j, j < 25 → a2 j = 1000) (hs : s < N) (ht : t < N) (hi : i < 2) (hl : 1 ≤ l) (hl2 : l ≤ 25) (H : post 0) : wpX_splits post (nI N, f1, f2, f3, f4, f5, f6, a1, a2, a3, a4, a5, a6, a7, a8, a9, a10) (nI s) (nI t) (nI i) (nI l) := by
  have h5 := hE.2.1
  have he := hE.2.2.1
  have hv := fr_v_lt (q := q) (j := 2 * s + i) he
  have hw := fr_v_lt (q := q) (j := 2 * t + i) he
  unfold wpX_splits
  dsimp only
  refine pk_eq l 1 (fun z => fr_output hE hs hi (fr_output hE ht hi ?_)) (fun z => fr_next hE hs hi (fr_next hE ht hi ?_))
  · refine br_c (fun _ => H) (fun y8 => br_c (fun _ => H) (fun y9 => br_c (fun _ => H) (fun y => absurd ?_ y)))
    rcases Nat.decEq s t with st | st
    · rcases fr_v_ne (q := q) (e := e) (show 2 * s + i ≠ 2 * t + i by omega) with z0 | z0
      · exact absurd (by rw [z0]; decide) y8
      · exact absurd (by rw [z0]; decide) y9
    · rw [st]
  · refine br_c (fun _ => H) (fun y8 => br_c (fun _ => H) (fun y9 => ?_))
    have hp : fr_v q e (2 * s + i) / 3 ≠ 0 := fun z0 => y8 ((fr_m1 (by omega)).mpr z0)
    have hq : fr_v q e (2 * t + i) / 3 ≠ 0 := fun z0 => y9 ((fr_m1 (by omega)).mpr z0)
    obtain ⟨x, hx⟩ : ∃ x, fr_v q e (2 * s + i) / 3 = x + 1 := ⟨fr_v q e (2 * s + i) / 3 - 1, by omega⟩
    obtain ⟨y, hy⟩ : ∃ y, fr_v q e (2 * t + i) / 3 = y + 1 := ⟨fr_v q e (2 * t + i) / 3 - 1, by omega⟩
    rw [hx, hy, nI_pred, nI_pred, fr_ix5, nI_clamp (by omega), hL _ (by omega)]
    obtain ⟨l', rfl⟩ : ∃ l', l = l' + 1 := ⟨l - 1, by omega⟩
    rw [nI_pred]
    exact ⟨vp_in_nI (by omega) (by omega), pk_eq 1000 l' (fun z => absurd z (by omega)) (fun _ => H)⟩
end
end
section
section
variable {N q e : Nat} {f1 f2 f3 f4 f5 f6 : Int32} {a1 a2 a3 a4 a5 a6 a7 a8 a9 a10 : Nat → Int32}
theorem fr_lp33 {post : St2 → Prop} {J : Int32 → (Nat → Int32) → (Nat → Int32) → (Nat → Int32) → (Nat → Int32) → (Nat → Int32) → (Nat → Int32) → (Nat → Int32) → (Nat → Int32) → (Nat → Int32) → (Nat → Int32) → Prop} {l : Nat}
    (hE : fr_E N q e a1) (hL : ∀ j, j < 25 → a2 j = 1000) (hl : 1 ≤ l) (hl2 : l ≤ 25) (H : J (nI (l + 1)) a1 a2 a3 a4 a5 a6 a7 a8 a9 a10) :
    ∃ n, wX_levelPairs_33 post J (nI l) (nI N) f1 f2 f3 f4 f5 f6 n 0 a1 a2 a3 a4 a5 a6 a7 a8 a9 a10 := by
  have h2 := hE.1
  have h5 := hE.2.1
  have hq := fr_sq h5
  refine pk_loop (σ := Unit) (fun n k _ => wX_levelPairs_33 post J (nI l) (nI N) f1 f2 f3 f4 f5 f6 n (nI k) a1 a2 a3 a4 a5 a6 a7 a8 a9 a10) (fun _ _ => True) (N * N) 0 () (by omega) trivial ?_ ?_
  · intro n _ _
    exact pk_le (N * N) (N * N) (fun _ => nm_r (nI_1 l) H) (fun z => absurd z (by omega)) (pk_mul N N) rfl (by omega) (by omega)
  · intro n k _ hk _ hw
    obtain ⟨hs, ht⟩ := fr_div hk
    refine pk_le (N * N) k (fun z => absurd z (by omega)) (fun _ => ⟨nI_ne0 (by omega) (by omega), nm_r (pk_div (by omega) (by omega) (by omega)) ⟨nI_ne0 (by omega) (by omega), nm_r (pk_rem (by omega) (by omega) (by omega)) ⟨pk_in (5 * (k / N) + k % N) 25 (by omega) (fr_ix5 _ _), br_t ?_ ?_⟩⟩⟩) (pk_mul N N) rfl (by omega) (by omega)
    · rw [fr_ix5, nI_clamp (by omega)]
      exact hL _ (by omega)
    · exact fr_splits (i := 0) hE hL hs ht (by omega) hl hl2 (br_t rfl (fr_splits (i := 1) hE hL hs ht (by omega) hl hl2 (br_t rfl (nm_r (nI_1 k) (hw () trivial)))))
theorem fr_lp25 {post : St2 → Prop} (hE : fr_E N q e a1) (hL : ∀ j, j < 25 → a2 j = 1000) (H : post (nI N, f1, f2, f3, f4, f5, f6, a1, a2, a3, a4, a5, a6, a7, a8, a9, a10)) :
    ∃ n, wX_levelPairs_25 post (nI N) f1 f2 f3 f4 f5 f6 n 1 a1 a2 a3 a4 a5 a6 a7 a8 a9 a10 :=
  pk_loop (σ := Unit) (fun n i _ => wX_levelPairs_25 post (nI N) f1 f2 f3 f4 f5 f6 n (nI i) a1 a2 a3 a4 a5 a6 a7 a8 a9 a10) (fun i _ => 1 ≤ i) 26 1 () (by omega) (by omega)
    (fun n _ _ => pk_lt 25 26 (fun _ => H) (fun z => absurd z (by omega)))
    (fun n i _ hi h1 hw => pk_lt 25 i (fun z => absurd z (by omega)) (fun _ => fr_lp33 hE hL h1 (by omega) (hw () (by omega))))
theorem fr_levelPairs {post : St2 → Prop} (hE : fr_E N q e a1) (H : ∀ b2 : Nat → Int32, (∀ j, j < 25 → b2 j = 1000) → post (nI N, f1, f2, f3, f4, f5, f6, a1, b2, a3, a4, a5, a6, a7, a8, a9, a10)) :
    wpX_levelPairs post (nI N, f1, f2, f3, f4, f5, f6, a1, a2, a3, a4, a5, a6, a7, a8, a9, a10) :=
  pk_loop (fun n i s => wX_levelPairs_2 post (nI N) f1 f2 f3 f4 f5 f6 n (nI i) a1 s a3 a4 a5 a6 a7 a8 a9 a10) (fun i s => ∀ j, j < i → s j = 1000) 25 0 a2 (by omega) (fun j hj => absurd hj (by omega))
    (fun n s h => pk_le 25 25 (fun _ => fr_lp25 hE h (H s h)) (fun z => absurd z (by omega)))
    (fun n i s hi h hw => pk_le 25 i (fun z => absurd z (by omega)) (fun _ => ⟨pk_in i 25 hi, nm_e (nm_r (nI_1 i) (hw _ (fr_fill (f := fun _ => 1000) (nI_clamp (by omega)) h rfl)))⟩))
theorem fr_holds {post : Int32 → Prop} {x : Int32} (h2 : 2 ≤ N) (h5 : N ≤ 5) (hL : ∀ j, j < 25 → a2 j = 1000) (H : post 1) :
    wpX_holdsTogether post (nI N, f1, f2, f3, f4, f5, f6, a1, a2, a3, a4, a5, a6, a7, a8, a9, a10) x := by
  have hq := fr_sq h5
  refine pk_loop (σ := Unit) (fun n k _ => wX_holdsTogether_2 post x (nI N) f1 f2 f3 f4 f5 f6 a1 a2 a3 a4 a5 a6 a7 a8 a9 a10 n (nI k)) (fun _ _ => True) (N * N) 0 () (by omega) trivial ?_ ?_
  · intro n _ _
    exact pk_le (N * N) (N * N) (fun _ => H) (fun z => absurd z (by omega)) (pk_mul N N) rfl (by omega) (by omega)
  · intro n k _ hk _ hw
    obtain ⟨hs, ht⟩ := fr_div hk
    refine pk_le (N * N) k (fun z => absurd z (by omega)) (fun _ => ⟨nI_ne0 (by omega) (by omega), nm_r (pk_div (by omega) (by omega) (by omega)) ⟨nI_ne0 (by omega) (by omega), nm_r (pk_rem (by omega) (by omega) (by omega)) (br_c (fun _ => br_c (fun _ => ⟨pk_in (5 * (k / N) + k % N) 25 (by omega) (fr_ix5 _ _), br_t ?_ (nm_r (nI_1 k) (hw () trivial))⟩) (fun _ => nm_r (nI_1 k) (hw () trivial))) (fun _ => nm_r (nI_1 k) (hw () trivial)))⟩⟩) (pk_mul N N) rfl (by omega) (by omega)
    rw [fr_ix5, nI_clamp (by omega)]
    exact hL _ (by omega)
end
end
section
section
variable {N C : Nat} {f1 f2 f3 f4 f5 f6 : Int32} {a1 a2 a3 a4 a5 a6 a7 a8 a9 a10 : Nat → Int32}
theorem fr_ls68 {post : St2 → Prop} (hC : C ≤ 31) (H : ∀ b4 : Nat → Int32, post (nI N, f1, f2, f3, f4, f5, f6, a1, a2, a3, b4, a5, a6, a7, a8, a9, a10)) :
    ∃ n, wX_listSets_68 post (nI N) f1 f2 f3 f4 f5 f6 n (nI C - 1) a1 a2 a3 a4 a5 a6 a7 a8 a9 a10 := by
  refine ⟨C + 1, pk_loopD (fun n i s => wX_listSets_68 post (nI N) f1 f2 f3 f4 f5 f6 n (nI i - 1) a1 a2 a3 s a5 a6 a7 a8 a9 a10) (fun i _ => i ≤ 31) ?_ ?_ C a4 hC⟩
  · intro n s _
    exact br_t (show nI 0 - 1 < 0 by decide) (H s)
  · intro n i s hi hw
    show wX_listSets_68 post (nI N) f1 f2 f3 f4 f5 f6 (n + 1) (nI (i + 1) - 1) a1 a2 a3 s a5 a6 a7 a8 a9 a10
    rw [nI_pred]
    exact br_f (nI_pos (by omega)) ⟨pk_in (i + 1) 32 (by omega) (nI_1 i), pk_in i 31 (by omega), pk_in i 32 (by omega), nm_e (nm_r (Int32.sub_eq_add_neg _ _).symm (hw _ (by omega)))⟩
theorem fr_listSets {post : St2 → Prop} (h2 : 2 ≤ N) (h5 : N ≤ 5) (hC : C + 1 = 2 ^ N) (hL : ∀ j, j < 25 → a2 j = 1000)
    (H : ∀ b3 b4 : Nat → Int32, (∀ j, j < C → b3 j = nI (j + 1)) → post (nI N, nI C, f2, f3, f4, f5, f6, a1, a2, b3, b4, a5, a6, a7, a8, a9, a10)) : wpX_listSets post (nI N, f1, f2, f3, f4, f5, f6, a1, a2, a3, a4, a5, a6, a7, a8, a9, a10) := by
  have hp := fr_pw N (by omega) h2
  refine pk_loop (fun n i s => wX_listSets_7 post (nI N) f2 f3 f4 f5 f6 n (nI (i + 1)) (nI i) a1 a2 s a4 a5 a6 a7 a8 a9 a10) (fun i s => ∀ j, j < i → s j = nI (j + 1)) C 0 a3 (by omega) (fun j hj => absurd hj (by omega)) ?_ ?_
  · intro n s h
    refine br_t ?_ ⟨pk_in C 32 (by omega), nm_e (nm_e (fr_ls68 (by omega) (fun b4 => H s b4 h)))⟩
    rw [fr_sh N (by omega)]
    exact nI_le (by omega) (by omega)
  · intro n i s hi h hw
    refine br_f ?_ (fr_holds h2 h5 hL (br_f (by decide) ⟨pk_in i 31 (by omega), nm_e (nm_r (nI_1 i) (nm_r (nI_1 (i + 1)) (hw _ (fr_fill (f := fun j => nI (j + 1)) (nI_clamp (by omega)) h rfl))))⟩))
    rw [fr_sh N (by omega)]
    exact nI_ge (by omega) (by omega)
theorem fr_ll21 {post : St2 → Prop} {J : Int32 → Int32 → (Nat → Int32) → (Nat → Int32) → (Nat → Int32) → (Nat → Int32) → (Nat → Int32) → (Nat → Int32) → (Nat → Int32) → (Nat → Int32) → (Nat → Int32) → (Nat → Int32) → Prop} {i m : Nat}
    (hC : C ≤ 31) (hi : i < C) (hm : m ≤ i) (H0 : J (nI (i + 1)) (nI m) a1 a2 a3 a4 a5 a6 a7 a8 a9 a10) (H1 : ∀ b5 : Nat → Int32, J (nI (i + 1)) (nI (m + 1)) a1 a2 a3 a4 b5 a6 a7 a8 a9 a10) :
    ∃ n, wX_listLargest_21 post J (nI i) (nI N) (nI C) (nI m) f3 f4 f5 f6 a1 a2 a3 a4 a5 a6 a7 a8 a9 a10 n 1 (nI (i + 1)) := by
  refine pk_loop (fun n k s => wX_listLargest_21 post J (nI i) (nI N) (nI C) (nI m) f3 f4 f5 f6 a1 a2 a3 a4 a5 a6 a7 a8 a9 a10 n s (nI k)) (fun k _ => i < k) C (i + 1) 1 (by omega) (by omega) ?_ ?_
  · intro n s _
    exact pk_le C C (fun _ => br_c (fun _ => nm_r (nI_1 i) H0) (fun _ => ⟨pk_in i 31 (by omega), pk_in m 31 (by omega), nm_e (nm_r (nI_1 m) (nm_r (nI_1 i) (H1 _)))⟩)) (fun z => absurd z (by omega))
  · intro n k s hk h hw
    exact pk_le C k (fun z => absurd z (by omega)) (fun _ => br_c (fun _ => nm_r (nI_1 k) (hw _ (by omega))) (fun _ => ⟨pk_in i 31 (by omega), pk_in k 31 (by omega), br_c (fun _ => nm_r (nI_1 k) (hw _ (by omega))) (fun _ => nm_r (nI_1 k) (hw _ (by omega)))⟩))
theorem fr_listLargest {post : St2 → Prop} (hC : C ≤ 31) (H : ∀ (m : Nat) (b5 : Nat → Int32), post (nI N, nI C, nI m, f3, f4, f5, f6, a1, a2, a3, a4, b5, a6, a7, a8, a9, a10)) :
    wpX_listLargest post (nI N, nI C, f2, f3, f4, f5, f6, a1, a2, a3, a4, a5, a6, a7, a8, a9, a10) := by
  refine pk_loop (σ := Nat × (Nat → Int32)) (fun n i s => wX_listLargest_7 post (nI N) (nI C) f3 f4 f5 f6 n (nI i) (nI s.1) a1 a2 a3 a4 s.2 a6 a7 a8 a9 a10) (fun i s => s.1 ≤ i) C 0 (0, a5) (by omega) (by simp) ?_ ?_
  · intro n s h
    exact pk_le C C (fun _ => H s.1 s.2) (fun z => absurd z (by omega))
  · intro n i s hi h hw
    exact pk_le C i (fun z => absurd z (by omega)) (fun _ => nm_r (nI_1 i) (fr_ll21 hC hi h (hw (s.1, s.2) (Nat.le_succ_of_le h)) (fun b5 => hw (s.1 + 1, b5) (Nat.succ_le_succ h))))
end
end
section
section
variable {N q e C : Nat} {f1 f2 f3 f4 f5 f6 : Int32} {a1 a2 a3 a4 a5 a6 a7 a8 a9 a10 : Nat → Int32}
theorem fr_image {post : Int32 → Prop} {x : Int32} {i : Nat} (hE : fr_E N q e a1) (hi : i < 2) (H : ∀ t, t < 2 ^ N → post (nI t)) :
    wpX_image post (nI N, f1, f2, f3, f4, f5, f6, a1, a2, a3, a4, a5, a6, a7, a8, a9, a10) x (nI i) := by
  have h2 := hE.1
  have h5 := hE.2.1
  have he := hE.2.2.1
  have hp := fr_pw N (by omega) h2
  refine pk_loop (fun n k t => wX_image_5 post x (nI i) (nI N) f1 f2 f3 f4 f5 f6 a1 a2 a3 a4 a5 a6 a7 a8 a9 a10 n (nI t) (nI k)) (fun _ t => t < 2 ^ N) N 0 0 (by omega) (by omega) ?_ ?_
  · intro n t ht
    exact pk_le N N (fun _ => H t ht) (fun z => absurd z (by omega))
  · intro n k t hk ht hw
    have hv := fr_v_lt (q := q) (j := 2 * k + i) he
    refine pk_le N k (fun z => absurd z (by omega)) (fun _ => fr_next hE hk hi (br_c (fun _ => br_c (fun _ => nm_r (nI_1 k) (hw t ht)) (fun y => ?_)) (fun _ => nm_r (nI_1 k) (hw t ht))))
    have hr : fr_v q e (2 * k + i) / 3 ≠ 0 := fun z0 => y ((fr_m1 (by omega)).mpr z0)
    obtain ⟨r, hx⟩ : ∃ r, fr_v q e (2 * k + i) / 3 = r + 1 := ⟨fr_v q e (2 * k + i) / 3 - 1, by omega⟩
    obtain ⟨o1, o2⟩ := fr_or N (by omega) t ht r (by omega)
    rw [hx, nI_pred]
    exact nm_r o1 (nm_r (nI_1 k) (hw _ o2))
theorem fr_first {post : Int32 → Prop} {t : Nat} (h5 : N ≤ 5) (hC : C + 1 = 2 ^ N) (h8 : a8 0 = nI C) (ht : t < 2 ^ N) (H : post 0) :
    wpX_firstWith post (nI N, f1, f2, 1, f4, f5, f6, a1, a2, a3, a4, a5, a6, a7, a8, a9, a10) (nI t) := by
  refine ⟨1, pk_le 1 0 (fun z => absurd z (by omega)) (fun _ => ⟨pk_in 0 5 (by omega), br_t ?_ H⟩)⟩
  rw [sb_cl0, h8, show C = 2 ^ N - 1 by omega]
  exact fr_sub N (by omega) t ht
theorem fr_shared {post : Int32 → Prop} {i : Nat} (hE : fr_E N q e a1) (hC : C + 1 = 2 ^ N) (hi : i < 2)
    (H : ∀ r : Int32, (fr_v q e i % 3 ≠ 0 → r = nI (fr_v q e i % 3) - 1) → post r) : wpX_sharedOutput post (nI N, f1, f2, f3, f4, f5, f6, a1, a2, a3, a4, a5, a6, a7, a8, a9, a10) (nI C) (nI i) := by
  have h2 := hE.1
  have h5 := hE.2.1
  refine pk_loop (σ := Unit) (fun n k _ => wX_sharedOutput_2 post (nI C) (nI i) (nI N) f1 f2 f3 f4 f5 f6 a1 a2 a3 a4 a5 a6 a7 a8 a9 a10 n (nI k)) (fun k _ => k = 0 ∨ fr_v q e i % 3 = 0) N 0 () (by omega) (Or.inl rfl) ?_ ?_
  · intro n _ h
    exact pk_le N N (fun _ => H (-1) (fun z => absurd z (by omega))) (fun z => absurd z (by omega))
  · intro n k _ hk h hw
    refine pk_le N k (fun z => absurd z (by omega)) (fun _ => br_t ?_ (fr_output hE hk hi (br_c (fun y => nm_r (nI_1 k) (hw () (Or.inr ?_))) (fun y => H _ (fun z => ?_)))))
    · rw [show C = 2 ^ N - 1 by omega]
      exact fr_bit N (by omega) k hk
    · rcases h with h | h
      · subst h
        rw [Nat.mul_zero, Nat.zero_add] at y
        exact (fr_m1 (by omega)).mp y
      · exact h
    · rcases h with h | h
      · subst h
        rw [Nat.mul_zero, Nat.zero_add]
      · exact absurd h z
/-- what the classes hold: for the two inputs the output of state 0 where it is known -/
def fr_O (q e : Nat) (a : Nat → Int32) : Prop := ∀ i, i < 2 → fr_v q e i % 3 ≠ 0 → a i = nI (fr_v q e i % 3) - 1
theorem fr_build {post : St2 → Prop} (hE : fr_E N q e a1) (hC : C + 1 = 2 ^ N) (h8 : a8 0 = nI C)
    (H : ∀ b9 b10 : Nat → Int32, fr_O q e b10 → post (nI N, f1, f2, 1, f4, f5, f6, a1, a2, a3, a4, a5, a6, a7, a8, b9, b10)) : wpX_buildClasses post (nI N, f1, f2, 1, f4, f5, f6, a1, a2, a3, a4, a5, a6, a7, a8, a9, a10) := by
  have h5 := hE.2.1
  refine pk_loop (σ := (Nat → Int32) × (Nat → Int32)) (fun n i s => wX_buildClasses_2 post (nI N) f1 f2 1 f4 f5 f6 n (nI i) a1 a2 a3 a4 a5 a6 a7 a8 s.1 s.2) (fun i s => ∀ j, j < i → fr_v q e j % 3 ≠ 0 → s.2 j = nI (fr_v q e j % 3) - 1) 2 0 (a9, a10) (by omega) (fun j hj => absurd hj (by omega)) ?_ ?_
  · intro n s h
    exact pk_le 2 2 (fun _ => H s.1 s.2 h) (fun z => absurd z (by omega))
  · intro n i s hi h hw
    refine pk_le 2 i (fun z => absurd z (by omega)) (fun _ => ?_)
    obtain ⟨k1, k2⟩ := fr_k i hi
    rw [k1, k2, nI_clamp (show 0 < 2 ^ 31 by omega), nI_clamp (show i < 2 ^ 31 by omega), h8]
    refine ⟨pk_in 0 5 (by omega), fr_image hE hi (fun t ht => fr_first h5 hC h8 ht ⟨pk_in i 10 (by omega), nm_e ⟨pk_in 0 5 (by omega), fr_shared hE hC hi (fun r hr => ⟨pk_in i 10 (by omega), nm_e (nm_r (nI_1 i) (hw (_, _) ?_))⟩)⟩⟩)⟩
    intro j hj hz
    show upd s.2 i r j = _
    by_cases ej : j = i
    · subst ej
      rw [pk_us]
      exact hr hz
    · rw [pk_un ej]
      exact h j (by omega) hz
theorem fr_ic37 {post : Int32 → St2 → Prop} (hE : fr_E N q e a1) (hC : C + 1 = 2 ^ N) (h8 : a8 0 = nI C) (H : post 1 (nI N, f1, f2, 1, f4, f5, f6, a1, a2, a3, a4, a5, a6, a7, a8, a9, a10)) :
    ∃ n, wX_isClosed_37 post 1 (nI N) f1 f2 1 f4 f5 f6 a1 a2 a3 a4 a5 a6 a7 a8 a9 a10 n 0 := by
  have h5 := hE.2.1
  refine pk_loop (σ := Unit) (fun n i _ => wX_isClosed_37 post 1 (nI N) f1 f2 1 f4 f5 f6 a1 a2 a3 a4 a5 a6 a7 a8 a9 a10 n (nI i)) (fun _ _ => True) 2 0 () (by omega) trivial ?_ ?_
  · intro n _ _
    exact pk_le 2 2 (fun _ => H) (fun z => absurd z (by omega))
  · intro n i _ hi _ hw
    refine pk_le 2 i (fun z => absurd z (by omega)) (fun _ => ?_)
    obtain ⟨k1, k2⟩ := fr_k i hi
    rw [k1, k2]
    exact ⟨pk_in 0 5 (by omega), fr_image hE hi (fun t ht => fr_first h5 hC h8 ht (br_f (by decide) (nm_r (nI_1 i) (hw () trivial))))⟩
theorem fr_isClosed {post : Int32 → St2 → Prop} {p : Nat} (hE : fr_E N q e a1) (hC : C + 1 = 2 ^ N) (hp : p < 31) (h6 : a6 0 = nI p) (h3 : a3 p = nI C)
    (H : ∀ b8 : Nat → Int32, b8 0 = nI C → post 1 (nI N, f1, f2, 1, f4, f5, f6, a1, a2, a3, a4, a5, a6, a7, b8, a9, a10)) : wpX_isClosed post (nI N, f1, f2, f3, f4, f5, f6, a1, a2, a3, a4, a5, a6, a7, a8, a9, a10) 1 := by
  refine pk_loop (fun n i s => wX_isClosed_7 post 1 (nI N) f1 f2 1 f4 f5 f6 n (nI i) a1 a2 a3 a4 a5 a6 a7 s a9 a10) (fun i s => i = 1 → s 0 = nI C) 1 0 a8 (by omega) (fun z => absurd z (by omega)) ?_ ?_
  · intro n s h
    exact pk_le 1 1 (fun _ => fr_ic37 hE hC (h rfl) (H s (h rfl))) (fun z => absurd z (by omega))
  · intro n i s hi h hw
    obtain rfl : i = 0 := by omega
    refine pk_le 1 0 (fun z => absurd z (by omega)) (fun _ => ?_)
    rw [nI_clamp (show 0 < 2 ^ 31 by omega), h6, nI_clamp (show p < 2 ^ 31 by omega), h3]
    exact ⟨pk_in 0 6 (by omega), pk_in p 31 (by omega), pk_in 0 5 (by omega), nm_e (nm_r (nI_1 0) (hw _ (fun _ => pk_us)))⟩
theorem fr_fc80 {post : Int32 → St2 → Prop} {J : Int32 → Int32 → Int32 → Int32 → Int32 → Int32 → Int32 → Int32 → Int32 → (Nat → Int32) → (Nat → Int32) → (Nat → Int32) → (Nat → Int32) → (Nat → Int32) → (Nat → Int32) → (Nat → Int32) → (Nat → Int32) → (Nat → Int32) → (Nat → Int32) → Prop} {i : Nat}
    (hE : fr_E N q e a1) (hC : C + 1 = 2 ^ N) (hi : i < C) (h3 : ∀ j, j < C → a3 j = nI (j + 1)) (h6 : a6 0 = nI i)
    (H0 : i + 1 < C → ∀ b7 : Nat → Int32, J 0 (nI (i + 1)) (nI N) f1 f2 f3 f4 f5 f6 a1 a2 a3 a4 a5 a6 b7 a8 a9 a10)
    (H1 : i + 1 = C → ∀ b7 b8 : Nat → Int32, b8 0 = nI C → post 1 (nI N, f1, f2, 1, f4, f5, f6, a1, a2, a3, a4, a5, a6, b7, b8, a9, a10)) :
    wX_findCover_80 post J 1 (nI C) 0 (nI i) 0 (nI N) f1 f2 f3 f4 f5 f6 a1 a2 a3 a4 a5 a6 a7 a8 a9 a10 := by
  have h2 := hE.1
  have h5 := hE.2.1
  have hp := fr_pw N (by omega) h2
  unfold wX_findCover_80
  rw [sb_cl0, h6, nI_clamp (show i < 2 ^ 31 by omega), h3 i hi]
  refine ⟨pk_in 0 6 (by omega), pk_in i 31 (by omega), pk_in 0 6 (by omega), nm_r (show upd a7 0 (0 ||| nI (i + 1)) = upd a7 0 (nI (i + 1)) by rw [Int32.zero_or]) (br_t (by decide) ⟨pk_in 0 6 (by omega), pk_eq (i + 1) C (fun z => ?_) (fun z => nm_r (nI_1 i) (H0 (by omega) _)) pk_us rfl (by omega) (by omega)⟩)⟩
  exact fr_isClosed hE hC (show i < 31 by omega) h6 (by rw [h3 i hi, z]) (fun b8 hb => br_f (by decide) (H1 z _ b8 hb))
theorem fr_findCover {post : Int32 → St2 → Prop} (hE : fr_E N q e a1) (hC : C + 1 = 2 ^ N) (h3 : ∀ j, j < C → a3 j = nI (j + 1))
    (H : ∀ b6 b7 b8 : Nat → Int32, b8 0 = nI C → post 1 (nI N, nI C, f2, 1, f4, f5, f6, a1, a2, a3, a4, a5, b6, b7, b8, a9, a10)) : wpX_findCover post (nI N, nI C, f2, f3, f4, f5, f6, a1, a2, a3, a4, a5, a6, a7, a8, a9, a10) 1 := by
  have h2 := hE.1
  have h5 := hE.2.1
  have hp := fr_pw N (by omega) h2
  unfold wpX_findCover
  dsimp only
  rw [fr_sh N (by omega), ← hC, nI_pred]
  refine nm_e (nm_e ?_)
  have step : ∀ (n i : Nat) (s : (Nat → Int32) × (Nat → Int32)), i < C → s.1 0 = nI i - 1 → (i + 1 < C → ∀ s' : (Nat → Int32) × (Nat → Int32), s'.1 0 = nI (i + 1) - 1 → wX_findCover_21 post 1 (nI C) n 0 (nI (i + 1)) (nI N) (nI C) f2 f3 f4 f5 f6 a1 a2 a3 a4 a5 s'.1 s'.2 a8 a9 a10) → wX_findCover_21 post 1 (nI C) (n + 1) 0 (nI i) (nI N) (nI C) f2 f3 f4 f5 f6 a1 a2 a3 a4 a5 s.1 s.2 a8 a9 a10 := by
    intro n i s hi h hw
    refine pk_le 500000 i (fun z => absurd z (by omega)) (fun _ => ?_)
    have e1 : upd s.1 0 (s.1 0 + 1) = upd s.1 0 (nI i) := by
      rw [h, Int32.sub_add_cancel]
    rw [sb_cl0]
    refine ⟨pk_in 0 6 (by omega), pk_in 0 6 (by omega), nm_r e1 ⟨pk_in 0 6 (by omega), br_t ?_ (br_t (by decide) (fr_fc80 hE hC hi h3 pk_us (fun z b7 => hw z (upd s.1 0 (nI i), b7) ?_) (fun _ b7 b8 hb => H _ b7 b8 hb)))⟩⟩
    · rw [pk_us, show nI C - 1 + 0 = nI (C - 1) by rw [Int32.add_zero]; exact pk_sub (b := 1) (by omega)]
      exact nI_le (by omega) (by omega)
    · rw [nI_pred]
      show upd s.1 0 (nI i) 0 = nI i
      exact pk_us
  refine pk_loop (σ := (Nat → Int32) × (Nat → Int32)) (fun n i s => wX_findCover_21 post 1 (nI C) n 0 (nI i) (nI N) (nI C) f2 f3 f4 f5 f6 a1 a2 a3 a4 a5 s.1 s.2 a8 a9 a10) (fun i s => s.1 0 = nI i - 1) (C - 1) 0 (upd a6 0 (-1), a7) (by omega) ?_ ?_ ?_
  · show upd a6 0 (-1) 0 = _
    rw [pk_us]
    decide
  · intro n s h
    exact step n (C - 1) s (by omega) h (fun z => absurd z (by omega))
  · intro n i s hi h hw
    exact step n i s (by omega) h (fun _ => hw)
end
end
section
/-- the state answers as computed, or is to be computed anew -/
def fr_G (N q e : Nat) (fc fi : Int32) (a1 a2 a10 : Nat → Int32) : Prop := fr_E N q e a1 ∧ (fc = 0 ∨ (fc = 1 ∧ fi = 0 ∧ (∀ j, j < 25 → a2 j = 1000) ∧ fr_O q e a10))
/-- x7 says whether x is a state -/
def fr_S (N : Nat) (x x7 : Int32) : Prop := (x7 = 0 ∧ (x < 0 ∨ nI N ≤ x)) ∨ (x7 = 1 ∧ ∃ j : Nat, j < N ∧ x = nI j)
/-- x9 says whether x is an input -/
def fr_I (x x9 : Int32) : Prop := (x9 = 0 ∧ ¬ x = 0 ∧ ¬ x = 1) ∨ (x9 = 1 ∧ ∃ i : Nat, i < 2 ∧ x = nI i)
section
variable {N q e C : Nat} {f1 f2 f3 f4 f5 f6 : Int32} {a1 a2 a3 a4 a5 a6 a7 a8 a9 a10 : Nat → Int32}
theorem fr_isState {post : Int32 → Prop} {x x7 : Int32} (h5 : N ≤ 5) (h : fr_S N x x7) (H : post x7) : wpX_isState post (nI N, f1, f2, f3, f4, f5, f6, a1, a2, a3, a4, a5, a6, a7, a8, a9, a10) x := by
  unfold wpX_isState
  dsimp only
  rcases h with ⟨rfl, h | h⟩ | ⟨rfl, j, hj, rfl⟩
  · exact br_t h H
  · exact br_c (fun _ => H) (fun _ => br_t h H)
  · exact br_f (nI_pos (by omega)) (br_f (nI_ge hj (by omega)) H)
theorem fr_isInput {post : Int32 → Prop} {x x9 : Int32} (h : fr_I x x9) (H : post x9) : wpX_isInput post () x := by
  unfold wpX_isInput
  rcases h with ⟨rfl, h0, h1⟩ | ⟨rfl, i, hi, rfl⟩
  · exact br_f h0 (br_f h1 H)
  · exact br_c (fun _ => H) (fun z => br_t (by
      have : i ≠ 0 := fun w => z (by rw [w]; rfl)
      obtain rfl : i = 1 := by omega
      rfl) H)
theorem fr_ref52 {post : St2 → Prop} (hE : fr_E N q e a1) (hC : C + 1 = 2 ^ N) (h8 : a8 0 = nI C)
    (H : ∀ b9 b10 : Nat → Int32, fr_O q e b10 → post (nI N, f1, f2, 1, f4, f5, 0, a1, a2, a3, a4, a5, a6, a7, a8, b9, b10)) : wX_refresh_52 post (nI N) f1 f2 1 f4 f5 f6 a1 a2 a3 a4 a5 a6 a7 a8 a9 a10 := by
  have h2 := hE.1
  have h5 := hE.2.1
  have hp := fr_pw N (by omega) h2
  unfold wX_refresh_52
  exact fr_build hE hC h8 (fun b9 b10 hO => fr_first (t := 1) h5 hC h8 (by omega) (H b9 b10 hO))
theorem fr_refresh {post : St2 → Prop} (hG : fr_G N q e f4 f6 a1 a2 a10)
    (H : ∀ (f1 f2 f3 : Int32) (a2 a3 a4 a5 a6 a7 a8 a9 a10 : Nat → Int32), (∀ j, j < 25 → a2 j = 1000) → fr_O q e a10 → post (nI N, f1, f2, f3, 1, f5, 0, a1, a2, a3, a4, a5, a6, a7, a8, a9, a10)) : wpX_refresh post (nI N, f1, f2, f3, f4, f5, f6, a1, a2, a3, a4, a5, a6, a7, a8, a9, a10) := by
  obtain ⟨hE, hG⟩ := hG
  have h2 := hE.1
  have h5 := hE.2.1
  have hp := fr_pw N (by omega) h2
  unfold wpX_refresh
  rcases hG with rfl | ⟨rfl, rfl, hL, hO⟩
  · obtain ⟨C, hC⟩ : ∃ C, C + 1 = 2 ^ N := ⟨2 ^ N - 1, by omega⟩
    refine br_t rfl (fr_levelPairs hE (fun b2 hL => fr_listSets h2 h5 hC hL (fun b3 b4 h3 => fr_listLargest (by omega) (fun m b5 => ⟨1, ?_⟩))))
    refine pk_lt N 1 (fun z => absurd z (by omega)) (fun _ => fr_findCover hE hC h3 (fun b6 b7 b8 h8 => br_f (by decide) (fr_ref52 hE hC h8 (fun b9 b10 hO => ?_))))
    exact H _ _ _ _ _ _ _ _ _ _ _ _ hL hO
  · exact br_f (by decide) (H _ _ _ _ _ _ _ _ _ _ _ _ hL hO)
theorem fr_compatible {post : Int32 → St2 → Prop} {x y x7 x8 : Int32} (hG : fr_G N q e f4 f6 a1 a2 a10) (h7 : fr_S N x x7) (h8 : fr_S N y x8)
    (H : ∀ (r f1 f2 f3 f4 f6 : Int32) (a2 a3 a4 a5 a6 a7 a8 a9 a10 : Nat → Int32), fr_G N q e f4 f6 a1 a2 a10 → (x7 = 0 → r = -1) → (x8 = 0 → r = -1) → (¬ x7 = 0 → ¬ x8 = 0 → r = 1) → post r (nI N, f1, f2, f3, f4, f5, f6, a1, a2, a3, a4, a5, a6, a7, a8, a9, a10)) : wpX_compatible post (nI N, f1, f2, f3, f4, f5, f6, a1, a2, a3, a4, a5, a6, a7, a8, a9, a10) x y := by
  have hE := hG.1
  have h5 := hE.2.1
  unfold wpX_compatible
  refine fr_isState h5 h7 (br_c (fun z => H _ _ _ _ _ _ _ _ _ _ _ _ _ _ _ hG (fun _ => rfl) (fun _ => rfl) (fun w => absurd z w)) (fun z7 => fr_isState h5 h8 (br_c (fun z => H _ _ _ _ _ _ _ _ _ _ _ _ _ _ _ hG (fun _ => rfl) (fun _ => rfl) (fun _ w => absurd z w)) (fun z8 => fr_refresh hG (fun g1 g2 g3 b2 b3 b4 b5 b6 b7 b8 b9 b10 hL hO => ?_)))))
  rcases h7 with ⟨z, _⟩ | ⟨_, s, hs, rfl⟩
  · exact absurd z z7
  rcases h8 with ⟨z, _⟩ | ⟨_, t, ht, rfl⟩
  · exact absurd z z8
  dsimp only
  rw [fr_ix5, nI_clamp (by omega)]
  exact ⟨vp_in_nI (by omega) (by omega), br_t (hL _ (by omega)) (H 1 _ _ _ _ _ _ _ _ _ _ _ _ _ _ ⟨hE, Or.inr ⟨rfl, rfl, hL, hO⟩⟩ (fun w => absurd w z7) (fun w => absurd w z8) (fun _ _ => rfl))⟩
theorem fr_splitLength {post : Int32 → St2 → Prop} {x y x7 x8 : Int32} (hG : fr_G N q e f4 f6 a1 a2 a10) (h7 : fr_S N x x7) (h8 : fr_S N y x8)
    (H : ∀ (r f1 f2 f3 f4 f6 : Int32) (a2 a3 a4 a5 a6 a7 a8 a9 a10 : Nat → Int32), fr_G N q e f4 f6 a1 a2 a10 → (x7 = 0 → r = -1) → (x8 = 0 → r = -1) → (¬ x7 = 0 → ¬ x8 = 0 → r = -2) → post r (nI N, f1, f2, f3, f4, f5, f6, a1, a2, a3, a4, a5, a6, a7, a8, a9, a10)) : wpX_splitLength post (nI N, f1, f2, f3, f4, f5, f6, a1, a2, a3, a4, a5, a6, a7, a8, a9, a10) x y := by
  have hE := hG.1
  have h5 := hE.2.1
  unfold wpX_splitLength
  refine fr_isState h5 h7 (br_c (fun z => H _ _ _ _ _ _ _ _ _ _ _ _ _ _ _ hG (fun _ => rfl) (fun _ => rfl) (fun w => absurd z w)) (fun z7 => fr_isState h5 h8 (br_c (fun z => H _ _ _ _ _ _ _ _ _ _ _ _ _ _ _ hG (fun _ => rfl) (fun _ => rfl) (fun _ w => absurd z w)) (fun z8 => fr_refresh hG (fun g1 g2 g3 b2 b3 b4 b5 b6 b7 b8 b9 b10 hL hO => ?_)))))
  rcases h7 with ⟨z, _⟩ | ⟨_, s, hs, rfl⟩
  · exact absurd z z7
  rcases h8 with ⟨z, _⟩ | ⟨_, t, ht, rfl⟩
  · exact absurd z z8
  dsimp only
  rw [fr_ix5, nI_clamp (by omega)]
  exact ⟨vp_in_nI (by omega) (by omega), nm_r (hL _ (by omega)) (br_t rfl (H (-2) _ _ _ _ _ _ _ _ _ _ _ _ _ _ ⟨hE, Or.inr ⟨rfl, rfl, hL, hO⟩⟩ (fun w => absurd w z7) (fun w => absurd w z8) (fun _ _ => rfl)))⟩
theorem fr_read42 {post : Int32 → St2 → Prop} {i : Nat} {z : Int32} (hE : fr_E N q e a1) (hi : i < 2)
    (H : ∀ u : St2, (z = 0 → post (-2) u) ∧ (¬ z = 0 → post (a10 i) u)) : wX_read_42 post (nI i) z (nI N) f1 f2 f3 f4 0 0 a1 a2 a3 a4 a5 a6 a7 a8 a9 a10 := by
  have h2 := hE.1
  have e0 : 2 * (0 : Int32) + nI i = nI i := by
    rw [show (0 : Int32) = nI 0 from rfl, fr_ix2, Nat.mul_zero, Nat.zero_add]
  unfold wX_read_42
  rw [e0, nI_clamp (by omega)]
  refine ⟨vp_in_nI (by omega) (by omega), nm_e (fr_next (s := 0) hE (by omega) hi (br_c (fun _ => H _) (fun _ => ⟨vp_in_nI (by omega) (by omega), nm_e (H _)⟩)))⟩
theorem fr_read {post : Int32 → St2 → Prop} {x x9 : Int32} (hG : fr_G N q e f4 f6 a1 a2 a10) (h9 : fr_I x x9)
    (H : ∀ (r : Int32) (u : St2), (x9 = 0 → r = -1) → (∀ i : Nat, i < 2 → x = nI i → (fr_v q e i % 3 = 0 → r = -2) ∧ (fr_v q e i % 3 ≠ 0 → r = nI (fr_v q e i % 3) - 1)) → post r u) : wpX_read post (nI N, f1, f2, f3, f4, 0, f6, a1, a2, a3, a4, a5, a6, a7, a8, a9, a10) x := by
  have hE := hG.1
  have h2 := hE.1
  unfold wpX_read
  refine fr_isInput h9 (br_c (fun z => ?_) (fun z9 => br_f (by decide) (fr_refresh hG (fun g1 g2 g3 b2 b3 b4 b5 b6 b7 b8 b9 b10 hL hO => ?_))))
  · refine H _ _ (fun _ => rfl) (fun i hi hx => ?_)
    rcases h9 with ⟨_, h0, h1⟩ | ⟨w, _⟩
    · rcases (show i = 0 ∨ i = 1 by omega) with rfl | rfl
      · exact absurd hx h0
      · exact absurd hx h1
    · exact absurd (w.symm.trans z) (by decide)
  rcases h9 with ⟨z, _⟩ | ⟨_, i, hi, rfl⟩
  · exact absurd z z9
  have inj : ∀ i' : Nat, i' < 2 → nI i = nI i' → i' = i := fun i' hi' hh => ((nI_eq (by omega) (by omega)).mp hh).symm
  refine fr_output (s := 0) hE (by omega) hi (br_c (fun y => fr_read42 hE hi (fun u => br_t rfl (H _ _ (fun w => absurd w z9) (fun i' hi' hh => ?_)))) (fun y => fr_read42 hE hi (fun u => br_f (by decide) (H _ _ (fun w => absurd w z9) (fun i' hi' hh => ?_)))))
  · rw [Nat.mul_zero, Nat.zero_add, fr_m1 (by omega)] at y
    rw [inj i' hi' hh]
    exact ⟨fun _ => rfl, fun w => absurd y w⟩
  · rw [Nat.mul_zero, Nat.zero_add, fr_m1 (by omega)] at y
    rw [inj i' hi' hh]
    exact ⟨fun w => absurd w y, fun w => hO i hi w⟩
end
end
section
/-- x says whether the entry w is a good one -/
def fr_D (N : Nat) (w x : Int32) : Prop := (x = 0 ∧ (w < 0 ∨ nI (3 * (N + 1)) ≤ w)) ∨ (x = 1 ∧ ∃ e : Nat, e < 3 * (N + 1) ∧ w = nI e)
/-- what the law holds as the entry, against the table -/
def fr_H (N q e : Nat) (x y : Int32) (h : Nat) : Prop := ∀ i, i < 2 → y = nI i → (∀ s, s < N → x = nI s → h = fr_v q e (2 * s + i)) ∧ (¬ x = 0 → fr_v q e i = 0)
theorem fr_3 (N : Nat) : 3 * (nI N + 1) = nI (3 * (N + 1)) := by
  rw [nI_1, show (3 : Int32) = nI 3 from rfl, pk_mul]
theorem fr_v00 (q j : Nat) : fr_v q 0 j = 0 := by
  unfold fr_v
  split <;> rfl
section
variable {N q e : Nat} {f1 f2 f3 f4 f5 f6 : Int32} {a1 a2 a3 a4 a5 a6 a7 a8 a9 a10 : Nat → Int32}
theorem fr_entry {post : Int32 → Prop} {x y x7 x9 : Int32} (hE : fr_E N q e a1) (h7 : fr_S N x x7) (h9 : fr_I y x9)
    (H : ∀ r : Int32, (x7 = 0 → r = -1) → (¬ x7 = 0 → x9 = 0 → r = -2) → (¬ x7 = 0 → ¬ x9 = 0 → ∃ s i : Nat, s < N ∧ i < 2 ∧ x = nI s ∧ y = nI i ∧ r = nI (fr_v q e (2 * s + i))) → post r) : wpX_entry post (nI N, f1, f2, f3, f4, f5, f6, a1, a2, a3, a4, a5, a6, a7, a8, a9, a10) x y := by
  have h5 := hE.2.1
  unfold wpX_entry
  refine fr_isState h5 h7 (br_c (fun z => H _ (fun _ => rfl) (fun w => absurd z w) (fun w => absurd z w)) (fun z7 => fr_isInput h9 (br_c (fun z => H _ (fun w => absurd w z7) (fun _ _ => rfl) (fun _ w => absurd z w)) (fun z9 => ?_))))
  rcases h7 with ⟨z, _⟩ | ⟨_, s, hs, rfl⟩
  · exact absurd z z7
  rcases h9 with ⟨z, _⟩ | ⟨_, i, hi, rfl⟩
  · exact absurd z z9
  rw [fr_ix2, nI_clamp (by omega), hE.2.2.2]
  exact ⟨vp_in_nI (by omega) (by omega), H _ (fun w => absurd w z7) (fun _ w => absurd w z9) (fun _ _ => ⟨s, i, hs, hi, rfl, rfl, rfl⟩)⟩
theorem fr_set {post : Int32 → St2 → Prop} {x y w x7 x9 xg : Int32} (h5 : N ≤ 5) (h7 : fr_S N x x7) (h9 : fr_I y x9) (hg : fr_D N w xg)
    (H1 : x7 = 0 → post (-1) (nI N, f1, f2, f3, f4, f5, f6, (fun _ => 0), a2, a3, a4, a5, a6, a7, a8, a9, a10))
    (H2 : ¬ x7 = 0 → x9 = 0 → post (-2) (nI N, f1, f2, f3, f4, f5, f6, (fun _ => 0), a2, a3, a4, a5, a6, a7, a8, a9, a10))
    (H3 : ¬ x7 = 0 → ¬ x9 = 0 → xg = 0 → post (-3) (nI N, f1, f2, f3, f4, f5, f6, (fun _ => 0), a2, a3, a4, a5, a6, a7, a8, a9, a10))
    (H4 : ¬ x7 = 0 → ¬ x9 = 0 → ¬ xg = 0 → ∀ s i e : Nat, s < N → i < 2 → e < 3 * (N + 1) → x = nI s → y = nI i → w = nI e → post 0 (nI N, f1, f2, f3, 0, 0, f6, upd (fun _ => 0) (2 * s + i) (nI e), a2, a3, a4, a5, a6, a7, a8, a9, a10)) :
    wpX_set post (nI N, f1, f2, f3, f4, f5, f6, (fun _ => 0), a2, a3, a4, a5, a6, a7, a8, a9, a10) x y w := by
  unfold wpX_set
  refine fr_isState h5 h7 (br_c (fun z => H1 z) (fun z7 => fr_isInput h9 (br_c (fun z => H2 z7 z) (fun z9 => ?_))))
  rw [fr_3]
  rcases hg with ⟨zg, h | h⟩ | ⟨zg, e, he, rfl⟩
  · exact br_t h (H3 z7 z9 zg)
  · exact br_c (fun _ => H3 z7 z9 zg) (fun _ => br_f (fun k => absurd h (Int32.not_le.mpr k)) (H3 z7 z9 zg))
  rcases h7 with ⟨z, _⟩ | ⟨_, s, hs, rfl⟩
  · exact absurd z z7
  rcases h9 with ⟨z, _⟩ | ⟨_, i, hi, rfl⟩
  · exact absurd z z9
  rw [fr_ix2, nI_clamp (by omega)]
  exact br_f (nI_pos (by omega)) (br_t (nI_lt he (by omega)) ⟨vp_in_nI (by omega) (by omega), nm_e ⟨vp_in_nI (by omega) (by omega), nm_e (H4 z7 z9 (by rw [zg]; decide) s i e hs hi he rfl rfl rfl)⟩⟩)
section
variable {post : Int32 → St0 → Prop} {mc ms kc ks : Nat}
theorem fr_284 {x2 x9 z0 : Int32} (hp : post 1 ()) (hG : fr_G N q e f4 f6 a1 a2 a10) (h9 : fr_I x2 x9)
    (hz : ∀ i : Nat, i < 2 → x2 = nI i → (fr_v q e i % 3 = 0 → ¬ 0 ≤ z0) ∧ (fr_v q e i % 3 ≠ 0 → z0 = nI (fr_v q e i % 3) - 1)) :
    wL_lawOf_284 post mc ms x2 x9 z0 kc ks (nI N) f1 f2 f3 f4 0 f6 a1 a2 a3 a4 a5 a6 a7 a8 a9 a10 := by
  unfold wL_lawOf_284
  refine fr_read hG h9 (fun r u hr0 hr => ?_)
  obtain ⟨g0, g1, g2, g3, g4, g5, g6, b1, b2, b3, b4, b5, b6, b7, b8, b9, b10⟩ := u
  refine br_c (fun z => br_t (hr0 z) hp) (fun z => ?_)
  rcases h9 with ⟨w, _⟩ | ⟨_, i, hi, rfl⟩
  · exact absurd w z
  obtain ⟨ha, hb⟩ := hr i hi rfl
  obtain ⟨hc, hd⟩ := hz i hi rfl
  rcases Nat.eq_zero_or_pos (fr_v q e i % 3) with w | w
  · exact br_f (hc w) (br_t (ha w) hp)
  · refine br_t ?_ (br_t (by rw [hb (by omega), hd (by omega)]) hp)
    obtain ⟨k, hk⟩ : ∃ k, fr_v q e i % 3 = k + 1 := ⟨fr_v q e i % 3 - 1, by omega⟩
    rw [hd (by omega), hk, nI_pred]
    exact nI_pos' (by omega)
theorem fr_283 {x2 x9 : Int32} (hp : post 1 ()) (hG : fr_G N q e f4 f6 a1 a2 a10) (h9 : fr_I x2 x9) (hz : ∀ i : Nat, i < 2 → x2 = nI i → fr_v q e i = 0) :
    wL_lawOf_283 post mc ms x2 x9 kc ks (nI N) f1 f2 f3 f4 0 f6 a1 a2 a3 a4 a5 a6 a7 a8 a9 a10 := by
  unfold wL_lawOf_283
  refine fr_284 hp hG h9 (fun i hi hx => ⟨fun _ => by decide, fun w => absurd ?_ w⟩)
  rw [hz i hi hx]
theorem fr_260 {x1 x2 x9 z0 z1 : Int32} {h : Nat} (hp : post 1 ()) (hG : fr_G N q e f4 f6 a1 a2 a10) (h9 : fr_I x2 x9) (hh : h < 18) (hH : fr_H N q e x1 x2 h) (hq : z1 = z0) :
    wL_lawOf_260 post mc ms x1 x2 x9 (nI h) z0 z1 kc ks (nI N) f1 f2 f3 f4 0 f6 a1 a2 a3 a4 a5 a6 a7 a8 a9 a10 := by
  have h2 := hG.1.1
  unfold wL_lawOf_260
  refine br_t hq (br_c (fun zx => pk_le h 0 (fun w => fr_283 hp hG h9 (fun i hi hx => ?_)) (fun w => ⟨by decide, fr_284 hp hG h9 (fun i hi hx => ?_)⟩)) (fun zx => fr_283 hp hG h9 (fun i hi hx => (hH i hi hx).2 zx)))
  · have := (hH i hi hx).1 0 (by omega) zx
    rw [Nat.mul_zero, Nat.zero_add] at this
    omega
  · have hv := (hH i hi hx).1 0 (by omega) zx
    rw [Nat.mul_zero, Nat.zero_add] at hv
    rw [show (3 : Int32) = nI 3 from rfl, pk_rem (by omega) (by omega) (by omega), ← hv]
    refine ⟨fun k => ?_, fun _ => rfl⟩
    rw [k]
    decide
theorem fr_259 {x1 x2 x9 z0 : Int32} {h : Nat} (hp : post 1 ()) (hG : fr_G N q e f4 f6 a1 a2 a10) (h9 : fr_I x2 x9) (hh : h < 18) (hH : fr_H N q e x1 x2 h) (hq : z0 = -1) :
    wL_lawOf_259 post mc ms x1 x2 x9 (nI h) z0 kc ks (nI N) f1 f2 f3 f4 0 f6 a1 a2 a3 a4 a5 a6 a7 a8 a9 a10 := by
  unfold wL_lawOf_259
  exact fr_260 hp hG h9 hh hH hq
theorem fr_231 {x1 x2 x4 x7 x8 x9 z0 z1 : Int32} {h : Nat} (hp : post 1 ()) (hG : fr_G N q e f4 f6 a1 a2 a10) (h7 : fr_S N x1 x7) (h8 : fr_S N x4 x8) (h9 : fr_I x2 x9) (hh : h < 18) (hH : fr_H N q e x1 x2 h) (hq : z1 = z0) :
    wL_lawOf_231 post mc ms x1 x2 x4 x7 x8 x9 (nI h) z0 z1 kc ks (nI N) f1 f2 f3 f4 0 f6 a1 a2 a3 a4 a5 a6 a7 a8 a9 a10 := by
  unfold wL_lawOf_231
  exact br_t hq (fr_splitLength hG h7 h8 (fun r g1 g2 g3 g4 g6 b2 b3 b4 b5 b6 b7 b8 b9 b10 hG' r7 r8 r1 => br_c (fun z => fr_259 hp hG' h9 hh hH (r7 z)) (fun z => br_c (fun z' => fr_259 hp hG' h9 hh hH (r8 z')) (fun z' => fr_260 hp hG' h9 hh hH (r1 z z')))))
theorem fr_230 {x1 x2 x4 x7 x8 x9 z0 : Int32} {h : Nat} (hp : post 1 ()) (hG : fr_G N q e f4 f6 a1 a2 a10) (h7 : fr_S N x1 x7) (h8 : fr_S N x4 x8) (h9 : fr_I x2 x9) (hh : h < 18) (hH : fr_H N q e x1 x2 h) (hq : z0 = -1) :
    wL_lawOf_230 post mc ms x1 x2 x4 x7 x8 x9 (nI h) z0 kc ks (nI N) f1 f2 f3 f4 0 f6 a1 a2 a3 a4 a5 a6 a7 a8 a9 a10 := by
  unfold wL_lawOf_230
  exact fr_231 hp hG h7 h8 h9 hh hH hq
theorem fr_203 {x1 x2 x4 x7 x8 x9 z0 z1 : Int32} {h : Nat} (hp : post 1 ()) (hG : fr_G N q e f4 f6 a1 a2 a10) (h7 : fr_S N x1 x7) (h8 : fr_S N x4 x8) (h9 : fr_I x2 x9) (hh : h < 18) (hH : fr_H N q e x1 x2 h) (hq : z1 = z0) :
    wL_lawOf_203 post mc ms x1 x2 x4 x7 x8 x9 (nI h) z0 z1 kc ks (nI N) f1 f2 f3 f4 0 f6 a1 a2 a3 a4 a5 a6 a7 a8 a9 a10 := by
  unfold wL_lawOf_203
  exact br_t hq (fr_compatible hG h7 h8 (fun r g1 g2 g3 g4 g6 b2 b3 b4 b5 b6 b7 b8 b9 b10 hG' r7 r8 r1 => br_c (fun z => fr_230 hp hG' h7 h8 h9 hh hH (r7 z)) (fun z => br_c (fun z' => fr_230 hp hG' h7 h8 h9 hh hH (r8 z')) (fun z' => fr_231 hp hG' h7 h8 h9 hh hH (r1 z z')))))
theorem fr_173 {x1 x2 x4 x7 x8 x9 : Int32} {h : Nat} (hp : post 1 ()) (hE : fr_E N q e a1) (h7 : fr_S N x1 x7) (h8 : fr_S N x4 x8) (h9 : fr_I x2 x9) (hh : h < 18) (hH : fr_H N q e x1 x2 h) :
    wL_lawOf_173 post mc ms x1 x2 x4 x7 x8 x9 (nI h) kc ks (nI N) f1 f2 f3 0 0 f6 a1 a2 a3 a4 a5 a6 a7 a8 a9 a10 := by
  have hG : fr_G N q e 0 f6 a1 a2 a10 := ⟨hE, Or.inl rfl⟩
  unfold wL_lawOf_173
  refine fr_entry hE h7 h9 (fun r r7 r9 r0 => br_c (fun z => fr_203 hp hG h7 h8 h9 hh hH (r7 z)) (fun z => br_c (fun z' => fr_203 hp hG h7 h8 h9 hh hH (r9 z z')) (fun z' => fr_203 hp hG h7 h8 h9 hh hH ?_)))
  obtain ⟨s, i, hs, hi, ex, ey, er⟩ := r0 z z'
  rw [er, ← (hH i hi ey).1 s hs ex]
theorem fr_146 {x1 x2 x3 x4 x7 x8 x9 xg z0 : Int32} (hp : post 1 ()) (h2 : 2 ≤ N) (h5 : N ≤ 5) (h7 : fr_S N x1 x7) (h8 : fr_S N x4 x8) (h9 : fr_I x2 x9) (hg : fr_D N x3 xg)
    (hd1 : x7 = 0 → z0 = -1) (hd2 : ¬ x7 = 0 → x9 = 0 → z0 = -2) (hd3 : ¬ x7 = 0 → ¬ x9 = 0 → xg = 0 → z0 = -3) (hd4 : ¬ x7 = 0 → ¬ x9 = 0 → ¬ xg = 0 → z0 = 0) :
    wL_lawOf_146 post mc ms x1 x2 x3 x4 x7 x8 x9 z0 kc ks (nI N) f1 f2 f3 0 0 f6 (fun _ => 0) a2 a3 a4 a5 a6 a7 a8 a9 a10 := by
  have hE : fr_E N 0 0 (fun _ => 0) := ⟨h2, h5, by omega, fun j => by rw [fr_v00]; rfl⟩
  have hH : fr_H N 0 0 x1 x2 0 := fun i _ _ => ⟨fun s _ _ => (fr_v00 _ _).symm, fun _ => fr_v00 _ _⟩
  unfold wL_lawOf_146
  refine fr_set h5 h7 h9 hg (fun z => br_t (hd1 z).symm (br_f (by rw [hd1 z]; decide) (fr_173 (h := 0) hp hE h7 h8 h9 (by omega) hH))) (fun z z' => br_t (hd2 z z').symm (br_f (by rw [hd2 z z']; decide) (fr_173 (h := 0) hp hE h7 h8 h9 (by omega) hH))) (fun z z' z'' => br_t (hd3 z z' z'').symm (br_f (by rw [hd3 z z' z'']; decide) (fr_173 (h := 0) hp hE h7 h8 h9 (by omega) hH))) (fun z z' z'' s i e hs hi he ex ey ew => br_t (hd4 z z' z'').symm (br_t (hd4 z z' z'') ?_))
  rw [ew]
  refine fr_173 (q := 2 * s + i) (e := e) hp ⟨h2, h5, he, fun j => ?_⟩ h7 h8 h9 (by omega) (fun i' hi' hy => ⟨fun s' hs' hx => ?_, fun hx => ?_⟩)
  · unfold fr_v
    by_cases ej : j = 2 * s + i
    · rw [ej, pk_us, if_pos rfl]
    · rw [pk_un ej, if_neg ej]
      rfl
  · have e1 : i' = i := ((nI_eq (by omega) (by omega)).mp (ey.symm.trans hy)).symm
    have e2 : s' = s := ((nI_eq (by omega) (by omega)).mp (ex.symm.trans hx)).symm
    rw [e1, e2]
    unfold fr_v
    rw [if_pos rfl]
  · have e1 : i' = i := ((nI_eq (by omega) (by omega)).mp (ey.symm.trans hy)).symm
    have e2 : s ≠ 0 := fun k => hx (by rw [ex, k]; rfl)
    unfold fr_v
    rw [if_neg (by omega)]
theorem fr_114 {x1 x2 x3 x4 x7 x8 x9 z0 : Int32} (hp : post 1 ()) (h2 : 2 ≤ N) (h5 : N ≤ 5) (h7 : fr_S N x1 x7) (h8 : fr_S N x4 x8) (h9 : fr_I x2 x9) (hg : fr_D N x3 z0) :
    wL_lawOf_114 post mc ms x1 x2 x3 x4 x7 x8 x9 z0 kc ks (nI N) f1 f2 f3 0 0 f6 (fun _ => 0) a2 a3 a4 a5 a6 a7 a8 a9 a10 := by
  unfold wL_lawOf_114
  refine br_c (fun z => fr_146 hp h2 h5 h7 h8 h9 hg (fun _ => rfl) (fun w => absurd z w) (fun w => absurd z w) (fun w => absurd z w)) (fun z => br_c (fun z' => fr_146 hp h2 h5 h7 h8 h9 hg (fun w => absurd w z) (fun _ _ => rfl) (fun _ w => absurd z' w) (fun _ w => absurd z' w)) (fun z' => br_c (fun z'' => fr_146 hp h2 h5 h7 h8 h9 hg (fun w => absurd w z) (fun _ w => absurd w z') (fun _ _ _ => rfl) (fun _ _ w => absurd z'' w)) (fun z'' => fr_146 hp h2 h5 h7 h8 h9 hg (fun w => absurd w z) (fun _ w => absurd w z') (fun _ _ w => absurd w z'') (fun _ _ _ => rfl))))
theorem fr_113 {x1 x2 x3 x4 x7 x8 x9 : Int32} (hp : post 1 ()) (h2 : 2 ≤ N) (h5 : N ≤ 5) (h7 : fr_S N x1 x7) (h8 : fr_S N x4 x8) (h9 : fr_I x2 x9) (hg : x3 < 0 ∨ nI (3 * (N + 1)) ≤ x3) :
    wL_lawOf_113 post mc ms x1 x2 x3 x4 x7 x8 x9 kc ks (nI N) f1 f2 f3 0 0 f6 (fun _ => 0) a2 a3 a4 a5 a6 a7 a8 a9 a10 := by
  unfold wL_lawOf_113
  exact fr_114 hp h2 h5 h7 h8 h9 (Or.inl ⟨rfl, hg⟩)
theorem fr_93 {x1 x2 x3 x4 x7 x8 x9 : Int32} (hp : post 1 ()) (h2 : 2 ≤ N) (h5 : N ≤ 5) (h7 : fr_S N x1 x7) (h8 : fr_S N x4 x8) (h9 : fr_I x2 x9) :
    wL_lawOf_93 post mc ms x1 x2 x3 x4 (nI N) x7 x8 x9 kc ks (nI N) f1 f2 f3 0 0 f6 (fun _ => 0) a2 a3 a4 a5 a6 a7 a8 a9 a10 := by
  unfold wL_lawOf_93
  rw [fr_3]
  rcases pk_ix x3 (n := 3 * (N + 1)) (by omega) with g | g | ⟨e, he, rfl⟩
  · exact br_t g (fr_113 hp h2 h5 h7 h8 h9 (Or.inl g))
  · exact br_c (fun k => fr_113 hp h2 h5 h7 h8 h9 (Or.inl k)) (fun _ => br_t g (fr_113 hp h2 h5 h7 h8 h9 (Or.inr g)))
  · exact br_f (nI_pos (by omega)) (br_f (nI_ge he (by omega)) (fr_114 hp h2 h5 h7 h8 h9 (Or.inr ⟨rfl, e, he, rfl⟩)))
theorem fr_88 {x1 x2 x3 x4 x7 x8 : Int32} (hp : post 1 ()) (h2 : 2 ≤ N) (h5 : N ≤ 5) (h7 : fr_S N x1 x7) (h8 : fr_S N x4 x8) (h9 : fr_I x2 1) :
    wL_lawOf_88 post mc ms x1 x2 x3 x4 (nI N) x7 x8 kc ks (nI N) f1 f2 f3 0 0 f6 (fun _ => 0) a2 a3 a4 a5 a6 a7 a8 a9 a10 := by
  unfold wL_lawOf_88
  exact fr_93 hp h2 h5 h7 h8 h9
theorem fr_77 {x1 x2 x3 x4 x7 x8 : Int32} (hp : post 1 ()) (h2 : 2 ≤ N) (h5 : N ≤ 5) (h7 : fr_S N x1 x7) (h8 : fr_S N x4 x8) :
    wL_lawOf_77 post mc ms x1 x2 x3 x4 (nI N) x7 x8 kc ks (nI N) f1 f2 f3 0 0 f6 (fun _ => 0) a2 a3 a4 a5 a6 a7 a8 a9 a10 := by
  unfold wL_lawOf_77
  exact br_c (fun z => fr_88 hp h2 h5 h7 h8 (Or.inr ⟨rfl, 0, by omega, z⟩)) (fun z => br_c (fun z' => fr_88 hp h2 h5 h7 h8 (Or.inr ⟨rfl, 1, by omega, z'⟩)) (fun z' => fr_93 hp h2 h5 h7 h8 (Or.inl ⟨rfl, z, z'⟩)))
theorem fr_76 {x1 x2 x3 x4 x7 : Int32} (hp : post 1 ()) (h2 : 2 ≤ N) (h5 : N ≤ 5) (h7 : fr_S N x1 x7) (h8 : fr_S N x4 0) :
    wL_lawOf_76 post mc ms x1 x2 x3 x4 (nI N) x7 kc ks (nI N) f1 f2 f3 0 0 f6 (fun _ => 0) a2 a3 a4 a5 a6 a7 a8 a9 a10 := by
  unfold wL_lawOf_76
  exact fr_77 hp h2 h5 h7 h8
theorem fr_58 {x1 x2 x3 x4 x7 : Int32} (hp : post 1 ()) (h2 : 2 ≤ N) (h5 : N ≤ 5) (h7 : fr_S N x1 x7) :
    wL_lawOf_58 post mc ms x1 x2 x3 x4 (nI N) x7 kc ks (nI N) f1 f2 f3 0 0 f6 (fun _ => 0) a2 a3 a4 a5 a6 a7 a8 a9 a10 := by
  unfold wL_lawOf_58
  rcases pk_ix x4 (n := N) (by omega) with g | g | ⟨t, ht, rfl⟩
  · exact br_t g (fr_76 hp h2 h5 h7 (Or.inl ⟨rfl, Or.inl g⟩))
  · exact br_c (fun k => fr_76 hp h2 h5 h7 (Or.inl ⟨rfl, Or.inl k⟩)) (fun _ => br_t g (fr_76 hp h2 h5 h7 (Or.inl ⟨rfl, Or.inr g⟩)))
  · exact br_f (nI_pos (by omega)) (br_f (nI_ge ht (by omega)) (fr_77 hp h2 h5 h7 (Or.inr ⟨rfl, t, ht, rfl⟩)))
theorem fr_57 {x1 x2 x3 x4 : Int32} (hp : post 1 ()) (h2 : 2 ≤ N) (h5 : N ≤ 5) (h7 : fr_S N x1 0) :
    wL_lawOf_57 post mc ms x1 x2 x3 x4 (nI N) kc ks (nI N) f1 f2 f3 0 0 f6 (fun _ => 0) a2 a3 a4 a5 a6 a7 a8 a9 a10 := by
  unfold wL_lawOf_57
  exact fr_58 hp h2 h5 h7
theorem fr_31 {x1 x2 x3 x4 : Int32} (hp : post 1 ()) (h2 : 2 ≤ N) (h5 : N ≤ 5) :
    wL_lawOf_31 post mc ms x1 x2 x3 x4 (nI N) kc ks (nI N) f1 f2 f3 0 0 f6 (fun _ => 0) a2 a3 a4 a5 a6 a7 a8 a9 a10 := by
  unfold wL_lawOf_31 wpX_states
  refine br_t rfl ?_
  rcases pk_ix x1 (n := N) (by omega) with g | g | ⟨t, ht, rfl⟩
  · exact br_t g (fr_57 hp h2 h5 (Or.inl ⟨rfl, Or.inl g⟩))
  · exact br_c (fun k => fr_57 hp h2 h5 (Or.inl ⟨rfl, Or.inl k⟩)) (fun _ => br_t g (fr_57 hp h2 h5 (Or.inl ⟨rfl, Or.inr g⟩)))
  · exact br_f (nI_pos (by omega)) (br_f (nI_ge ht (by omega)) (fr_58 hp h2 h5 (Or.inr ⟨rfl, t, ht, rfl⟩)))
end
end
theorem fr_lawOf {post : Int32 → St0 → Prop} {p0 p1 p2 p3 p4 : Int32} (hp : post 1 ()) : wpL_lawOf post 116 1840 () p0 p1 p2 p3 p4 := by
  unfold wpL_lawOf
  refine ⟨by omega, by omega, 10, 166, by omega, by omega, ?_⟩
  unfold wpX_init
  refine ⟨by omega, by omega, by omega, by omega, by omega, by omega, by omega, by omega, by omega, by omega, by omega, by omega, by omega, by omega, by omega, by omega, by omega, by omega, by omega, by omega, ?_⟩
  unfold wX_init_94 wL_lawOf_22
  refine br_c (fun g2 => ?_) (fun g2 => br_t (by decide) (br_f g2 (br_t (by decide) (fr_31 (N := 2) hp (by omega) (by omega)))))
  refine br_c (fun g5 => br_t g2 (br_t g5 ?_)) (fun g5 => br_t g2 (br_f g5 (fr_31 (N := 5) hp (by omega) (by omega))))
  obtain ⟨j, hj, rfl⟩ := nI_of2 (M := 5) (n := 5) (by decide) (fun k => absurd (Int32.lt_of_le_of_lt g2 k) (by decide)) g5
  have h2 : 2 ≤ j := (nI_leI (a := 2) (by omega) (by omega)).mp g2
  exact fr_31 hp h2 hj
theorem fr_cell {post : Int32 → Prop} {L : Nat} {xs : Nat → Int32} (k : Nat) (hk : k < 5) (hL : L ≤ 5) (H : ∀ x, post x) : wpL_cellAt post L xs () (nI k) := by
  unfold wpL_cellAt
  exact pk_le L k (fun _ => H _) (fun z => ⟨pk_in k L z, H _⟩)
theorem i_vc (xs : Nat → Int32) (L : Nat) (hL : L ≤ 5) : wpL_law (fun r => r = 1) L xs := by
  unfold wpL_law
  exact fr_cell 0 (by omega) hL (fun r1 => fr_cell 1 (by omega) hL (fun r2 => fr_cell 2 (by omega) hL (fun r3 => fr_cell 3 (by omega) hL (fun r4 => fr_cell 4 (by omega) hL (fun r5 => ⟨116, 1840, by omega, by omega, fr_lawOf rfl⟩)))))
end
