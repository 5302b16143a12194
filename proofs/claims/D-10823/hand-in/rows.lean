section
/-- the bit of place k in a chunk's mask -/
def cv_b (k : Nat) : Int32 := (1 : Int32) <<< (nI k &&& 31)
theorem cv_b_ne : ∀ k, k < 8 → ¬ cv_b k = 0 := by decide +kernel
theorem cv_b_nn : ∀ k, k < 8 → ¬ (0 : Int32) = cv_b k := by decide +kernel
theorem cv_b_and : ∀ k, k < 8 → (0 : Int32) &&& cv_b k = 0 := by decide +kernel
theorem cv_b_or : ∀ k, k < 8 → (0 : Int32) ||| cv_b k = cv_b k := by decide +kernel
theorem cv_b_oo : ∀ k, k < 8 → cv_b k ||| cv_b k = cv_b k := by decide +kernel
theorem cv_b_x0 : ∀ k, k < 8 → cv_b k ^^^ (0 : Int32) = cv_b k := by decide +kernel
theorem cv_b_0x : ∀ k, k < 8 → (0 : Int32) ^^^ cv_b k = cv_b k := by decide +kernel
theorem cv_bit : ∀ k, k < 8 → ∀ j, j < 8 → (cv_b k >>> (nI j &&& 31)) &&& 1 = (if j = k then (1 : Int32) else 0) := by decide +kernel
theorem cv_bit0 : ∀ j, j < 8 → ((0 : Int32) >>> (nI j &&& 31)) &&& 1 = 0 := by decide +kernel
theorem cv_shr : ∀ q, q < 64 → nI q >>> ((3 : Int32) &&& 31) = nI (q / 8) := by decide +kernel
theorem cv_and7 : ∀ q, q < 64 → nI q &&& 7 = nI (q % 8) := by decide +kernel
theorem cv_ix (c j : Nat) : (8 : Int32) * nI c + nI j = nI (8 * c + j) := by
  rw [show (8 : Int32) = nI 8 from rfl, pk_mul, nI_add]
theorem cv_cl {c j : Nat} (h : 8 * c + j < 2 ^ 31) : ((8 : Int32) * nI c + nI j).toNatClampNeg = 8 * c + j := by
  rw [cv_ix]; exact nI_clamp h
theorem cv_fill {f g b : Nat → Int32} {o i : Nat} {x : Int32} (h1 : ∀ k, k < i → b (o + k) = f k) (h2 : ∀ j, (j < o ∨ o + i ≤ j) → b j = g j) (hx : x = f i) :
    (∀ k, k < i + 1 → upd b (o + i) x (o + k) = f k) ∧ ∀ j, (j < o ∨ o + (i + 1) ≤ j) → upd b (o + i) x j = g j := by
  constructor
  · intro k hk
    by_cases e : k = i
    · rw [e, pk_us, hx]
    · rw [pk_un (by omega)]
      exact h1 k (by omega)
  · intro j hj
    rw [pk_un (by omega)]
    exact h2 j (by omega)
theorem cv_put {f b : Nat → Int32} {i : Nat} {x : Int32} (h1 : ∀ k, k < i → b k = f k) (hx : x = f i) : ∀ k, k < i + 1 → upd b i x k = f k := by
  intro k hk
  by_cases e : k = i
  · rw [e, pk_us, hx]
  · rw [pk_un e]
    exact h1 k (by omega)
theorem cv_zero {b : Nat → Int32} {i : Nat} {x : Int32} (h : ∀ j, b j = 0) (hx : x = 0) : ∀ j, upd b i x j = 0 := by
  intro j
  by_cases e : j = i
  · rw [e, pk_us, hx]
  · rw [pk_un e]
    exact h j
theorem cv_63 {x : Int32} : 63 < x ↔ 64 ≤ x := by
  rw [Int32.lt_iff_toInt_lt, Int32.le_iff_toInt_le]
  have h1 : (63 : Int32).toInt = 63 := by decide
  have h2 : (64 : Int32).toInt = 64 := by decide
  omega
end
section
theorem cv_isDraft {post : Int32 → Prop} {fd fs fc fb fk : Int32} {a1 a2 a3 a4 a5 a6 a7 a8 a9 a10 a11 a12 a13 : Nat → Int32} (h : ¬ a1 0 = fd) (hp : post 0) : wpX_isDraft post (fd, fs, fc, fb, fk, a1, a2, a3, a4, a5, a6, a7, a8, a9, a10, a11, a12, a13) (nI 0) := by
  unfold wpX_isDraft
  exact ⟨pk_in 0 168 (by omega), br_f (by rw [nI_clamp (by omega)]; exact h) hp⟩
theorem cv_i108 {post : Int32 → St2 → Prop} {key s : Nat} {fd fc fb fk : Int32} {a1 a2 a3 a4 a5 a6 a7 a8 a9 a10 a11 a12 a13 : Nat → Int32} (hk : key < 32) (hs : s < 168)
    (H : ∀ b2 : Nat → Int32, (∀ k, k < 8 → b2 (8 * s + k) = a13 k) → (∀ j, (j < 8 * s ∨ 8 * s + 8 ≤ j) → b2 j = a2 j) → post (nI s) (fd, nI (s + 1), fc, fb, fk, a1, b2, upd a3 s (a4 key), upd a4 key (nI s), a5, a6, a7, a8, a9, a10, a11, a12, a13)) :
    ∃ n, wX_intern_108 post (nI key) fd (nI s) fc fb fk n 0 a1 a2 a3 a4 a5 a6 a7 a8 a9 a10 a11 a12 a13 :=
  pk_loop (fun n i b => wX_intern_108 post (nI key) fd (nI s) fc fb fk n (nI i) a1 b a3 a4 a5 a6 a7 a8 a9 a10 a11 a12 a13) (fun i b => (∀ k, k < i → b (8 * s + k) = a13 k) ∧ ∀ j, (j < 8 * s ∨ 8 * s + i ≤ j) → b j = a2 j) 8 0 a2 (by omega)
    ⟨fun k hk => absurd hk (by omega), fun j _ => rfl⟩
    (fun n b h => pk_le 8 8 (fun _ => ⟨pk_in key 32 hk, pk_in s 168 hs, nm_r (by rw [nI_clamp (show s < 2 ^ 31 by omega), nI_clamp (show key < 2 ^ 31 by omega)])
        ⟨pk_in key 32 hk, nm_r (by rw [nI_clamp (show key < 2 ^ 31 by omega)]) (nm_r (nI_1 s) (by rw [nI_pred]; exact H b h.1 h.2))⟩⟩) (fun z => absurd z (by omega)))
    (fun n i b hi h hw => pk_le 8 i (fun z => absurd z (by omega)) (fun _ => ⟨pk_in i 8 hi, pk_in (8 * s + i) 1344 (by omega) (cv_ix s i),
        nm_r (by rw [cv_cl (by omega), nI_clamp (show i < 2 ^ 31 by omega)]) (nm_r (nI_1 i) (hw _ (cv_fill h.1 h.2 rfl)))⟩))
theorem cv_i92 {post : Int32 → St2 → Prop} {key s : Nat} {fd fc fb fk : Int32} {a1 a2 a3 a4 a5 a6 a7 a8 a9 a10 a11 a12 a13 : Nat → Int32} (hk : key < 32) (hs : s < 168)
    (H : ∀ b2 : Nat → Int32, (∀ k, k < 8 → b2 (8 * s + k) = a13 k) → (∀ j, (j < 8 * s ∨ 8 * s + 8 ≤ j) → b2 j = a2 j) → post (nI s) (fd, nI (s + 1), fc, fb, fk, upd a1 s fd, b2, upd a3 s (a4 key), upd a4 key (nI s), a5, a6, a7, a8, a9, a10, a11, a12, a13)) :
    wX_intern_92 post (nI key) fd (nI s) fc fb fk a1 a2 a3 a4 a5 a6 a7 a8 a9 a10 a11 a12 a13 := by
  unfold wX_intern_92
  exact ⟨pk_in s 168 hs, nm_r (by rw [nI_clamp (show s < 2 ^ 31 by omega)]) (cv_i108 hk hs H)⟩
theorem cv_i56 {post : Int32 → St2 → Prop} {key s : Nat} {x : Int32} {fd fc fb fk : Int32} {a1 a2 a3 a4 a5 a6 a7 a8 a9 a10 a11 a12 a13 : Nat → Int32} (hk : key < 32) (hs : s < 168)
    (hx : x = -1 ∨ (x = 0 ∧ a3 0 = -1 ∧ ¬ a1 0 = fd))
    (H : ∀ b2 : Nat → Int32, (∀ k, k < 8 → b2 (8 * s + k) = a13 k) → (∀ j, (j < 8 * s ∨ 8 * s + 8 ≤ j) → b2 j = a2 j) → post (nI s) (fd, nI (s + 1), fc, fb, fk, upd a1 s fd, b2, upd a3 s (a4 key), upd a4 key (nI s), a5, a6, a7, a8, a9, a10, a11, a12, a13)) :
    ∃ n, wX_intern_56 post (nI key) fd (nI s) fc fb fk a1 a2 a3 a4 a5 a6 a7 a8 a9 a10 a11 a12 a13 n x 0 := by
  rcases hx with rfl | ⟨rfl, h3, h1⟩
  · exact ⟨1, pk_le 168 0 (fun z => absurd z (by omega)) (fun _ => br_t rfl (cv_i92 hk hs H))⟩
  · refine ⟨2, pk_le 168 0 (fun z => absurd z (by omega)) (fun _ => br_f (by decide) (cv_isDraft h1 (br_t rfl ⟨pk_in 0 168 (by omega), nm_r (e' := -1) (by rw [sb_cl0]; exact h3) (nm_r (nI_1 0) ?_)⟩)))⟩
    exact pk_le 168 (0 + 1) (fun z => absurd z (by omega)) (fun _ => br_t rfl (cv_i92 hk hs H))
theorem cv_i7 {post : Int32 → St2 → Prop} {s : Nat} {fd fc fb fk : Int32} {a1 a2 a3 a4 a5 a6 a7 a8 a9 a10 a11 a12 a13 : Nat → Int32} (hs : s < 168)
    (hb : ∀ j, j < 32 → a4 j = -1 ∨ (a4 j = 0 ∧ a3 0 = -1 ∧ ¬ a1 0 = fd))
    (H : ∀ (key : Nat) (b2 : Nat → Int32), key < 32 → (∀ k, k < 8 → b2 (8 * s + k) = a13 k) → (∀ j, (j < 8 * s ∨ 8 * s + 8 ≤ j) → b2 j = a2 j) → post (nI s) (fd, nI (s + 1), fc, fb, fk, upd a1 s fd, b2, upd a3 s (a4 key), upd a4 key (nI s), a5, a6, a7, a8, a9, a10, a11, a12, a13)) :
    ∃ n, wX_intern_7 post fd (nI s) fc fb fk a1 a2 a3 a4 a5 a6 a7 a8 a9 a10 a11 a12 a13 n fd 0 := by
  refine pk_loop (fun n i x => wX_intern_7 post fd (nI s) fc fb fk a1 a2 a3 a4 a5 a6 a7 a8 a9 a10 a11 a12 a13 n x (nI i)) (fun _ _ => True) 8 0 fd (by omega) trivial ?_ ?_
  · intro n x _
    refine pk_le 8 8 (fun _ => ?_) (fun z => absurd z (by omega))
    refine fun y ey => ?_
    obtain ⟨j, hj, e⟩ := pk_andE ((x ^^^ ((x.toUInt32 >>> ((7 : Int32).toUInt32 &&& Int32.toUInt32 31)).toInt32)) ^^^ ((x.toUInt32 >>> ((19 : Int32).toUInt32 &&& Int32.toUInt32 31)).toInt32)) (m := 31) 5 (by decide)
    have hj' : j < 32 := hj
    have ey' : y = nI j := ey.trans e
    subst ey'
    exact ⟨pk_in j 32 hj', nm_r (e' := a4 j) (by rw [nI_clamp (show j < 2 ^ 31 by omega)]) (cv_i56 hj' hs (hb j hj') (fun b2 h1 h2 => H j b2 hj' h1 h2))⟩
  · intro n i x hi _ hw
    exact pk_le 8 i (fun z => absurd z (by omega)) (fun _ => ⟨pk_in i 8 hi, nm_e (nm_r (nI_1 i) (hw _ trivial))⟩)
theorem cv_intern {post : Int32 → St2 → Prop} {s : Nat} {fd fc fb fk : Int32} {a1 a2 a3 a4 a5 a6 a7 a8 a9 a10 a11 a12 a13 : Nat → Int32} (hs : s < 168)
    (hb : ∀ j, j < 32 → a4 j = -1 ∨ (a4 j = 0 ∧ a3 0 = -1 ∧ ¬ a1 0 = fd))
    (H : ∀ (key : Nat) (b2 : Nat → Int32), key < 32 → (∀ k, k < 8 → b2 (8 * s + k) = a13 k) → (∀ j, (j < 8 * s ∨ 8 * s + 8 ≤ j) → b2 j = a2 j) → post (nI s) (fd, nI (s + 1), fc, fb, fk, upd a1 s fd, b2, upd a3 s (a4 key), upd a4 key (nI s), a5, a6, a7, a8, a9, a10, a11, a12, a13)) :
    wpX_intern post (fd, nI s, fc, fb, fk, a1, a2, a3, a4, a5, a6, a7, a8, a9, a10, a11, a12, a13) := by
  unfold wpX_intern
  exact cv_i7 hs hb H
theorem cv_j108 {post : Int32 → St2 → Prop} {key s : Nat} {fd fc fb fk : Int32} {a1 a2 a3 a4 a5 a6 a7 a8 a9 a10 a11 a12 a13 : Nat → Int32} (hk : key < 32) (hs : s < 168)
    (H : ∀ b2 : Nat → Int32, (∀ k, k < 8 → b2 (8 * s + k) = a13 k) → (∀ j, (j < 8 * s ∨ 8 * s + 8 ≤ j) → b2 j = a2 j) → post (nI s) (fd, nI (s + 1), fc, fb, fk, a1, b2, upd a3 s (a4 key), upd a4 key (nI s), a5, a6, a7, a8, a9, a10, a11, a12, a13)) :
    ∃ n, wX_intern_2_108 post (nI key) fd (nI s) fc fb fk n 0 a1 a2 a3 a4 a5 a6 a7 a8 a9 a10 a11 a12 a13 :=
  pk_loop (fun n i b => wX_intern_2_108 post (nI key) fd (nI s) fc fb fk n (nI i) a1 b a3 a4 a5 a6 a7 a8 a9 a10 a11 a12 a13) (fun i b => (∀ k, k < i → b (8 * s + k) = a13 k) ∧ ∀ j, (j < 8 * s ∨ 8 * s + i ≤ j) → b j = a2 j) 8 0 a2 (by omega)
    ⟨fun k hk => absurd hk (by omega), fun j _ => rfl⟩
    (fun n b h => pk_le 8 8 (fun _ => ⟨pk_in key 32 hk, pk_in s 168 hs, nm_r (by rw [nI_clamp (show s < 2 ^ 31 by omega), nI_clamp (show key < 2 ^ 31 by omega)])
        ⟨pk_in key 32 hk, nm_r (by rw [nI_clamp (show key < 2 ^ 31 by omega)]) (nm_r (nI_1 s) (by rw [nI_pred]; exact H b h.1 h.2))⟩⟩) (fun z => absurd z (by omega)))
    (fun n i b hi h hw => pk_le 8 i (fun z => absurd z (by omega)) (fun _ => ⟨pk_in i 8 hi, pk_in (8 * s + i) 1344 (by omega) (cv_ix s i),
        nm_r (by rw [cv_cl (by omega), nI_clamp (show i < 2 ^ 31 by omega)]) (nm_r (nI_1 i) (hw _ (cv_fill h.1 h.2 rfl)))⟩))
theorem cv_j92 {post : Int32 → St2 → Prop} {key s : Nat} {fd fc fb fk : Int32} {a1 a2 a3 a4 a5 a6 a7 a8 a9 a10 a11 a12 a13 : Nat → Int32} (hk : key < 32) (hs : s < 168)
    (H : ∀ b2 : Nat → Int32, (∀ k, k < 8 → b2 (8 * s + k) = a13 k) → (∀ j, (j < 8 * s ∨ 8 * s + 8 ≤ j) → b2 j = a2 j) → post (nI s) (fd, nI (s + 1), fc, fb, fk, upd a1 s fd, b2, upd a3 s (a4 key), upd a4 key (nI s), a5, a6, a7, a8, a9, a10, a11, a12, a13)) :
    wX_intern_2_92 post (nI key) fd (nI s) fc fb fk a1 a2 a3 a4 a5 a6 a7 a8 a9 a10 a11 a12 a13 := by
  unfold wX_intern_2_92
  exact ⟨pk_in s 168 hs, nm_r (by rw [nI_clamp (show s < 2 ^ 31 by omega)]) (cv_j108 hk hs H)⟩
theorem cv_j56 {post : Int32 → St2 → Prop} {key s : Nat} {x : Int32} {fd fc fb fk : Int32} {a1 a2 a3 a4 a5 a6 a7 a8 a9 a10 a11 a12 a13 : Nat → Int32} (hk : key < 32) (hs : s < 168)
    (hx : x = -1 ∨ (x = 0 ∧ a3 0 = -1 ∧ ¬ a1 0 = fd))
    (H : ∀ b2 : Nat → Int32, (∀ k, k < 8 → b2 (8 * s + k) = a13 k) → (∀ j, (j < 8 * s ∨ 8 * s + 8 ≤ j) → b2 j = a2 j) → post (nI s) (fd, nI (s + 1), fc, fb, fk, upd a1 s fd, b2, upd a3 s (a4 key), upd a4 key (nI s), a5, a6, a7, a8, a9, a10, a11, a12, a13)) :
    ∃ n, wX_intern_2_56 post (nI key) fd (nI s) fc fb fk a1 a2 a3 a4 a5 a6 a7 a8 a9 a10 a11 a12 a13 n x 0 := by
  rcases hx with rfl | ⟨rfl, h3, h1⟩
  · exact ⟨1, pk_le 168 0 (fun z => absurd z (by omega)) (fun _ => br_t rfl (cv_j92 hk hs H))⟩
  · refine ⟨2, pk_le 168 0 (fun z => absurd z (by omega)) (fun _ => br_f (by decide) (cv_isDraft h1 (br_t rfl ⟨pk_in 0 168 (by omega), nm_r (e' := -1) (by rw [sb_cl0]; exact h3) (nm_r (nI_1 0) ?_)⟩)))⟩
    exact pk_le 168 (0 + 1) (fun z => absurd z (by omega)) (fun _ => br_t rfl (cv_j92 hk hs H))
theorem cv_j7 {post : Int32 → St2 → Prop} {s : Nat} {fd fc fb fk : Int32} {a1 a2 a3 a4 a5 a6 a7 a8 a9 a10 a11 a12 a13 : Nat → Int32} (hs : s < 168)
    (hb : ∀ j, j < 32 → a4 j = -1 ∨ (a4 j = 0 ∧ a3 0 = -1 ∧ ¬ a1 0 = fd))
    (H : ∀ (key : Nat) (b2 : Nat → Int32), key < 32 → (∀ k, k < 8 → b2 (8 * s + k) = a13 k) → (∀ j, (j < 8 * s ∨ 8 * s + 8 ≤ j) → b2 j = a2 j) → post (nI s) (fd, nI (s + 1), fc, fb, fk, upd a1 s fd, b2, upd a3 s (a4 key), upd a4 key (nI s), a5, a6, a7, a8, a9, a10, a11, a12, a13)) :
    ∃ n, wX_intern_2_7 post fd (nI s) fc fb fk a1 a2 a3 a4 a5 a6 a7 a8 a9 a10 a11 a12 a13 n fd 0 := by
  refine pk_loop (fun n i x => wX_intern_2_7 post fd (nI s) fc fb fk a1 a2 a3 a4 a5 a6 a7 a8 a9 a10 a11 a12 a13 n x (nI i)) (fun _ _ => True) 8 0 fd (by omega) trivial ?_ ?_
  · intro n x _
    refine pk_le 8 8 (fun _ => ?_) (fun z => absurd z (by omega))
    refine fun y ey => ?_
    obtain ⟨j, hj, e⟩ := pk_andE ((x ^^^ ((x.toUInt32 >>> ((7 : Int32).toUInt32 &&& Int32.toUInt32 31)).toInt32)) ^^^ ((x.toUInt32 >>> ((19 : Int32).toUInt32 &&& Int32.toUInt32 31)).toInt32)) (m := 31) 5 (by decide)
    have hj' : j < 32 := hj
    have ey' : y = nI j := ey.trans e
    subst ey'
    exact ⟨pk_in j 32 hj', nm_r (e' := a4 j) (by rw [nI_clamp (show j < 2 ^ 31 by omega)]) (cv_j56 hj' hs (hb j hj') (fun b2 h1 h2 => H j b2 hj' h1 h2))⟩
  · intro n i x hi _ hw
    exact pk_le 8 i (fun z => absurd z (by omega)) (fun _ => ⟨pk_in i 8 hi, nm_e (nm_r (nI_1 i) (hw _ trivial))⟩)
theorem cv_jntern {post : Int32 → St2 → Prop} {s : Nat} {fd fc fb fk : Int32} {a1 a2 a3 a4 a5 a6 a7 a8 a9 a10 a11 a12 a13 : Nat → Int32} (hs : s < 168)
    (hb : ∀ j, j < 32 → a4 j = -1 ∨ (a4 j = 0 ∧ a3 0 = -1 ∧ ¬ a1 0 = fd))
    (H : ∀ (key : Nat) (b2 : Nat → Int32), key < 32 → (∀ k, k < 8 → b2 (8 * s + k) = a13 k) → (∀ j, (j < 8 * s ∨ 8 * s + 8 ≤ j) → b2 j = a2 j) → post (nI s) (fd, nI (s + 1), fc, fb, fk, upd a1 s fd, b2, upd a3 s (a4 key), upd a4 key (nI s), a5, a6, a7, a8, a9, a10, a11, a12, a13)) :
    wpX_intern_2 post (fd, nI s, fc, fb, fk, a1, a2, a3, a4, a5, a6, a7, a8, a9, a10, a11, a12, a13) := by
  unfold wpX_intern_2
  exact cv_j7 hs hb H
end
section
/-- the state behind the constructor: nothing in the maps, one kept chunk, the empty one -/
def cv_P0 (a1 a2 a3 a4 a5 a9 a10 a11 a12 : Nat → Int32) : Prop :=
  (∀ j, a1 j = 0) ∧ (∀ j, a2 j = 0) ∧ a3 0 = -1 ∧ (∀ j, j < 32 → a4 j = -1 ∨ a4 j = 0) ∧ (∀ j, a5 j = 0) ∧ a9 0 = 0 ∧ (∀ j, a10 j = 0) ∧ (∀ j, a11 j = 0) ∧ (∀ j, a12 j = 0)
theorem cv_n139 {post : St2 → Prop} {mc ms kc ks : Nat} {fd fs fc fb fk : Int32} {a1 a2 a3 a4 a5 a6 a7 a8 a9 a10 a11 a12 a13 : Nat → Int32} (h5 : ∀ j, a5 j = 0) (h12 : ∀ j, a12 j = 0)
    (H : ∀ b5 b6 b7 b8 b12 : Nat → Int32, (∀ j, b5 j = 0) → (∀ j, b12 j = 0) → post (fd, fs, 1, fb, fk, a1, a2, a3, a4, b5, b6, b7, b8, a9, a10, a11, b12, a13)) :
    ∃ n, wX_init_139 post mc ms (nI 0) kc ks fd fs fc fb fk n 0 a1 a2 a3 a4 a5 a6 a7 a8 a9 a10 a11 a12 a13 :=
  pk_loop (σ := (Nat → Int32) × (Nat → Int32)) (fun n i s => wX_init_139 post mc ms (nI 0) kc ks fd fs fc fb fk n (nI i) a1 a2 a3 a4 s.1 a6 a7 a8 a9 a10 a11 s.2 a13) (fun _ s => (∀ j, s.1 j = 0) ∧ ∀ j, s.2 j = 0) 8 0 (a5, a12) (by omega) ⟨h5, h12⟩
    (fun n s h => pk_le 8 8 (fun _ => nm_e (nm_e (nm_e (H _ _ _ _ _ h.1 h.2)))) (fun z => absurd z (by omega)))
    (fun n i s hi h hw => pk_le 8 i (fun z => absurd z (by omega)) (fun _ => ⟨pk_in i 160 (by omega), nm_e ⟨pk_in i 8 hi, nm_e (nm_r (nI_1 i) (hw (_, _) ⟨cv_zero h.1 rfl, cv_zero h.2 rfl⟩))⟩⟩))
theorem cv_n113 {post : St2 → Prop} {mc ms kc ks : Nat}
    (H : ∀ a1 a2 a3 a4 a5 a6 a7 a8 a9 a10 a11 a12 a13 : Nat → Int32, cv_P0 a1 a2 a3 a4 a5 a9 a10 a11 a12 → post (0, nI 1, 1, 0, 0, a1, a2, a3, a4, a5, a6, a7, a8, a9, a10, a11, a12, a13)) :
    ∃ n, wX_init_113 post mc ms kc ks 0 0 0 0 0 n 0 (fun _ => 0) (fun _ => 0) (fun _ => 0) (fun _ => 0) (fun _ => 0) (fun _ => 0) (fun _ => 0) (fun _ => 0) (fun _ => 0) (fun _ => 0) (fun _ => 0) (fun _ => 0) (fun _ => 0) := by
  refine pk_loop (fun n i s => wX_init_113 post mc ms kc ks 0 0 0 0 0 n (nI i) (fun _ => 0) (fun _ => 0) (fun _ => 0) s (fun _ => 0) (fun _ => 0) (fun _ => 0) (fun _ => 0) (fun _ => 0) (fun _ => 0) (fun _ => 0) (fun _ => 0) (fun _ => 0)) (fun i s => ∀ j, j < i → s j = -1) 32 0 (fun _ => 0) (by omega) (fun j hj => absurd hj (by omega)) ?_ ?_
  · intro n s h
    refine pk_le 32 32 (fun _ => ?_) (fun z => absurd z (by omega))
    refine cv_intern (s := 0) (by omega) (fun j hj => Or.inl (h j hj)) (fun key b2 hk h1 h2 => ?_)
    refine cv_n139 (fun _ => rfl) (fun _ => rfl) (fun b5 b6 b7 b8 b12 h5 h12 => H _ _ _ _ _ _ _ _ _ _ _ _ _ ?_)
    refine ⟨cv_zero (fun _ => rfl) rfl, fun j => ?_, ?_, fun j hj => ?_, h5, rfl, fun _ => rfl, fun _ => rfl, h12⟩
    · by_cases e : j < 8
      · have := h1 j e
        rw [Nat.mul_zero, Nat.zero_add] at this
        exact this
      · exact h2 j (Or.inr (by omega))
    · rw [pk_us]
      exact h key hk
    · by_cases e : j = key
      · rw [e, pk_us]
        exact Or.inr rfl
      · rw [pk_un e]
        exact Or.inl (h j hj)
  · intro n i s hi h hw
    exact pk_le 32 i (fun z => absurd z (by omega)) (fun _ => ⟨pk_in i 32 hi, nm_r (by rw [nI_clamp (show i < 2 ^ 31 by omega)]) (nm_r (nI_1 i) (hw _ (cv_put (f := fun _ => -1) h rfl)))⟩)
theorem cv_init {post : St2 → Prop}
    (H : ∀ a1 a2 a3 a4 a5 a6 a7 a8 a9 a10 a11 a12 a13 : Nat → Int32, cv_P0 a1 a2 a3 a4 a5 a9 a10 a11 a12 → post (0, nI 1, 1, 0, 0, a1, a2, a3, a4, a5, a6, a7, a8, a9, a10, a11, a12, a13)) :
    wpX_init post 13 2024 (0, 0, 0, 0, 0) := by
  unfold wpX_init
  exact ⟨by omega, by omega, by omega, by omega, by omega, by omega, by omega, by omega, by omega, by omega, by omega, by omega, by omega, by omega, by omega, by omega, by omega, by omega, by omega, by omega, by omega, by omega, by omega, by omega, by omega, by omega, cv_n113 H⟩
end
section
theorem cv_key0 {post : Int32 → Prop} {x : Int32} (hk : x < 0 ∨ 64 ≤ x) (hp : post 0) : wpX_isKey post () x := by
  unfold wpX_isKey
  exact br_c (fun _ => hp) (fun z => br_t (hk.resolve_left z) hp)
theorem cv_key1 {post : Int32 → Prop} {q : Nat} (hq : q < 64) (hp : post 1) : wpX_isKey post () (nI q) := by
  unfold wpX_isKey
  exact br_f (nI_pos (by omega)) (br_f (nI_ge (b := 64) hq (by decide)) hp)
theorem cv_put0 {post : Int32 → St2 → Prop} {x v : Int32} {fd fs fc fb fk : Int32} {a1 a2 a3 a4 a5 a6 a7 a8 a9 a10 a11 a12 a13 : Nat → Int32} (hk : x < 0 ∨ 64 ≤ x) (hp : post (-1) (fd, fs, fc, fb, fk, a1, a2, a3, a4, a5, a6, a7, a8, a9, a10, a11, a12, a13)) : wpX_put post (fd, fs, fc, fb, fk, a1, a2, a3, a4, a5, a6, a7, a8, a9, a10, a11, a12, a13) x v := by
  unfold wpX_put
  exact cv_key0 hk (br_t rfl hp)
theorem cv_put1 {post : Int32 → St2 → Prop} {q : Nat} {v : Int32} {fd fs fc fb fk : Int32} {a1 a2 a3 a4 a5 a6 a7 a8 a9 a10 a11 a12 a13 : Nat → Int32} (hq : q < 64) (h10 : a10 (q / 8) = 0)
    (hp : post 1 (fd, fs, fc, fb, fk, a1, a2, a3, a4, a5, a6, a7, a8, a9, upd a10 (q / 8) (cv_b (q % 8)), upd a11 q v, upd a12 (q / 8) (-1), a13)) : wpX_put post (fd, fs, fc, fb, fk, a1, a2, a3, a4, a5, a6, a7, a8, a9, a10, a11, a12, a13) (nI q) v := by
  have hc : q / 8 < 8 := by omega
  have hk : q % 8 < 8 := by omega
  have hcl : (nI (q / 8)).toNatClampNeg = q / 8 := nI_clamp (by omega)
  unfold wpX_put
  refine cv_key1 hq (br_f (by decide) (nm_r (cv_shr q hq) (nm_r (e' := cv_b (q % 8)) (by rw [cv_and7 q hq]; rfl) ⟨pk_in (q / 8) 8 hc, br_t (by rw [hcl, h10]; exact cv_b_and _ hk) ?_⟩)))
  unfold wX_put_38
  exact ⟨pk_in (q / 8) 8 hc, pk_in (q / 8) 8 hc, nm_r (by rw [hcl, h10, cv_b_or _ hk]) ⟨pk_in q 64 hq, nm_r (by rw [nI_clamp (show q < 2 ^ 31 by omega)]) ⟨pk_in (q / 8) 8 hc, nm_r (by rw [hcl]) hp⟩⟩⟩
/-- the work chunk c against the empty chunk 0: one place differs -/
theorem cv_differs {post : Int32 → Prop} {c k : Nat} {fd fs fc fb fk : Int32} {a1 a2 a3 a4 a5 a6 a7 a8 a9 a10 a11 a12 a13 : Nat → Int32} (hc : c < 8) (hk : k < 8) (h10 : a10 c = cv_b k) (h1 : a1 0 = 0)
    (h11 : ∀ j, j < 8 → j ≠ k → a11 (8 * c + j) = 0) (h2 : ∀ j, a2 j = 0) (hp : post 1) : wpX_differsFromWork post (fd, fs, fc, fb, fk, a1, a2, a3, a4, a5, a6, a7, a8, a9, a10, a11, a12, a13) (nI c) (nI 0) := by
  have hcl : (nI c).toNatClampNeg = c := nI_clamp (by omega)
  have h0 : (nI 0).toNatClampNeg = 0 := nI_clamp (by omega)
  unfold wpX_differsFromWork
  refine pk_loop (fun n i s => wX_differsFromWork_5 post (nI c) (nI 0) fd fs fc fb fk a1 a2 a3 a4 a5 a6 a7 a8 a9 a10 a11 a12 a13 n s (nI i)) (fun i s => s = if k < i then (1 : Int32) else 0) 8 0 0 (by omega) (by rw [if_neg (by omega)]) ?_ ?_
  · intro n s h
    refine pk_le 8 8 (fun _ => ?_) (fun z => absurd z (by omega))
    rw [h, if_pos hk]
    exact hp
  · intro n i s hi h hw
    have e : (((a10 (nI c).toNatClampNeg) ^^^ (a1 (nI 0).toNatClampNeg)) >>> (nI i &&& 31)) &&& 1 = (if i = k then (1 : Int32) else 0) := by
      rw [hcl, h0, h10, h1, cv_b_x0 k hk, cv_bit k hk i hi]
    refine pk_le 8 i (fun z => absurd z (by omega)) (fun _ => ⟨pk_in c 8 hc, pk_in 0 168 (by omega), ?_⟩)
    by_cases ek : i = k
    · refine br_t (by rw [e, if_pos ek]) ?_
      unfold wX_differsFromWork_39
      refine br_f (by decide) (nm_e (nm_r (nI_1 i) (hw _ ?_)))
      rw [h, if_neg (by omega), if_pos (by omega)]
      rfl
    · refine br_f (by rw [e, if_neg ek]; decide) ?_
      unfold wX_differsFromWork_39
      refine br_t rfl ⟨pk_in (8 * c + i) 64 (by omega) (cv_ix c i), pk_in (8 * 0 + i) 1344 (by omega) (cv_ix 0 i), br_t ?_ (nm_e (nm_r (nI_1 i) (hw _ ?_)))⟩
      · rw [cv_cl (by omega), h11 i hi ek, h2]
      · rw [h]
        by_cases z : k < i
        · rw [if_pos z, if_pos (by omega)]
          rfl
        · rw [if_neg z, if_neg (by omega)]
          rfl
theorem cv_isClean0 {post : Int32 → Prop} {fd fs fc fk : Int32} {a1 a2 a3 a4 a5 a6 a7 a8 a9 a10 a11 a12 a13 : Nat → Int32} (h9 : a9 0 = 0) (h5 : ∀ j, a5 j = 0) (h12 : ∀ j, a12 j = 0) (hp : post 1) : wpX_isClean post (fd, fs, fc, 0, fk, a1, a2, a3, a4, a5, a6, a7, a8, a9, a10, a11, a12, a13) := by
  unfold wpX_isClean
  refine ⟨pk_in 0 4 (by omega), nm_r (e' := nI 0) (by rw [sb_cl0]; exact h9) ?_⟩
  exact pk_loop (σ := Unit) (fun n i _ => wX_isClean_12 post (nI 0) fd fs fc 0 fk a1 a2 a3 a4 a5 a6 a7 a8 a9 a10 a11 a12 a13 n (nI i)) (fun _ _ => True) 8 0 () (by omega) trivial
    (fun n _ _ => pk_le 8 8 (fun _ => hp) (fun z => absurd z (by omega)))
    (fun n i _ hi _ hw => pk_le 8 i (fun z => absurd z (by omega)) (fun _ => ⟨pk_in (8 * 0 + i) 160 (by omega) (cv_ix 0 i), nm_r (h5 _) ⟨pk_in i 8 hi, br_t (h12 _) (nm_r (nI_1 i) (hw () trivial))⟩⟩))
theorem cv_isClean1 {post : Int32 → Prop} {c k : Nat} {fd fs fc fk : Int32} {a1 a2 a3 a4 a5 a6 a7 a8 a9 a10 a11 a12 a13 : Nat → Int32} (hc : c < 8) (hk : k < 8) (h9 : a9 0 = 0) (h5 : ∀ j, a5 j = 0) (h12 : ∀ j, j < c → a12 j = 0) (h12c : a12 c = -1)
    (h10 : a10 c = cv_b k) (h1 : a1 0 = 0) (h11 : ∀ j, j < 8 → j ≠ k → a11 (8 * c + j) = 0) (h2 : ∀ j, a2 j = 0) (hp : post 0) : wpX_isClean post (fd, fs, fc, 0, fk, a1, a2, a3, a4, a5, a6, a7, a8, a9, a10, a11, a12, a13) := by
  unfold wpX_isClean
  refine ⟨pk_in 0 4 (by omega), nm_r (e' := nI 0) (by rw [sb_cl0]; exact h9) ?_⟩
  exact pk_loop (σ := Unit) (fun n i _ => wX_isClean_12 post (nI 0) fd fs fc 0 fk a1 a2 a3 a4 a5 a6 a7 a8 a9 a10 a11 a12 a13 n (nI i)) (fun _ _ => True) c 0 () (by omega) trivial
    (fun n _ _ => pk_le 8 c (fun z => absurd z (by omega)) (fun _ => ⟨pk_in (8 * 0 + c) 160 (by omega) (cv_ix 0 c), nm_r (e' := nI 0) (h5 _) ⟨pk_in c 8 hc, br_f (by rw [nI_clamp (show c < 2 ^ 31 by omega), h12c]; decide) (cv_differs hc hk h10 h1 h11 h2 (br_f (by decide) hp))⟩⟩))
    (fun n i _ hi _ hw => pk_le 8 i (fun z => absurd z (by omega)) (fun _ => ⟨pk_in (8 * 0 + i) 160 (by omega) (cv_ix 0 i), nm_r (e' := nI 0) (h5 _) ⟨pk_in i 8 (by omega), br_t (by rw [nI_clamp (show i < 2 ^ 31 by omega)]; exact h12 i hi) (nm_r (nI_1 i) (hw () trivial))⟩⟩))
theorem cv_clean0 {post : Int32 → Prop} {fd fs fc fk : Int32} {a1 a2 a3 a4 a5 a6 a7 a8 a9 a10 a11 a12 a13 : Nat → Int32} (h9 : a9 0 = 0) (h5 : ∀ j, a5 j = 0) (h12 : ∀ j, a12 j = 0) (hp : post 1) : wpX_clean post (fd, fs, fc, 0, fk, a1, a2, a3, a4, a5, a6, a7, a8, a9, a10, a11, a12, a13) := by
  unfold wpX_clean
  exact cv_isClean0 h9 h5 h12 (br_f (by decide) hp)
theorem cv_clean1 {post : Int32 → Prop} {c k : Nat} {fd fs fc fk : Int32} {a1 a2 a3 a4 a5 a6 a7 a8 a9 a10 a11 a12 a13 : Nat → Int32} (hc : c < 8) (hk : k < 8) (h9 : a9 0 = 0) (h5 : ∀ j, a5 j = 0) (h12 : ∀ j, j < c → a12 j = 0) (h12c : a12 c = -1)
    (h10 : a10 c = cv_b k) (h1 : a1 0 = 0) (h11 : ∀ j, j < 8 → j ≠ k → a11 (8 * c + j) = 0) (h2 : ∀ j, a2 j = 0) (hp : post 0) : wpX_clean post (fd, fs, fc, 0, fk, a1, a2, a3, a4, a5, a6, a7, a8, a9, a10, a11, a12, a13) := by
  unfold wpX_clean
  exact cv_isClean1 hc hk h9 h5 h12 h12c h10 h1 h11 h2 (br_t rfl hp)
end
section
/-- what a reader sees of the two commits: e the place of the changed chunk (8: none), k its key, v the value -/
def cv_R (e k : Nat) (v : Int32) (a1 a2 a5 : Nat → Int32) : Prop :=
  k < 8 ∧ (∀ j, j < 8 → a5 j = nI 0) ∧ (∀ j, j < 8 → a5 (8 + j) = if j = e then nI 1 else nI 0) ∧ a1 0 = 0 ∧ (e < 8 → a1 1 = cv_b k) ∧ (∀ j, j < 8 → a2 j = 0) ∧ (e < 8 → ∀ j, j < 8 → a2 (8 + j) = if j = k then v else 0)
theorem cv_enter {post : St2 → Prop} {t : Nat} {p0 : Int32} {fd fs fk : Int32} {a1 a2 a3 a4 a5 a6 a7 a8 a9 a10 a11 a12 a13 : Nat → Int32} (ht : t < 20) (hp0 : p0 = nI 0)
    (H : ∀ b6 b7 b8 b9 : Nat → Int32, post (fd, fs, nI (t + 1), 0, fk, a1, a2, a3, a4, a5, b6, b7, b8, b9, a10, a11, a12, a13)) : wpX_enter post (fd, fs, nI t, 0, fk, a1, a2, a3, a4, a5, a6, a7, a8, a9, a10, a11, a12, a13) p0 (-1) := by
  subst hp0
  unfold wpX_enter
  refine ⟨pk_in t 20 ht, nm_e ⟨pk_in t 20 ht, nm_e ⟨pk_in 0 20 (by omega), pk_in t 20 ht, nm_e (br_t rfl ?_)⟩⟩⟩
  unfold wX_enter_72
  exact ⟨pk_in 0 4 (by omega), nm_e (nm_r (nI_1 t) (H _ _ _ _))⟩
theorem cv_c17 {post : Int32 → St2 → Prop} {fd fs fk : Int32} {a1 a2 a3 a4 a5 a6 a7 a8 a9 a10 a11 a12 a13 : Nat → Int32} (h9 : a9 0 = 0)
    (H : ∀ b5 b6 b7 b8 b9 : Nat → Int32, (∀ j, j < 8 → b5 (8 + j) = a12 j) → (∀ j, j < 8 → b5 j = a5 j) → post 1 (fd, fs, nI 2, 0, fk, a1, a2, a3, a4, b5, b6, b7, b8, b9, a10, a11, a12, a13)) :
    ∃ n, wX_commit_17 post fd fs (nI 1) 0 fk n 0 a1 a2 a3 a4 a5 a6 a7 a8 a9 a10 a11 a12 a13 := by
  refine pk_loop (fun n i s => wX_commit_17 post fd fs (nI 1) 0 fk n (nI i) a1 a2 a3 a4 s a6 a7 a8 a9 a10 a11 a12 a13) (fun i s => (∀ k, k < i → s (8 + k) = a12 k) ∧ ∀ j, (j < 8 ∨ 8 + i ≤ j) → s j = a5 j) 8 0 a5 (by omega) ⟨fun k hk => absurd hk (by omega), fun j _ => rfl⟩ ?_ ?_
  · intro n s h
    refine pk_le 8 8 (fun _ => ⟨pk_in 0 4 (by omega), ?_⟩) (fun z => absurd z (by omega))
    exact cv_enter (t := 1) (by omega) (by rw [sb_cl0]; exact h9) (fun b6 b7 b8 b9 => H s b6 b7 b8 b9 h.1 (fun j hj => h.2 j (Or.inl hj)))
  · intro n i s hi h hw
    exact pk_le 8 i (fun z => absurd z (by omega)) (fun _ => ⟨pk_in i 8 hi, pk_in (8 * 1 + i) 160 (by omega) (cv_ix 1 i), nm_r (by rw [cv_cl (c := 1) (by omega), nI_clamp (show i < 2 ^ 31 by omega)]) (nm_r (nI_1 i) (hw _ (cv_fill (o := 8) h.1 h.2 rfl)))⟩)
theorem cv_setA {post : St2 → Prop} {fd fs fc fb fk : Int32} {a1 a2 a3 a4 a5 a6 a7 a8 a9 a10 a11 a12 a13 : Nat → Int32} (hp : post (fd, fs, fc, fb, fk, a1, a2, a3, a4, a5, a6, a7, a8, a9, a10, a11, a12, a13)) : ∀ n i, i ≤ 8 → 8 - i < n → (∀ j, i ≤ j → j < 8 → ¬ a12 j = -1) → wX_settleWork_2 post n (nI i) fd fs fc fb fk a1 a2 a3 a4 a5 a6 a7 a8 a9 a10 a11 a12 a13 := by
  intro n
  induction n with
  | zero => intro i _ h; omega
  | succ n ih =>
    intro i hi hn ha
    exact pk_le 8 i (fun _ => hp) (fun z => ⟨pk_in i 8 z, br_f (by rw [nI_clamp (show i < 2 ^ 31 by omega)]; exact ha i (Nat.le_refl i) z) (nm_r (nI_1 i) (ih (i + 1) (by omega) (by omega) (fun j h1 h2 => ha j (by omega) h2)))⟩)
theorem cv_set30 {post : St2 → Prop} {J : Int32 → Int32 → Int32 → Int32 → Int32 → Int32 → (Nat → Int32) → (Nat → Int32) → (Nat → Int32) → (Nat → Int32) → (Nat → Int32) → (Nat → Int32) → (Nat → Int32) → (Nat → Int32) → (Nat → Int32) → (Nat → Int32) → (Nat → Int32) → (Nat → Int32) → (Nat → Int32) → Prop} {c : Nat} {fd fc fb fk : Int32} {a1 a2 a3 a4 a5 a6 a7 a8 a9 a10 a11 a12 a13 : Nat → Int32} (hc : c < 8)
    (hb : ∀ j, j < 32 → a4 j = -1 ∨ (a4 j = 0 ∧ a3 0 = -1 ∧ ¬ a1 0 = fd))
    (H : ∀ b2 b3 b4 b13 : Nat → Int32, (∀ k, k < 8 → b2 (8 * 1 + k) = a11 (8 * c + k)) → (∀ j, j < 8 → b2 j = a2 j) → J (nI (c + 1)) fd (nI 2) fc fb fk (upd a1 1 fd) b2 b3 b4 a5 a6 a7 a8 a9 a10 a11 (upd a12 c (nI 1)) b13) :
    ∃ n, wX_settleWork_30 post J (nI c) fd (nI 1) fc fb fk n 0 a1 a2 a3 a4 a5 a6 a7 a8 a9 a10 a11 a12 a13 := by
  refine pk_loop (fun n i s => wX_settleWork_30 post J (nI c) fd (nI 1) fc fb fk n (nI i) a1 a2 a3 a4 a5 a6 a7 a8 a9 a10 a11 a12 s) (fun i s => ∀ k, k < i → s k = a11 (8 * c + k)) 8 0 a13 (by omega) (fun k hk => absurd hk (by omega)) ?_ ?_
  · intro n s h
    refine pk_le 8 8 (fun _ => ?_) (fun z => absurd z (by omega))
    refine cv_jntern (s := 1) (by omega) hb (fun key b2 hk h1 h2 => ?_)
    exact ⟨pk_in c 8 hc, nm_r (by rw [nI_clamp (show c < 2 ^ 31 by omega)]) (nm_r (nI_1 c) (H b2 _ _ s (fun k hk => (h1 k hk).trans (h k hk)) (fun j hj => h2 j (Or.inl (by omega)))))⟩
  · intro n i s hi h hw
    exact pk_le 8 i (fun z => absurd z (by omega)) (fun _ => ⟨pk_in (8 * c + i) 64 (by omega) (cv_ix c i), pk_in i 8 hi, nm_r (by rw [cv_cl (by omega), nI_clamp (show i < 2 ^ 31 by omega)]) (nm_r (nI_1 i) (hw _ (cv_put (f := fun k => a11 (8 * c + k)) h rfl)))⟩)
theorem cv_setC {post : St2 → Prop} {c : Nat} {fd fc fb fk : Int32} {a1 a2 a3 a4 a5 a6 a7 a8 a9 a10 a11 a12 a13 : Nat → Int32} (hc : c < 8) (h12 : ∀ j, j < 8 → j ≠ c → a12 j = 0) (h12c : a12 c = -1)
    (hb : ∀ j, j < 32 → a4 j = -1 ∨ (a4 j = 0 ∧ a3 0 = -1 ∧ ¬ a1 0 = a10 c))
    (H : ∀ b2 b3 b4 b13 : Nat → Int32, (∀ k, k < 8 → b2 (8 * 1 + k) = a11 (8 * c + k)) → (∀ j, j < 8 → b2 j = a2 j) → post (a10 c, nI 2, fc, fb, fk, upd a1 1 (a10 c), b2, b3, b4, a5, a6, a7, a8, a9, a10, a11, upd a12 c (nI 1), b13)) :
    ∀ n i, i ≤ c → 8 - i < n → wX_settleWork_2 post n (nI i) fd (nI 1) fc fb fk a1 a2 a3 a4 a5 a6 a7 a8 a9 a10 a11 a12 a13 := by
  intro n
  induction n with
  | zero => intro i _ h; omega
  | succ n ih =>
    intro i hi hn
    refine pk_le 8 i (fun z => absurd z (by omega)) (fun z => ⟨pk_in i 8 z, ?_⟩)
    have hcl : (nI i).toNatClampNeg = i := nI_clamp (by omega)
    by_cases e : i = c
    · subst e
      refine br_t (by rw [hcl]; exact h12c) ⟨pk_in i 8 z, nm_r (e' := a10 i) (by rw [hcl]) ?_⟩
      refine cv_set30 hc hb (fun b2 b3 b4 b13 h1 h2 => cv_setA (H b2 b3 b4 b13 h1 h2) n (i + 1) (by omega) (by omega) (fun j h3 h4 => ?_))
      rw [pk_un (by omega), h12 j h4 (by omega)]
      decide
    · refine br_f ?_ (nm_r (nI_1 i) (ih (i + 1) (by omega) (by omega)))
      rw [hcl, h12 i (by omega) e]
      decide
theorem cv_commit0 {post : Int32 → St2 → Prop} {fd fs fk : Int32} {a1 a2 a3 a4 a5 a6 a7 a8 a9 a10 a11 a12 a13 : Nat → Int32} (h9 : a9 0 = 0) (h1 : a1 0 = 0) (h2 : ∀ j, a2 j = 0) (h5 : ∀ j, a5 j = 0) (h12 : ∀ j, a12 j = 0)
    (H : ∀ a5 a6 a7 a8 a9 : Nat → Int32, cv_R 8 0 0 a1 a2 a5 → post 1 (fd, fs, nI 2, 0, fk, a1, a2, a3, a4, a5, a6, a7, a8, a9, a10, a11, a12, a13)) : wpX_commit post (fd, fs, 1, 0, fk, a1, a2, a3, a4, a5, a6, a7, a8, a9, a10, a11, a12, a13) := by
  unfold wpX_commit
  refine br_f (by decide) ?_
  unfold wpX_settleWork
  refine ⟨9, cv_setA ?_ 9 0 (by omega) (by omega) (fun j _ _ => by rw [h12 j]; decide)⟩
  refine cv_c17 h9 (fun b5 b6 b7 b8 b9 g1 g2 => H b5 b6 b7 b8 b9 ⟨by omega, fun j hj => (g2 j hj).trans (h5 j), fun j hj => ?_, h1, fun z => absurd z (by omega), fun j _ => h2 j, fun z => absurd z (by omega)⟩)
  rw [g1 j hj, if_neg (by omega)]
  exact h12 j
theorem cv_commit1 {post : Int32 → St2 → Prop} {c k : Nat} {v : Int32} {fd fk : Int32} {a1 a2 a3 a4 a5 a6 a7 a8 a9 a10 a11 a12 a13 : Nat → Int32} (hc : c < 8) (hk : k < 8) (h9 : a9 0 = 0) (h1 : a1 0 = 0) (h2 : ∀ j, a2 j = 0) (h3 : a3 0 = -1) (h4 : ∀ j, j < 32 → a4 j = -1 ∨ a4 j = 0) (h5 : ∀ j, a5 j = 0)
    (h10 : a10 c = cv_b k) (h11 : ∀ j, j < 8 → a11 (8 * c + j) = if j = k then v else 0) (h12 : ∀ j, j < 8 → j ≠ c → a12 j = 0) (h12c : a12 c = -1)
    (H : ∀ (fd fs : Int32) (a1 a2 a3 a4 a5 a6 a7 a8 a9 a12 a13 : Nat → Int32), cv_R c k v a1 a2 a5 → post 1 (fd, fs, nI 2, 0, fk, a1, a2, a3, a4, a5, a6, a7, a8, a9, a10, a11, a12, a13)) : wpX_commit post (fd, nI 1, 1, 0, fk, a1, a2, a3, a4, a5, a6, a7, a8, a9, a10, a11, a12, a13) := by
  unfold wpX_commit
  refine br_f (by decide) ?_
  unfold wpX_settleWork
  refine ⟨9, cv_setC hc h12 h12c (fun j hj => ?_) (fun b2 b3 b4 b13 g1 g2 => ?_) 9 0 (by omega) (by omega)⟩
  · rcases h4 j hj with e | e
    · exact Or.inl e
    · exact Or.inr ⟨e, h3, by rw [h1, h10]; exact cv_b_nn k hk⟩
  · refine cv_c17 h9 (fun b5 b6 b7 b8 b9 g3 g4 => H _ _ _ b2 b3 b4 b5 b6 b7 b8 b9 _ b13 ⟨hk, fun j hj => (g4 j hj).trans (h5 j), fun j hj => ?_, ?_, fun _ => ?_, fun j hj => (g2 j hj).trans (h2 j), fun _ j hj => ?_⟩)
    · rw [g3 j hj]
      by_cases e : j = c
      · rw [e, pk_us, if_pos rfl]
      · rw [pk_un e, if_neg e]
        exact h12 j hj e
    · rw [pk_un (by omega)]
      exact h1
    · rw [pk_us]
      exact h10
    · exact (g1 j hj).trans (h11 j hj)
end
section
theorem cv_isCommit {post : Int32 → Prop} {t : Nat} {fd fs fb fk : Int32} {a1 a2 a3 a4 a5 a6 a7 a8 a9 a10 a11 a12 a13 : Nat → Int32} (ht : t < 2) (hp : post 1) : wpX_isCommit post (fd, fs, nI 2, fb, fk, a1, a2, a3, a4, a5, a6, a7, a8, a9, a10, a11, a12, a13) (nI t) := by
  unfold wpX_isCommit
  exact br_f (nI_pos (by omega)) (br_f (nI_ge ht (by omega)) hp)
theorem cv_has0 {post : Int32 → Prop} {x : Int32} {fd fs fb fk : Int32} {a1 a2 a3 a4 a5 a6 a7 a8 a9 a10 a11 a12 a13 : Nat → Int32} (hx : x < 0 ∨ 64 ≤ x) (hp : post (-2)) : wpX_hasIn post (fd, fs, nI 2, fb, fk, a1, a2, a3, a4, a5, a6, a7, a8, a9, a10, a11, a12, a13) 1 x := by
  unfold wpX_hasIn
  exact cv_isCommit (t := 1) (by omega) (br_f (by decide) (cv_key0 hx (br_t rfl hp)))
theorem cv_val0 {post : Int32 → Prop} {x : Int32} {fd fs fb fk : Int32} {a1 a2 a3 a4 a5 a6 a7 a8 a9 a10 a11 a12 a13 : Nat → Int32} (hx : x < 0 ∨ 64 ≤ x) (hp : post 0) : wpX_valueIn post (fd, fs, nI 2, fb, fk, a1, a2, a3, a4, a5, a6, a7, a8, a9, a10, a11, a12, a13) 1 x := by
  unfold wpX_valueIn
  exact cv_isCommit (t := 1) (by omega) (br_f (by decide) (cv_key0 hx (br_t rfl hp)))
theorem cv_has1 {post : Int32 → Prop} {e k l : Nat} {v : Int32} {fd fs fb fk : Int32} {a1 a2 a3 a4 a5 a6 a7 a8 a9 a10 a11 a12 a13 : Nat → Int32} (r : cv_R e k v a1 a2 a5) (hl : l < 64)
    (hp : post (if l / 8 = e ∧ l % 8 = k then 1 else 0)) : wpX_hasIn post (fd, fs, nI 2, fb, fk, a1, a2, a3, a4, a5, a6, a7, a8, a9, a10, a11, a12, a13) 1 (nI l) := by
  obtain ⟨hk, r5, r5', r1, r1', r2, r2'⟩ := r
  unfold wpX_hasIn
  refine cv_isCommit (t := 1) (by omega) (br_f (by decide) (cv_key1 hl (br_f (by decide) ?_)))
  have ei : (8 : Int32) * 1 + (nI l >>> ((3 : Int32) &&& 31)) = nI (8 * 1 + l / 8) := by
    rw [cv_shr l hl]
    exact cv_ix 1 (l / 8)
  rw [ei, nI_clamp (show 8 * 1 + l / 8 < 2 ^ 31 by omega), cv_and7 l hl]
  refine ⟨pk_in (8 * 1 + l / 8) 160 (by omega), nm_r (r5' (l / 8) (by omega)) ?_⟩
  by_cases h : l / 8 = e
  · rw [if_pos h]
    refine ⟨pk_in 1 168 (by omega), ?_⟩
    rw [nI_clamp (show 1 < 2 ^ 31 by omega), r1' (by omega), cv_bit k hk (l % 8) (by omega)]
    by_cases h' : l % 8 = k
    · rw [if_pos h']
      rw [if_pos ⟨h, h'⟩] at hp
      exact hp
    · rw [if_neg h']
      rw [if_neg (fun z => h' z.2)] at hp
      exact hp
  · rw [if_neg h]
    refine ⟨pk_in 0 168 (by omega), ?_⟩
    rw [nI_clamp (show 0 < 2 ^ 31 by omega), r1, cv_bit0 (l % 8) (by omega)]
    rw [if_neg (fun z => h z.1)] at hp
    exact hp
theorem cv_val1 {post : Int32 → Prop} {e k l : Nat} {v : Int32} {fd fs fb fk : Int32} {a1 a2 a3 a4 a5 a6 a7 a8 a9 a10 a11 a12 a13 : Nat → Int32} (r : cv_R e k v a1 a2 a5) (hl : l < 64)
    (hp : post (if l / 8 = e ∧ l % 8 = k then v else 0)) : wpX_valueIn post (fd, fs, nI 2, fb, fk, a1, a2, a3, a4, a5, a6, a7, a8, a9, a10, a11, a12, a13) 1 (nI l) := by
  obtain ⟨hk, r5, r5', r1, r1', r2, r2'⟩ := r
  unfold wpX_valueIn
  refine cv_isCommit (t := 1) (by omega) (br_f (by decide) (cv_key1 hl (br_f (by decide) ?_)))
  have ei : (8 : Int32) * 1 + (nI l >>> ((3 : Int32) &&& 31)) = nI (8 * 1 + l / 8) := by
    rw [cv_shr l hl]
    exact cv_ix 1 (l / 8)
  rw [ei, nI_clamp (show 8 * 1 + l / 8 < 2 ^ 31 by omega), cv_and7 l hl]
  refine ⟨pk_in (8 * 1 + l / 8) 160 (by omega), nm_r (r5' (l / 8) (by omega)) ?_⟩
  by_cases h : l / 8 = e
  · rw [if_pos h, cv_ix, nI_clamp (show 8 * 1 + l % 8 < 2 ^ 31 by omega)]
    refine ⟨pk_in (8 * 1 + l % 8) 1344 (by omega), ?_⟩
    have q := r2' (by omega) (l % 8) (by omega)
    by_cases h' : l % 8 = k
    · rw [if_pos h'] at q
      rw [if_pos ⟨h, h'⟩, ← q] at hp
      exact hp
    · rw [if_neg h'] at q
      rw [if_neg (fun z => h' z.2), ← q] at hp
      exact hp
  · rw [if_neg h, cv_ix, nI_clamp (show 8 * 0 + l % 8 < 2 ^ 31 by omega)]
    refine ⟨pk_in (8 * 0 + l % 8) 1344 (by omega), ?_⟩
    rw [if_neg (fun z => h z.1)] at hp
    rw [r2 (8 * 0 + l % 8) (by omega)]
    exact hp
theorem cv_dif0 {post : Int32 → Prop} {fd fs fc fb fk : Int32} {a1 a2 a3 a4 a5 a6 a7 a8 a9 a10 a11 a12 a13 : Nat → Int32} {x y : Int32} (h : x = y) (hp : post 0) : wpX_difference post (fd, fs, fc, fb, fk, a1, a2, a3, a4, a5, a6, a7, a8, a9, a10, a11, a12, a13) x y := by
  unfold wpX_difference
  exact br_t h hp
theorem cv_dif1 {post : Int32 → Prop} {e k : Nat} {v : Int32} {fd fs fc fb fk : Int32} {a1 a2 a3 a4 a5 a6 a7 a8 a9 a10 a11 a12 a13 : Nat → Int32} (r : cv_R e k v a1 a2 a5) (he : e < 8) (hp : post (cv_b k)) : wpX_difference post (fd, fs, fc, fb, fk, a1, a2, a3, a4, a5, a6, a7, a8, a9, a10, a11, a12, a13) (nI 0) (nI 1) := by
  obtain ⟨hk, r5, r5', r1, r1', r2, r2'⟩ := r
  unfold wpX_difference
  refine br_f (by decide) ⟨pk_in 0 168 (by omega), pk_in 1 168 (by omega), nm_r (e' := cv_b k) (by rw [nI_clamp (show 0 < 2 ^ 31 by omega), nI_clamp (show 1 < 2 ^ 31 by omega), r1, r1' he, cv_b_0x k hk]) ?_⟩
  refine pk_loop (σ := Unit) (fun n i _ => wX_difference_24 post (nI 0) (nI 1) fd fs fc fb fk a1 a2 a3 a4 a5 a6 a7 a8 a9 a10 a11 a12 a13 n (cv_b k) (nI i)) (fun _ _ => True) 8 0 () (by omega) trivial (fun n _ _ => pk_le 8 8 (fun _ => hp) (fun z => absurd z (by omega))) ?_
  intro n i _ hi _ hw
  have q := r2' he i hi
  have q0 := r2 (8 * 0 + i) (by omega)
  refine pk_le 8 i (fun z => absurd z (by omega)) (fun _ => ⟨pk_in (8 * 0 + i) 1344 (by omega) (cv_ix 0 i), pk_in (8 * 1 + i) 1344 (by omega) (cv_ix 1 i), br_c (fun _ => nm_r (nI_1 i) (hw () trivial)) (fun z => ?_)⟩)
  rw [cv_cl (by omega), cv_cl (by omega)] at z
  by_cases h : i = k
  · subst h
    exact nm_r (e' := cv_b i) (cv_b_oo i hk) (nm_r (nI_1 i) (hw () trivial))
  · rw [if_neg h] at q
    exact absurd (q0.trans q.symm) z
/-- the inner loop where nothing is found -/
theorem cv_73n {post J : Int32 → Prop} {x1 x2 x4 s : Int32} {c : Nat} {fd fs fc fb fk : Int32} {a1 a2 a3 a4 a5 a6 a7 a8 a9 a10 a11 a12 a13 : Nat → Int32} (hs : ∀ i, i < 8 → (s >>> (nI i &&& 31)) &&& 1 = 1 → (8 : Int32) * nI c + nI i ≤ x4) (hJ : J (nI (c + 1))) :
    ∃ n, wX_nextDifference_73 post J x1 x2 x4 (nI c) s fd fs fc fb fk a1 a2 a3 a4 a5 a6 a7 a8 a9 a10 a11 a12 a13 n 0 :=
  pk_loop (σ := Unit) (fun n i _ => wX_nextDifference_73 post J x1 x2 x4 (nI c) s fd fs fc fb fk a1 a2 a3 a4 a5 a6 a7 a8 a9 a10 a11 a12 a13 n (nI i)) (fun _ _ => True) 8 0 () (by omega) trivial
    (fun n _ _ => pk_le 8 8 (fun _ => nm_r (nI_1 c) hJ) (fun z => absurd z (by omega)))
    (fun n i _ hi _ hw => pk_le 8 i (fun z => absurd z (by omega)) (fun _ => br_c (fun g => br_t (hs i hi g) (nm_r (nI_1 i) (hw () trivial))) (fun _ => nm_r (nI_1 i) (hw () trivial))))
/-- the inner loop that finds the key -/
theorem cv_73y {post J : Int32 → Prop} {x1 x2 x4 : Int32} {c k : Nat} {fd fs fc fb fk : Int32} {a1 a2 a3 a4 a5 a6 a7 a8 a9 a10 a11 a12 a13 : Nat → Int32} (hk : k < 8) (hx : ¬ nI (8 * c + k) ≤ x4) (hp : post (nI (8 * c + k))) :
    ∃ n, wX_nextDifference_73 post J x1 x2 x4 (nI c) (cv_b k) fd fs fc fb fk a1 a2 a3 a4 a5 a6 a7 a8 a9 a10 a11 a12 a13 n 0 := by
  refine pk_loop (σ := Unit) (fun n i _ => wX_nextDifference_73 post J x1 x2 x4 (nI c) (cv_b k) fd fs fc fb fk a1 a2 a3 a4 a5 a6 a7 a8 a9 a10 a11 a12 a13 n (nI i)) (fun _ _ => True) k 0 () (by omega) trivial ?_ ?_
  · intro n _ _
    refine pk_le 8 k (fun z => absurd z (by omega)) (fun _ => br_t (by rw [cv_bit k hk k hk, if_pos rfl]) ?_)
    rw [cv_ix]
    exact br_f hx hp
  · intro n i _ hi _ hw
    exact pk_le 8 i (fun z => absurd z (by omega)) (fun _ => br_f (by rw [cv_bit k hk i (by omega), if_neg (by omega)]; decide) (nm_r (nI_1 i) (hw () trivial)))
theorem cv_33n {post : Int32 → Prop} {e k : Nat} {v x4 : Int32} {fd fs fc fb fk : Int32} {a1 a2 a3 a4 a5 a6 a7 a8 a9 a10 a11 a12 a13 : Nat → Int32} (r : cv_R e k v a1 a2 a5) (h : e < 8 → nI (8 * e + k) ≤ x4) (hp : post (-2)) :
    ∃ n, wX_nextDifference_33 post (nI 0) (nI 1) x4 fd fs fc fb fk a1 a2 a3 a4 a5 a6 a7 a8 a9 a10 a11 a12 a13 n 0 := by
  have hk : k < 8 := r.1
  have r5 := r.2.1
  have r5' := r.2.2.1
  refine pk_loop (σ := Unit) (fun n i _ => wX_nextDifference_33 post (nI 0) (nI 1) x4 fd fs fc fb fk a1 a2 a3 a4 a5 a6 a7 a8 a9 a10 a11 a12 a13 n (nI i)) (fun _ _ => True) 8 0 () (by omega) trivial (fun n _ _ => pk_le 8 8 (fun _ => hp) (fun z => absurd z (by omega))) ?_
  intro n i _ hi _ hw
  refine pk_le 8 i (fun z => absurd z (by omega)) (fun _ => ⟨pk_in (8 * 0 + i) 160 (by omega) (cv_ix 0 i), pk_in (8 * 1 + i) 160 (by omega) (cv_ix 1 i), ?_⟩)
  rw [cv_cl (by omega), cv_cl (by omega), r5 (8 * 0 + i) (by omega), show a5 (8 * 1 + i) = _ from r5' i hi]
  by_cases he : i = e
  · subst he
    rw [if_pos rfl]
    refine cv_dif1 r hi (cv_73n (fun j hj g => ?_) (hw () trivial))
    rw [cv_bit k hk j hj] at g
    by_cases ej : j = k
    · rw [cv_ix, ej]
      exact h hi
    · rw [if_neg ej] at g
      exact absurd g (by decide)
  · rw [if_neg he]
    refine cv_dif0 rfl (cv_73n (fun j hj g => ?_) (hw () trivial))
    rw [cv_bit0 j hj] at g
    exact absurd g (by decide)
theorem cv_33y {post : Int32 → Prop} {e k : Nat} {v x4 : Int32} {fd fs fc fb fk : Int32} {a1 a2 a3 a4 a5 a6 a7 a8 a9 a10 a11 a12 a13 : Nat → Int32} (r : cv_R e k v a1 a2 a5) (he : e < 8) (h : ¬ nI (8 * e + k) ≤ x4) (hp : post (nI (8 * e + k))) :
    ∃ n, wX_nextDifference_33 post (nI 0) (nI 1) x4 fd fs fc fb fk a1 a2 a3 a4 a5 a6 a7 a8 a9 a10 a11 a12 a13 n 0 := by
  have hk : k < 8 := r.1
  have r5 := r.2.1
  have r5' := r.2.2.1
  refine pk_loop (σ := Unit) (fun n i _ => wX_nextDifference_33 post (nI 0) (nI 1) x4 fd fs fc fb fk a1 a2 a3 a4 a5 a6 a7 a8 a9 a10 a11 a12 a13 n (nI i)) (fun _ _ => True) e 0 () (by omega) trivial ?_ ?_
  · intro n _ _
    refine pk_le 8 e (fun z => absurd z (by omega)) (fun _ => ⟨pk_in (8 * 0 + e) 160 (by omega) (cv_ix 0 e), pk_in (8 * 1 + e) 160 (by omega) (cv_ix 1 e), ?_⟩)
    rw [cv_cl (by omega), cv_cl (by omega), r5 (8 * 0 + e) (by omega), show a5 (8 * 1 + e) = _ from r5' e he, if_pos rfl]
    exact cv_dif1 r he (cv_73y hk h hp)
  · intro n i _ hi _ hw
    refine pk_le 8 i (fun z => absurd z (by omega)) (fun _ => ⟨pk_in (8 * 0 + i) 160 (by omega) (cv_ix 0 i), pk_in (8 * 1 + i) 160 (by omega) (cv_ix 1 i), ?_⟩)
    rw [cv_cl (by omega), cv_cl (by omega), r5 (8 * 0 + i) (by omega), show a5 (8 * 1 + i) = _ from r5' i (by omega), if_neg (by omega)]
    refine cv_dif0 rfl (cv_73n (fun j hj g => ?_) (hw () trivial))
    rw [cv_bit0 j hj] at g
    exact absurd g (by decide)
theorem cv_lo {q : Nat} (hq : q < 64) : ¬ nI q ≤ -1 := by
  rw [Int32.le_iff_toInt_le, nI_toInt (by omega)]
  have : (-1 : Int32).toInt = -1 := by decide
  omega
theorem cv_lo2 {q : Nat} {x : Int32} (hq : q < 64) (h : ¬ -1 ≤ x) : ¬ nI q ≤ x := by
  rw [Int32.le_iff_toInt_le] at h ⊢
  rw [nI_toInt (by omega)]
  have : (-1 : Int32).toInt = -1 := by decide
  omega
theorem cv_ndn {post : Int32 → Prop} {e k : Nat} {v x : Int32} {fd fs fb fk : Int32} {a1 a2 a3 a4 a5 a6 a7 a8 a9 a10 a11 a12 a13 : Nat → Int32} (r : cv_R e k v a1 a2 a5) (h : e < 8 → nI (8 * e + k) ≤ x) (hp : post (-2)) : wpX_nextDifference post (fd, fs, nI 2, fb, fk, a1, a2, a3, a4, a5, a6, a7, a8, a9, a10, a11, a12, a13) 0 1 x := by
  have hk : k < 8 := r.1
  unfold wpX_nextDifference
  refine cv_isCommit (t := 0) (by omega) (br_f (by decide) (cv_isCommit (t := 1) (by omega) (br_f (by decide) (br_c (fun _ => cv_33n r h hp) (fun z => cv_33n r (fun he => absurd (h he) (cv_lo2 (by omega) z)) hp)))))
theorem cv_ndy {post : Int32 → Prop} {e k : Nat} {v x : Int32} {fd fs fb fk : Int32} {a1 a2 a3 a4 a5 a6 a7 a8 a9 a10 a11 a12 a13 : Nat → Int32} (r : cv_R e k v a1 a2 a5) (he : e < 8) (h : ¬ nI (8 * e + k) ≤ x) (hp : post (nI (8 * e + k))) : wpX_nextDifference post (fd, fs, nI 2, fb, fk, a1, a2, a3, a4, a5, a6, a7, a8, a9, a10, a11, a12, a13) 0 1 x := by
  have hk : k < 8 := r.1
  unfold wpX_nextDifference
  refine cv_isCommit (t := 0) (by omega) (br_f (by decide) (cv_isCommit (t := 1) (by omega) (br_f (by decide) (br_c (fun _ => cv_33y r he h hp) (fun _ => cv_33y r he (cv_lo (by omega)) hp)))))
end
section
/-- what the law knows of its first argument: bad, or the key of the changed chunk -/
def cv_G (x0 x5 : Int32) (e k : Nat) : Prop := (x5 = 0 ∧ e = 8) ∨ (x5 = 1 ∧ ∃ q : Nat, q < 64 ∧ x0 = nI q ∧ e = q / 8 ∧ k = q % 8)
theorem cv_191 {mc ms kc ks : Nat} {x : Int32} : wL_lawOf_191 (fun r _ => r = 1) mc ms x x kc ks := by
  unfold wL_lawOf_191
  exact br_t rfl rfl
theorem cv_162 {mc ms kc ks e k : Nat} {v x0 x3 x5 z : Int32} {fd fs fb fk : Int32} {a1 a2 a3 a4 a5 a6 a7 a8 a9 a10 a11 a12 a13 : Nat → Int32} (r : cv_R e k v a1 a2 a5) (g : cv_G x0 x5 e k) :
    wL_lawOf_162 (fun r _ => r = 1) mc ms x0 x3 x5 z z kc ks fd fs (nI 2) fb fk a1 a2 a3 a4 a5 a6 a7 a8 a9 a10 a11 a12 a13 := by
  unfold wL_lawOf_162
  refine br_t rfl ?_
  rcases g with ⟨rfl, rfl⟩ | ⟨rfl, q, hq, rfl, rfl, rfl⟩
  · refine cv_ndn r (fun z => absurd z (by omega)) (br_t rfl ?_)
    unfold wL_lawOf_189
    exact cv_191
  · have eq : 8 * (q / 8) + q % 8 = q := by omega
    by_cases h : nI q ≤ x3
    · refine cv_ndn r (fun _ => by rw [eq]; exact h) (br_f (by decide) (br_t h ?_))
      unfold wL_lawOf_189
      exact cv_191
    · refine cv_ndy r (by omega) (by rw [eq]; exact h) ?_
      rw [eq]
      exact br_f (by decide) (br_f h cv_191)
theorem cv_140b {mc ms kc ks e k : Nat} {v x0 x1 x2 x3 x5 z : Int32} {fd fs fb fk : Int32} {a1 a2 a3 a4 a5 a6 a7 a8 a9 a10 a11 a12 a13 : Nat → Int32} (r : cv_R e k v a1 a2 a5) (g : cv_G x0 x5 e k) (hx : x2 < 0 ∨ 64 ≤ x2) :
    wL_lawOf_140 (fun r _ => r = 1) mc ms x0 x1 x2 x3 x5 0 z z kc ks fd fs (nI 2) fb fk a1 a2 a3 a4 a5 a6 a7 a8 a9 a10 a11 a12 a13 := by
  unfold wL_lawOf_140
  exact br_t rfl (cv_val0 hx (br_t rfl (cv_162 r g)))
theorem cv_140n {mc ms kc ks e k l : Nat} {v x0 x1 x3 x5 z : Int32} {fd fs fb fk : Int32} {a1 a2 a3 a4 a5 a6 a7 a8 a9 a10 a11 a12 a13 : Nat → Int32} (r : cv_R e k v a1 a2 a5) (g : cv_G x0 x5 e k) (hl : l < 64) (h : ¬ (l / 8 = e ∧ l % 8 = k)) :
    wL_lawOf_140 (fun r _ => r = 1) mc ms x0 x1 (nI l) x3 x5 0 z z kc ks fd fs (nI 2) fb fk a1 a2 a3 a4 a5 a6 a7 a8 a9 a10 a11 a12 a13 := by
  unfold wL_lawOf_140
  refine br_t rfl (cv_val1 r hl ?_)
  rw [if_neg h]
  exact br_t rfl (cv_162 r g)
theorem cv_140y {mc ms kc ks e k l : Nat} {v x0 x3 x5 z : Int32} {fd fs fb fk : Int32} {a1 a2 a3 a4 a5 a6 a7 a8 a9 a10 a11 a12 a13 : Nat → Int32} (r : cv_R e k v a1 a2 a5) (g : cv_G x0 x5 e k) (hl : l < 64) (h : l / 8 = e ∧ l % 8 = k) :
    wL_lawOf_140 (fun r _ => r = 1) mc ms x0 v (nI l) x3 x5 1 z z kc ks fd fs (nI 2) fb fk a1 a2 a3 a4 a5 a6 a7 a8 a9 a10 a11 a12 a13 := by
  unfold wL_lawOf_140
  refine br_t rfl (cv_val1 r hl ?_)
  rw [if_pos h]
  exact br_f (by decide) (cv_162 r g)
theorem cv_110b {mc ms kc ks e k : Nat} {v x0 x1 x2 x3 x5 : Int32} {fd fs fb fk : Int32} {a1 a2 a3 a4 a5 a6 a7 a8 a9 a10 a11 a12 a13 : Nat → Int32} (r : cv_R e k v a1 a2 a5) (g : cv_G x0 x5 e k) (hx : x2 < 0 ∨ 64 ≤ x2) :
    wL_lawOf_110 (fun r _ => r = 1) mc ms x0 x1 x2 x3 x5 0 kc ks fd fs (nI 2) fb fk a1 a2 a3 a4 a5 a6 a7 a8 a9 a10 a11 a12 a13 := by
  unfold wL_lawOf_110 wL_lawOf_111
  exact cv_has0 hx (br_t rfl (cv_140b r g hx))
theorem cv_110n {mc ms kc ks e k l : Nat} {v x0 x1 x3 x5 : Int32} {fd fs fb fk : Int32} {a1 a2 a3 a4 a5 a6 a7 a8 a9 a10 a11 a12 a13 : Nat → Int32} (r : cv_R e k v a1 a2 a5) (g : cv_G x0 x5 e k) (hl : l < 64) (h : ¬ (l / 8 = e ∧ l % 8 = k)) :
    wL_lawOf_110 (fun r _ => r = 1) mc ms x0 x1 (nI l) x3 x5 1 kc ks fd fs (nI 2) fb fk a1 a2 a3 a4 a5 a6 a7 a8 a9 a10 a11 a12 a13 := by
  unfold wL_lawOf_110 wL_lawOf_111
  refine cv_has1 r hl ?_
  rw [if_neg h]
  exact br_f (by decide) (br_t rfl (cv_140n r g hl h))
theorem cv_111y {mc ms kc ks e k l : Nat} {v x0 x3 x5 : Int32} {fd fs fb fk : Int32} {a1 a2 a3 a4 a5 a6 a7 a8 a9 a10 a11 a12 a13 : Nat → Int32} (r : cv_R e k v a1 a2 a5) (g : cv_G x0 x5 e k) (hl : l < 64) (h : l / 8 = e ∧ l % 8 = k) :
    wL_lawOf_111 (fun r _ => r = 1) mc ms x0 v (nI l) x3 x5 1 1 kc ks fd fs (nI 2) fb fk a1 a2 a3 a4 a5 a6 a7 a8 a9 a10 a11 a12 a13 := by
  unfold wL_lawOf_111
  refine cv_has1 r hl ?_
  rw [if_pos h]
  exact br_f (by decide) (br_f (by decide) (cv_140y r g hl h))
theorem cv_kb {q : Nat} {x : Int32} (hq : q < 64) (hx : x < 0 ∨ 64 ≤ x) : ¬ x = nI q := by
  intro h
  subst h
  rcases hx with h | h
  · exact nI_pos (by omega) h
  · exact nI_ge (b := 64) hq (by decide) h
theorem cv_94b {mc ms kc ks e k : Nat} {v x0 x1 x2 x3 x5 : Int32} {fd fs fb fk : Int32} {a1 a2 a3 a4 a5 a6 a7 a8 a9 a10 a11 a12 a13 : Nat → Int32} (r : cv_R e k v a1 a2 a5) (g : cv_G x0 x5 e k) (hx : x2 < 0 ∨ 64 ≤ x2) :
    wL_lawOf_94 (fun r _ => r = 1) mc ms x0 x1 x2 x3 x5 0 kc ks fd fs (nI 2) fb fk a1 a2 a3 a4 a5 a6 a7 a8 a9 a10 a11 a12 a13 := by
  unfold wL_lawOf_94
  have t := cv_110b (mc := mc) (ms := ms) (kc := kc) (ks := ks) (x1 := x1) (x3 := x3) (fd := fd) (fs := fs) (fb := fb) (fk := fk) (a3 := a3) (a4 := a4) (a6 := a6) (a7 := a7) (a8 := a8) (a9 := a9) (a10 := a10) (a11 := a11) (a12 := a12) (a13 := a13) r g hx
  refine br_c (fun _ => t) (fun z => br_f ?_ t)
  rcases g with ⟨rfl, rfl⟩ | ⟨rfl, q, hq, rfl, rfl, rfl⟩
  · exact absurd rfl z
  · exact cv_kb hq hx
theorem cv_94g {mc ms kc ks e k l : Nat} {v x0 x1 x3 x5 : Int32} {fd fs fb fk : Int32} {a1 a2 a3 a4 a5 a6 a7 a8 a9 a10 a11 a12 a13 : Nat → Int32} (r : cv_R e k v a1 a2 a5) (g : cv_G x0 x5 e k) (hv : ¬ x5 = 0 → v = x1) (hl : l < 64) :
    wL_lawOf_94 (fun r _ => r = 1) mc ms x0 x1 (nI l) x3 x5 1 kc ks fd fs (nI 2) fb fk a1 a2 a3 a4 a5 a6 a7 a8 a9 a10 a11 a12 a13 := by
  unfold wL_lawOf_94
  have g' := g
  rcases g' with ⟨rfl, rfl⟩ | ⟨rfl, q, hq, rfl, rfl, rfl⟩
  · exact br_t rfl (cv_110n r g hl (by omega))
  · have ev : v = x1 := hv (by decide)
    subst ev
    by_cases h : l = q
    · subst h
      exact br_f (by decide) (br_t rfl (cv_111y r g hl ⟨rfl, rfl⟩))
    · refine br_f (by decide) (br_f (fun z => h ((nI_eq (by omega) (by omega)).mp z)) (cv_110n r g hl (by omega)))
/-- behind the commit: the look's range, then the reads -/
theorem cv_look {mc ms kc ks e k : Nat} {v x0 x1 x2 x3 x5 : Int32} {fd fs fb fk : Int32} {a1 a2 a3 a4 a5 a6 a7 a8 a9 a10 a11 a12 a13 : Nat → Int32} (r : cv_R e k v a1 a2 a5) (g : cv_G x0 x5 e k) (hv : ¬ x5 = 0 → v = x1) :
    (x2 < 0 → wL_lawOf_93 (fun r _ => r = 1) mc ms x0 x1 x2 x3 x5 kc ks fd fs (nI 2) fb fk a1 a2 a3 a4 a5 a6 a7 a8 a9 a10 a11 a12 a13) ∧ (¬ x2 < 0 → ((63 < x2 → wL_lawOf_93 (fun r _ => r = 1) mc ms x0 x1 x2 x3 x5 kc ks fd fs (nI 2) fb fk a1 a2 a3 a4 a5 a6 a7 a8 a9 a10 a11 a12 a13) ∧ (¬ 63 < x2 → wL_lawOf_94 (fun r _ => r = 1) mc ms x0 x1 x2 x3 x5 1 kc ks fd fs (nI 2) fb fk a1 a2 a3 a4 a5 a6 a7 a8 a9 a10 a11 a12 a13))) := by
  refine br_c (fun z => ?_) (fun z => br_c (fun z2 => ?_) (fun z2 => ?_))
  · unfold wL_lawOf_93
    exact cv_94b r g (Or.inl z)
  · unfold wL_lawOf_93
    exact cv_94b r g (Or.inr (cv_63.mp z2))
  · rcases pk_ix x2 (n := 64) (by omega) with h | h | ⟨l, hl, rfl⟩
    · exact absurd h z
    · exact absurd (cv_63.mpr h) z2
    · exact cv_94g r g hv hl
theorem cv_24b {mc ms kc ks : Nat} {x0 x1 x2 x3 : Int32} {a1 a2 a3 a4 a5 a6 a7 a8 a9 a10 a11 a12 a13 : Nat → Int32} (p : cv_P0 a1 a2 a3 a4 a5 a9 a10 a11 a12) (hx : x0 < 0 ∨ 64 ≤ x0) :
    wL_lawOf_24 (fun r _ => r = 1) mc ms x0 x1 x2 x3 0 kc ks 0 (nI 1) 1 0 0 a1 a2 a3 a4 a5 a6 a7 a8 a9 a10 a11 a12 a13 := by
  obtain ⟨p1, p2, p3, p4, p5, p9, p10, p11, p12⟩ := p
  unfold wL_lawOf_24
  refine cv_put0 hx (br_t rfl ?_)
  unfold wL_lawOf_43
  refine br_t rfl (cv_clean0 p9 p5 p12 (br_t rfl ?_))
  unfold wL_lawOf_63
  refine br_t rfl (cv_commit0 p9 (p1 0) p2 p5 p12 (fun b5 b6 b7 b8 b9 r => br_t rfl ?_))
  exact cv_look r (Or.inl ⟨rfl, rfl⟩) (fun z => absurd rfl z)
theorem cv_24g {mc ms kc ks q : Nat} {x1 x2 x3 : Int32} {a1 a2 a3 a4 a5 a6 a7 a8 a9 a10 a11 a12 a13 : Nat → Int32} (p : cv_P0 a1 a2 a3 a4 a5 a9 a10 a11 a12) (hq : q < 64) :
    wL_lawOf_24 (fun r _ => r = 1) mc ms (nI q) x1 x2 x3 1 kc ks 0 (nI 1) 1 0 0 a1 a2 a3 a4 a5 a6 a7 a8 a9 a10 a11 a12 a13 := by
  obtain ⟨p1, p2, p3, p4, p5, p9, p10, p11, p12⟩ := p
  have hc : q / 8 < 8 := by omega
  have hk : q % 8 < 8 := by omega
  have h11 : ∀ j, j < 8 → upd a11 q x1 (8 * (q / 8) + j) = if j = q % 8 then x1 else 0 := by
    intro j hj
    by_cases e : j = q % 8
    · rw [if_pos e, show 8 * (q / 8) + j = q by omega, pk_us]
    · rw [if_neg e, pk_un (by omega)]
      exact p11 _
  unfold wL_lawOf_24
  refine cv_put1 hq (p10 _) (br_f (by decide) ?_)
  unfold wL_lawOf_43
  refine br_t rfl (cv_clean1 hc hk p9 p5 (fun j hj => by rw [pk_un (by omega)]; exact p12 j) pk_us pk_us (p1 0) (fun j hj hn => by rw [h11 j hj, if_neg hn]) p2 (br_f (by decide) ?_))
  unfold wL_lawOf_63
  refine br_t rfl (cv_commit1 hc hk p9 (p1 0) p2 p3 p4 p5 pk_us h11 (fun j hj hn => by rw [pk_un hn]; exact p12 j) pk_us (fun fd' fs' b1 b2 b3 b4 b5 b6 b7 b8 b9 b12 b13 r => br_t rfl ?_))
  exact cv_look r (Or.inr ⟨rfl, q, hq, rfl, rfl, rfl⟩) (fun _ => rfl)
theorem cv_lawOf (x0 x1 x2 x3 : Int32) : wpL_lawOf (fun r _ => r = 1) 14 2042 () x0 x1 x2 x3 := by
  unfold wpL_lawOf
  refine ⟨by omega, by omega, 13, 2024, by omega, by omega, cv_init (fun b1 b2 b3 b4 b5 b6 b7 b8 b9 b10 b11 b12 b13 p => ?_)⟩
  refine br_c (fun z => ?_) (fun z => br_c (fun z2 => ?_) (fun z2 => ?_))
  · unfold wL_lawOf_23
    exact cv_24b p (Or.inl z)
  · unfold wL_lawOf_23
    exact cv_24b p (Or.inr (cv_63.mp z2))
  · rcases pk_ix x0 (n := 64) (by omega) with h | h | ⟨q, hq, rfl⟩
    · exact absurd h z
    · exact absurd (cv_63.mpr h) z2
    · exact cv_24g p hq
theorem cv_cell {post : Int32 → Prop} {L : Nat} {xs : Nat → Int32} (i : Nat) (hi : i < 4) (hL : L ≤ 4) (H : ∀ x, post x) : wpL_cellAt post L xs () (nI i) := by
  unfold wpL_cellAt
  exact pk_le L i (fun _ => H 0) (fun z => ⟨pk_in i L z, H _⟩)
theorem i_vc (xs : Nat → Int32) (L : Nat) (hL : L ≤ 4) : wpL_law (fun r => r = 1) L xs := by
  unfold wpL_law
  exact cv_cell 0 (by omega) hL (fun r1 => cv_cell 1 (by omega) hL (fun r2 => cv_cell 2 (by omega) hL (fun r3 => cv_cell 3 (by omega) hL (fun r4 => ⟨14, 2042, by omega, by omega, cv_lawOf r1 r2 r3 r4⟩))))
end
