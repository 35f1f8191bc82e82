section
/-- the first n places of an array of ints hold the naturals W -/
def cn_m (a : Nat → Int32) (W : Nat → Nat) (n : Nat) : Prop := ∀ k, k < n → a k = nI (W k)
def cn_up (f : Nat → Nat) (k x : Nat) : Nat → Nat := fun j => if j = k then x else f j
/-- what is free along 1-4, 4-1, 4-6, 6-4 -/
def cn_W (A B C D : Nat) (k : Nat) : Nat := if k = 13 then A else if k = 37 then B else if k = 42 then C else if k = 58 then D else 0
/-- the trusts 4-1 and 6-4 -/
def cn_T (T U : Nat) (k : Nat) : Nat := if k = 29 then T else if k = 46 then U else 0
/-- the positions -/
def cn_p (p k : Nat) : Int32 := if k = 1 then -nI p else if k = 6 then nI p else 0
/-- where a node was come from; 9: from nowhere -/
def cn_v (x : Nat) : Int32 := if x = 9 then -1 else nI x

theorem cn_up_s {f : Nat → Nat} {k x : Nat} : cn_up f k x k = x := if_pos rfl
theorem cn_up_n {f : Nat → Nat} {k j x : Nat} (h : j ≠ k) : cn_up f k x j = f j := if_neg h
theorem cn_v_neg : ∀ x, x < 10 → (cn_v x < 0 ↔ x = 9) := by decide +kernel
theorem cn_v_nn : ∀ x, x < 10 → (0 ≤ cn_v x ↔ ¬ x = 9) := by decide +kernel
theorem cn_v_lt {x : Nat} (h : x < 9) : cn_v x = nI x := if_neg (by omega)
theorem cn_ix (u v : Nat) : (9 : Int32) * nI u + nI v = nI (9 * u + v) := by
  rw [show (9 : Int32) = nI 9 from rfl, pk_mul, nI_add]
theorem cn_ix7 (u v : Nat) : (7 : Int32) * nI u + nI v = nI (7 * u + v) := by
  rw [show (7 : Int32) = nI 7 from rfl, pk_mul, nI_add]
theorem cn_fill {f s : Nat → Int32} {i k : Nat} {x : Int32} (hk : k = i) (h : ∀ j, j < i → s j = f j) (hx : x = f i) : ∀ j, j < i + 1 → upd s k x j = f j := by
  intro j hj
  rw [hk]
  by_cases e : j = i
  · rw [e, pk_us, hx]
  · rw [pk_un e]
    exact h j (by omega)
/-- a place is stored -/
theorem cn_m_up {a : Nat → Int32} {W : Nat → Nat} {n k x : Nat} (h : cn_m a W n) : cn_m (upd a k (nI x)) (cn_up W k x) n := by
  intro j hj
  by_cases e : j = k
  · rw [e, pk_us, cn_up_s]
  · rw [pk_un e, cn_up_n e]
    exact h j hj
theorem cn_m_eq {a : Nat → Int32} {W V : Nat → Nat} {n : Nat} (h : cn_m a W n) (e : ∀ k, k < n → W k = V k) : cn_m a V n := by
  intro j hj
  rw [h j hj, e j hj]
theorem cn_m_of {a b : Nat → Int32} {W : Nat → Nat} {n : Nat} (h : cn_m a W n) (e : ∀ k, k < n → b k = a k) : cn_m b W n := by
  intro j hj
  rw [e j hj, h j hj]
theorem cn_neg_sub {a b : Nat} (h : a ≤ b) : -(nI a - nI b) = nI (b - a) := by
  rw [← pk_sub h]
  grind
theorem cn_zadd (x : Int32) : 0 + x = x := by grind
theorem cn_neg0 (P : Nat) : -nI 0 - nI P = -nI P := by
  rw [nI_0]
  grind
theorem cn_nn (P : Nat) : - -nI P = nI P := by grind
theorem cn_W13 {A B C D : Nat} : cn_W A B C D 13 = A := rfl
theorem cn_W37 {A B C D : Nat} : cn_W A B C D 37 = B := rfl
theorem cn_W42 {A B C D : Nat} : cn_W A B C D 42 = C := rfl
theorem cn_W58 {A B C D : Nat} : cn_W A B C D 58 = D := rfl
/-- all five cases of a place of the matrix -/
theorem cn_Wc {P : Nat → Prop} (h13 : P 13) (h37 : P 37) (h42 : P 42) (h58 : P 58) (h0 : ∀ k, k ≠ 13 → k ≠ 37 → k ≠ 42 → k ≠ 58 → P k) (k : Nat) : P k := by
  by_cases e1 : k = 13
  · rw [e1]; exact h13
  · by_cases e2 : k = 37
    · rw [e2]; exact h37
    · by_cases e3 : k = 42
      · rw [e3]; exact h42
      · by_cases e4 : k = 58
        · rw [e4]; exact h58
        · exact h0 k e1 e2 e3 e4
theorem cn_W0 {A B C D k : Nat} (e1 : k ≠ 13) (e2 : k ≠ 37) (e3 : k ≠ 42) (e4 : k ≠ 58) : cn_W A B C D k = 0 := by
  unfold cn_W
  rw [if_neg e1, if_neg e2, if_neg e3, if_neg e4]
theorem cn_Wle {A B C D M : Nat} (hA : A ≤ M) (hB : B ≤ M) (hC : C ≤ M) (hD : D ≤ M) (k : Nat) : cn_W A B C D k ≤ M :=
  cn_Wc (P := fun k => cn_W A B C D k ≤ M) hA hB hC hD (fun k e1 e2 e3 e4 => by
    show cn_W A B C D k ≤ M
    rw [cn_W0 e1 e2 e3 e4]
    omega) k
end
section
section
variable {g : Int32} {a1 a2 a3 a4 a5 a6 a7 a8 a9 a10 a11 a12 : Nat → Int32}
/-- copyFree: work holds what is free -/
theorem cn_copy {post : St2 → Prop} (H : ∀ b : Nat → Int32, (∀ k, k < 81 → b k = a3 k) → post (g, a1, a2, a3, a4, a5, a6, b, a8, a9, a10, a11, a12)) : wpX_copyFree post (g, a1, a2, a3, a4, a5, a6, a7, a8, a9, a10, a11, a12) :=
  pk_loop (fun n i s => wX_copyFree_2 post g n (nI i) a1 a2 a3 a4 a5 a6 s a8 a9 a10 a11 a12) (fun i s => ∀ k, k < i → s k = a3 k) 81 0 a7 (by omega) (fun k h => absurd h (by omega))
    (fun n s h => pk_le 81 81 (fun _ => H s h) (fun z => absurd z (by omega)))
    (fun n i s hi h hw => pk_le 81 i (fun z => absurd z (by omega)) (fun _ => ⟨pk_in i 81 hi, pk_in i 81 hi, nm_e (nm_r (nI_1 i) (hw _ (cn_fill (nI_clamp (by omega)) h (by rw [nI_clamp (by omega)]))))⟩))

/-- one place copied -/
theorem cn_kp {s a7 : Nat → Int32} {P Q : Nat → Prop} {q c : Nat} {x : Int32} (hc : c = q) (h : ∀ k, k < 81 → P k → s k = a7 k) (hx : x = a7 q) (hQ : ∀ k, k < 81 → Q k → P k ∨ k = q) : ∀ k, k < 81 → Q k → upd s c x k = a7 k := by
  intro k hk hq
  rw [hc]
  by_cases e : k = q
  · rw [e, pk_us, hx]
  · rw [pk_un e]
    rcases hQ k hk hq with z | z
    · exact h k hk z
    · exact absurd z e
/-- keepWork: free is work, where work differs from it among the members alone -/
theorem cn_keep10 {post : St2 → Prop} {J : Int32 → (Nat → Int32) → (Nat → Int32) → (Nat → Int32) → (Nat → Int32) → (Nat → Int32) → (Nat → Int32) → (Nat → Int32) → (Nat → Int32) → (Nat → Int32) → (Nat → Int32) → (Nat → Int32) → (Nat → Int32) → Prop} {i : Nat} (hi : i < 7)
    (h0 : ∀ k, k < 81 → (k < 9 * i ∨ 63 ≤ k ∨ 7 ≤ k % 9) → a3 k = a7 k)
    (H : ∀ b : Nat → Int32, (∀ k, k < 81 → (k < 9 * (i + 1) ∨ 63 ≤ k ∨ 7 ≤ k % 9) → b k = a7 k) → J (nI (i + 1)) a1 a2 b a4 a5 a6 a7 a8 a9 a10 a11 a12) :
    ∃ n, wX_keepWork_10 post J (nI i) g n 0 a1 a2 a3 a4 a5 a6 a7 a8 a9 a10 a11 a12 :=
  pk_loop (fun n j s => wX_keepWork_10 post J (nI i) g n (nI j) a1 a2 s a4 a5 a6 a7 a8 a9 a10 a11 a12) (fun j s => ∀ k, k < 81 → (k < 9 * i + j ∨ 63 ≤ k ∨ 7 ≤ k % 9) → s k = a7 k) 7 0 a3 (by omega) (fun k hk h => h0 k hk (by omega))
    (fun n s h => pk_le 7 7 (fun _ => nm_r (nI_1 i) (H s (fun k hk hq => h k hk (by omega)))) (fun z => absurd z (by omega)))
    (fun n j s hj h hw => pk_le 7 j (fun z => absurd z (by omega)) (fun _ => ⟨pk_in (9 * i + j) 81 (by omega) (cn_ix i j), pk_in (9 * i + j) 81 (by omega) (cn_ix i j), nm_e (nm_r (nI_1 j) (hw _ (cn_kp (q := 9 * i + j) (pk_cl (9 * i + j) (cn_ix i j)) h (by rw [pk_cl (9 * i + j) (cn_ix i j)]) (fun k hk hq => by omega))))⟩))
theorem cn_keepW {post : St2 → Prop} (h0 : ∀ k, k < 81 → (63 ≤ k ∨ 7 ≤ k % 9) → a3 k = a7 k)
    (H : ∀ b : Nat → Int32, (∀ k, k < 81 → b k = a7 k) → post (g, a1, a2, b, a4, a5, a6, a7, a8, a9, a10, a11, a12)) : wpX_keepWork post (g, a1, a2, a3, a4, a5, a6, a7, a8, a9, a10, a11, a12) :=
  pk_loop (fun n i s => wX_keepWork_2 post g n (nI i) a1 a2 s a4 a5 a6 a7 a8 a9 a10 a11 a12) (fun i s => ∀ k, k < 81 → (k < 9 * i ∨ 63 ≤ k ∨ 7 ≤ k % 9) → s k = a7 k) 7 0 a3 (by omega) (fun k hk h => h0 k hk (by omega))
    (fun n s h => pk_le 7 7 (fun _ => H s (fun k hk => h k hk (by omega))) (fun z => absurd z (by omega)))
    (fun n i s hi h hw => pk_le 7 i (fun z => absurd z (by omega)) (fun _ => cn_keep10 hi h (fun b hb => hw b hb)))
theorem cn_mem {post : Int32 → Prop} {u : Int32} (n : Nat) (hn : n < 7) (e : u = nI n) (H : post 1) : wpX_isMember post () u := by
  unfold wpX_isMember
  rw [e]
  exact br_f (nI_pos (by omega)) (br_f (nI_ge (b := 7) hn (by decide)) H)
theorem cn_pair {post : Int32 → Prop} {x y : Int32} (u v : Nat) (hu : u < 7) (hv : v < 7) (huv : u ≠ v) (H : post 1) (ex : x = nI u := by rfl) (ey : y = nI v := by rfl) : wpX_arePair post () x y := by
  unfold wpX_arePair
  exact cn_mem u hu ex (br_f (by decide) (cn_mem v hv ey (br_f (by decide) (br_f (by rw [ex, ey, nI_eq (by omega) (by omega)]; exact huv) H))))
end
end
section
/-- the search in naturals: (come from, line, how many are put) -/
def cn_bv (B : Nat → Bool) (u v : Nat) (s : (Nat → Nat) × (Nat → Nat) × Nat) : (Nat → Nat) × (Nat → Nat) × Nat :=
  if B (9 * u + v) = true ∧ s.1 v = 9 then (cn_up s.1 v u, cn_up s.2.1 s.2.2 v, s.2.2 + 1) else s
def cn_bi (B : Nat → Bool) (u : Nat) (s : (Nat → Nat) × (Nat → Nat) × Nat) : Nat → (Nat → Nat) × (Nat → Nat) × Nat
  | 0 => s
  | j + 1 => cn_bv B u j (cn_bi B u s j)
def cn_bs (B : Nat → Bool) (i : Nat) (s : (Nat → Nat) × (Nat → Nat) × Nat) : (Nat → Nat) × (Nat → Nat) × Nat :=
  if i < s.2.2 then cn_bi B (s.2.1 i) s 9 else s
def cn_bo (B : Nat → Bool) (f : Nat) : Nat → (Nat → Nat) × (Nat → Nat) × Nat
  | 0 => (cn_up (fun _ => 9) f f, cn_up (fun _ => 0) 0 f, 1)
  | i + 1 => cn_bs B i (cn_bo B f i)
/-- every place that the search stores to is in range -/
def cn_okS (B : Nat → Bool) (i : Nat) (s : (Nat → Nat) × (Nat → Nat) × Nat) : Prop :=
  i < s.2.2 → s.2.1 i < 9 ∧ ∀ j, j < 9 → (cn_bi B (s.2.1 i) s j).2.2 < 9
def cn_ok (B : Nat → Bool) (f : Nat) : Prop := ∀ i, i < 9 → cn_okS B i (cn_bo B f i)
/-- the arrays hold a state of the search -/
def cn_R (s : (Nat → Nat) × (Nat → Nat) × Nat) (b9 b10 : Nat → Int32) (x : Int32) : Prop :=
  (∀ n, n < 9 → s.1 n < 10 ∧ b9 n = cn_v (s.1 n)) ∧ (∀ j, j < s.2.2 → b10 j = nI (s.2.1 j)) ∧ s.2.2 < 10 ∧ x = nI s.2.2
theorem cn_stop (B : Nat → Bool) (f i : Nat) (h : (cn_bo B f i).2.2 ≤ i) : ∀ d, cn_bo B f (i + d) = cn_bo B f i := by
  intro d
  induction d with
  | zero => rfl
  | succ d ih =>
    show cn_bs B (i + d) (cn_bo B f (i + d)) = cn_bo B f i
    rw [ih]
    exact if_neg (by omega)
theorem cn_R_add {B : Nat → Bool} {u v : Nat} {s : (Nat → Nat) × (Nat → Nat) × Nat} {b9 b10 : Nat → Int32} {x : Int32} (h : cn_R s b9 b10 x) (hb : B (9 * u + v) = true) (hc : s.1 v = 9) (hu : u < 9) (hp : s.2.2 < 9) :
    cn_R (cn_bv B u v s) (upd b9 v (nI u)) (upd b10 s.2.2 (nI v)) (nI (s.2.2 + 1)) := by
  obtain ⟨h1, h2, h3, h4⟩ := h
  have e : cn_bv B u v s = (cn_up s.1 v u, cn_up s.2.1 s.2.2 v, s.2.2 + 1) := if_pos ⟨hb, hc⟩
  rw [e]
  refine ⟨fun n hn => ?_, fun j hj => ?_, ?_, rfl⟩
  · show cn_up s.1 v u n < 10 ∧ upd b9 v (nI u) n = cn_v (cn_up s.1 v u n)
    by_cases z : n = v
    · rw [z, cn_up_s, pk_us]
      exact ⟨by omega, (cn_v_lt hu).symm⟩
    · rw [cn_up_n z, pk_un z]
      exact h1 n hn
  · have hj' : j < s.2.2 + 1 := hj
    show upd b10 s.2.2 (nI v) j = nI (cn_up s.2.1 s.2.2 v j)
    by_cases z : j = s.2.2
    · rw [z, cn_up_s, pk_us]
    · rw [cn_up_n z, pk_un z]
      exact h2 j (by omega)
  · show s.2.2 + 1 < 10
    omega
section
variable {g : Int32} {a1 a2 a3 a4 a5 a6 a7 a8 a9 a10 a11 a12 : Nat → Int32} {B : Nat → Bool} {W : Nat → Nat}
/-- one step of the inner loop -/
theorem cn_f65s {post : Int32 → St2 → Prop} {J : Int32 → Int32 → (Nat → Int32) → (Nat → Int32) → (Nat → Int32) → (Nat → Int32) → (Nat → Int32) → (Nat → Int32) → (Nat → Int32) → (Nat → Int32) → (Nat → Int32) → (Nat → Int32) → (Nat → Int32) → (Nat → Int32) → Prop} {x2 x4 y : Int32} {u i n : Nat} {s : (Nat → Nat) × (Nat → Nat) × Nat}
    (hW : ∀ k, k < 81 → W k < 2 ^ 31) (hB : ∀ k, k < 81 → (0 < W k ↔ B k = true)) (h7 : cn_m a7 W 81) (hu : u < 9) (hi : i < 9) (hp : (cn_bv B u i s).2.2 < 10) (hr : cn_R s a9 a10 y)
    (H : ∀ b9 b10 z, cn_R (cn_bv B u i s) b9 b10 z → wX_findWay_65 post J x2 x4 (nI u) g n z (nI (i + 1)) a1 a2 a3 a4 a5 a6 a7 a8 b9 b10 a11 a12) :
    wX_findWay_65 post J x2 x4 (nI u) g (n + 1) y (nI i) a1 a2 a3 a4 a5 a6 a7 a8 a9 a10 a11 a12 := by
  have e : ((9 : Int32) * nI u + nI i).toNatClampNeg = 9 * u + i := pk_cl (9 * u + i) (cn_ix u i)
  have e7 : a7 ((9 : Int32) * nI u + nI i).toNatClampNeg = nI (W (9 * u + i)) := by rw [e]; exact h7 _ (by omega)
  have ei : (nI i).toNatClampNeg = i := nI_clamp (by omega)
  refine pk_le 9 i (fun z => absurd z (by omega)) (fun _ => ⟨pk_in (9 * u + i) 81 (by omega) (cn_ix u i), ?_⟩)
  by_cases hb : B (9 * u + i) = true
  · have hw0 : 0 < W (9 * u + i) := (hB _ (by omega)).mpr hb
    refine br_f (by rw [e7]; exact nI_nle hw0 (hW _ (by omega))) ⟨pk_in i 9 hi, ?_⟩
    have e9 : a9 (nI i).toNatClampNeg = cn_v (s.1 i) := by rw [ei]; exact (hr.1 i hi).2
    by_cases hc : s.1 i = 9
    · have eb : cn_bv B u i s = (cn_up s.1 i u, cn_up s.2.1 s.2.2 i, s.2.2 + 1) := if_pos ⟨hb, hc⟩
      have hp' : s.2.2 < 9 := by
        rw [eb] at hp
        have hp2 : s.2.2 + 1 < 10 := hp
        omega
      have t := H _ _ _ (cn_R_add hr hb hc hu hp')
      have ey : y = nI s.2.2 := hr.2.2.2
      refine br_f (by rw [e9, cn_v_nn _ (hr.1 i hi).1]; exact fun z => z hc) ⟨pk_in i 9 hi, nm_r (by rw [ei]) ⟨(by rw [ey]; exact vp_in_nI hp' (by omega)), nm_r (by rw [ey, nI_clamp (by omega)]) (nm_r (by rw [ey, nI_1]) (nm_r (nI_1 i) t))⟩⟩
    · have eb : cn_bv B u i s = s := if_neg (fun z => hc z.2)
      rw [eb] at H
      exact br_t (by rw [e9, cn_v_nn _ (hr.1 i hi).1]; exact hc) (nm_r (nI_1 i) (H _ _ _ hr))
  · have eb : cn_bv B u i s = s := if_neg (fun z => hb z.1)
    rw [eb] at H
    have hw0 : W (9 * u + i) = 0 := by
      rcases Nat.eq_zero_or_pos (W (9 * u + i)) with z | z
      · exact z
      · exact absurd ((hB _ (by omega)).mp z) hb
    exact br_t (by rw [e7, hw0]; exact nI_le (Nat.le_refl 0) (by decide)) (nm_r (nI_1 i) (H _ _ _ hr))
theorem cn_f65 {post : Int32 → St2 → Prop} {J : Int32 → Int32 → (Nat → Int32) → (Nat → Int32) → (Nat → Int32) → (Nat → Int32) → (Nat → Int32) → (Nat → Int32) → (Nat → Int32) → (Nat → Int32) → (Nat → Int32) → (Nat → Int32) → (Nat → Int32) → (Nat → Int32) → Prop} {x2 x4 y : Int32} {u : Nat} {s : (Nat → Nat) × (Nat → Nat) × Nat}
    (hW : ∀ k, k < 81 → W k < 2 ^ 31) (hB : ∀ k, k < 81 → (0 < W k ↔ B k = true)) (h7 : cn_m a7 W 81) (hu : u < 9) (hp : ∀ j, j < 9 → (cn_bi B u s j).2.2 < 9) (hr : cn_R s a9 a10 y)
    (H : ∀ b9 b10 z, cn_R (cn_bi B u s 9) b9 b10 z → J z (x4 + 1) a1 a2 a3 a4 a5 a6 a7 a8 b9 b10 a11 a12) :
    ∃ n, wX_findWay_65 post J x2 x4 (nI u) g n y 0 a1 a2 a3 a4 a5 a6 a7 a8 a9 a10 a11 a12 :=
  pk_loop (σ := (Nat → Int32) × (Nat → Int32) × Int32) (fun n i t => wX_findWay_65 post J x2 x4 (nI u) g n t.2.2 (nI i) a1 a2 a3 a4 a5 a6 a7 a8 t.1 t.2.1 a11 a12) (fun i t => cn_R (cn_bi B u s i) t.1 t.2.1 t.2.2) 9 0 (a9, a10, y) (by omega) hr
    (fun n t h => pk_le 9 9 (fun _ => nm_e (H _ _ _ h)) (fun z => absurd z (by omega)))
    (fun n i t hi h hw => cn_f65s hW hB h7 hu hi (by
        have q := hp i hi
        unfold cn_bv
        split
        · show (cn_bi B u s i).2.2 + 1 < 10
          omega
        · omega) h (fun b9 b10 z hz => hw (b9, b10, z) hz))
theorem cn_f130 {post : Int32 → St2 → Prop} {c : Nat → Nat} {to : Nat} (ht : to < 9) (h : ∀ n, n < 9 → c n < 10 ∧ a9 n = cn_v (c n))
    (H0 : c to = 9 → post 0 (g, a1, a2, a3, a4, a5, a6, a7, a8, a9, a10, a11, a12)) (H1 : ¬ c to = 9 → post 1 (g, a1, a2, a3, a4, a5, a6, a7, a8, a9, a10, a11, a12)) : wX_findWay_130 post (nI to) g a1 a2 a3 a4 a5 a6 a7 a8 a9 a10 a11 a12 := by
  have e9 : a9 (nI to).toNatClampNeg = cn_v (c to) := by rw [nI_clamp (by omega)]; exact (h to ht).2
  refine ⟨pk_in to 9 ht, ?_⟩
  refine br_c (fun z => H0 ?_) (fun z => H1 ?_)
  · rw [e9] at z
    exact (cn_v_neg _ (h to ht).1).mp z
  · rw [e9] at z
    exact fun y => z ((cn_v_neg _ (h to ht).1).mpr y)
theorem cn_f40 {post : Int32 → St2 → Prop} {x2 y : Int32} {f : Nat}
    (hW : ∀ k, k < 81 → W k < 2 ^ 31) (hB : ∀ k, k < 81 → (0 < W k ↔ B k = true)) (h7 : cn_m a7 W 81) (hok : cn_ok B f) (hr : cn_R (cn_bo B f 0) a9 a10 y)
    (H : ∀ b9 b10 : Nat → Int32, (∀ n, n < 9 → (cn_bo B f 9).1 n < 10 ∧ b9 n = cn_v ((cn_bo B f 9).1 n)) → wX_findWay_130 post x2 g a1 a2 a3 a4 a5 a6 a7 a8 b9 b10 a11 a12) :
    ∃ n, wX_findWay_40 post x2 g n y 0 a1 a2 a3 a4 a5 a6 a7 a8 a9 a10 a11 a12 :=
  pk_loop (σ := (Nat → Int32) × (Nat → Int32) × Int32) (fun n i t => wX_findWay_40 post x2 g n t.2.2 (nI i) a1 a2 a3 a4 a5 a6 a7 a8 t.1 t.2.1 a11 a12) (fun i t => cn_R (cn_bo B f i) t.1 t.2.1 t.2.2) 9 0 (a9, a10, y) (by omega) hr
    (fun n t h => br_c (fun _ => H _ _ h.1) (fun _ => pk_le 9 9 (fun _ => H _ _ h.1) (fun z => absurd z (by omega))))
    (fun n i t hi h hw => by
      obtain ⟨b9, b10, y⟩ := t
      have hl : (cn_bo B f i).2.2 < 10 := h.2.2.1
      refine pk_le (cn_bo B f i).2.2 i (fun z => H _ _ ?_) (fun z => pk_le 9 i (fun z => absurd z (by omega)) (fun _ => ⟨pk_in i 9 hi, nm_r (e' := nI ((cn_bo B f i).2.1 i)) ?_ ?_⟩)) h.2.2.2
      · have e := cn_stop B f i z (9 - i)
        rw [show i + (9 - i) = 9 by omega] at e
        rw [e]
        exact h.1
      · rw [nI_clamp (by omega)]
        exact h.2.1 i z
      · have k := hok i hi z
        refine cn_f65 hW hB h7 k.1 k.2 h (fun c9 c10 y' hy => ?_)
        rw [nI_1]
        refine hw (c9, c10, y') ?_
        show cn_R (cn_bo B f (i + 1)) c9 c10 y'
        have e : cn_bo B f (i + 1) = cn_bi B ((cn_bo B f i).2.1 i) (cn_bo B f i) 9 := if_pos z
        rw [e]
        exact hy)
/-- findWay is the search in naturals -/
theorem cn_find {post : Int32 → St2 → Prop} {f to : Nat} (hf : f < 9) (ht : to < 9)
    (hW : ∀ k, k < 81 → W k < 2 ^ 31) (hB : ∀ k, k < 81 → (0 < W k ↔ B k = true)) (h7 : cn_m a7 W 81) (hok : cn_ok B f)
    (H : ∀ b9 b10 : Nat → Int32, (∀ n, n < 9 → b9 n = cn_v ((cn_bo B f 9).1 n)) → ((cn_bo B f 9).1 to = 9 → post 0 (g, a1, a2, a3, a4, a5, a6, a7, a8, b9, b10, a11, a12)) ∧ (¬ (cn_bo B f 9).1 to = 9 → post 1 (g, a1, a2, a3, a4, a5, a6, a7, a8, b9, b10, a11, a12))) :
    wpX_findWay post (g, a1, a2, a3, a4, a5, a6, a7, a8, a9, a10, a11, a12) (nI f) (nI to) :=
  pk_loop (fun n i s => wX_findWay_2 post (nI f) (nI to) g n (nI i) a1 a2 a3 a4 a5 a6 a7 a8 s a10 a11 a12) (fun i s => ∀ k, k < i → s k = (fun _ => -1) k) 9 0 a9 (by omega) (fun k h => absurd h (by omega))
    (fun n s h => pk_le 9 9 (fun _ => ⟨pk_in f 9 hf, nm_r (e' := upd s f (nI f)) (by rw [nI_clamp (by omega)]) (nm_e (cn_f40 hW hB h7 hok (by
        refine ⟨fun n hn => ?_, fun j hj => ?_, ?_, rfl⟩
        · show cn_up (fun _ => 9) f f n < 10 ∧ upd s f (nI f) n = cn_v (cn_up (fun _ => 9) f f n)
          by_cases z : n = f
          · rw [z, cn_up_s, pk_us]
            exact ⟨by omega, (cn_v_lt hf).symm⟩
          · rw [cn_up_n z, pk_un z]
            exact ⟨(show 9 < 10 by decide), h n hn⟩
        · have hj' : j < 1 := hj
          have z : j = 0 := by omega
          show upd a10 0 (nI f) j = nI (cn_up (fun _ => 0) 0 f j)
          rw [z, cn_up_s, pk_us]
        · show 1 < 10
          decide) (fun b9 b10 hb => cn_f130 ht hb (H b9 b10 (fun n hn => (hb n hn).2)).1 (H b9 b10 (fun n hn => (hb n hn).2)).2)))⟩) (fun z => absurd z (by omega)))
    (fun n i s hi h hw => pk_le 9 i (fun z => absurd z (by omega)) (fun _ => ⟨pk_in i 9 hi, nm_e (nm_r (nI_1 i) (hw _ (cn_fill (nI_clamp (by omega)) h rfl)))⟩))
end
/-- which of the four edges are free -/
def cn_B (p q r s : Bool) (k : Nat) : Bool := if k = 13 then p else if k = 37 then q else if k = 42 then r else if k = 58 then s else false
theorem cn_WB {A B C D : Nat} (k : Nat) : 0 < cn_W A B C D k ↔ cn_B (decide (0 < A)) (decide (0 < B)) (decide (0 < C)) (decide (0 < D)) k = true :=
  cn_Wc (P := fun k => 0 < cn_W A B C D k ↔ cn_B (decide (0 < A)) (decide (0 < B)) (decide (0 < C)) (decide (0 < D)) k = true)
    (show 0 < A ↔ decide (0 < A) = true from ⟨fun h => decide_eq_true h, fun h => of_decide_eq_true h⟩) (show 0 < B ↔ decide (0 < B) = true from ⟨fun h => decide_eq_true h, fun h => of_decide_eq_true h⟩) (show 0 < C ↔ decide (0 < C) = true from ⟨fun h => decide_eq_true h, fun h => of_decide_eq_true h⟩) (show 0 < D ↔ decide (0 < D) = true from ⟨fun h => decide_eq_true h, fun h => of_decide_eq_true h⟩) (fun k e1 e2 e3 e4 => by
      have h : cn_B (decide (0 < A)) (decide (0 < B)) (decide (0 < C)) (decide (0 < D)) k = false := by
        unfold cn_B
        rw [if_neg e1, if_neg e2, if_neg e3, if_neg e4]
      show 0 < cn_W A B C D k ↔ cn_B (decide (0 < A)) (decide (0 < B)) (decide (0 < C)) (decide (0 < D)) k = true
      rw [cn_W0 e1 e2 e3 e4, h]
      exact ⟨fun z => absurd z (by omega), fun z => absurd z (by decide)⟩) k
end
section
theorem cn_ok1 (p q r s : Bool) : cn_ok (cn_B p q r s) 1 := by
  unfold cn_ok cn_okS
  cases p <;> cases q <;> cases r <;> cases s <;> decide +kernel
theorem cn_ok4 (p q r s : Bool) : cn_ok (cn_B p q r s) 4 := by
  unfold cn_ok cn_okS
  cases p <;> cases q <;> cases r <;> cases s <;> decide +kernel
theorem cn_ok6 (p q r s : Bool) : cn_ok (cn_B p q r s) 6 := by
  unfold cn_ok cn_okS
  cases p <;> cases q <;> cases r <;> cases s <;> decide +kernel
theorem cn_way16 (q s : Bool) : (cn_bo (cn_B true q true s) 1 9).1 6 = 4 ∧ (cn_bo (cn_B true q true s) 1 9).1 4 = 1 := by
  cases q <;> cases s <;> decide +kernel
theorem cn_no16a (q r s : Bool) : (cn_bo (cn_B false q r s) 1 9).1 6 = 9 := by
  cases q <;> cases r <;> cases s <;> decide +kernel
theorem cn_no16b (p q s : Bool) : (cn_bo (cn_B p q false s) 1 9).1 6 = 9 := by
  cases p <;> cases q <;> cases s <;> decide +kernel
theorem cn_no61 (p r : Bool) : (cn_bo (cn_B p false r false) 6 9).1 1 = 9 := by
  cases p <;> cases r <;> decide +kernel
theorem cn_no46 (p q s : Bool) : (cn_bo (cn_B p q false s) 4 9).1 6 = 9 := by
  cases p <;> cases q <;> cases s <;> decide +kernel
theorem cn_no14 (r s : Bool) : (cn_bo (cn_B false false r s) 1 9).1 4 = 9 := by
  cases r <;> cases s <;> decide +kernel
theorem cn_no64 (p q : Bool) : (cn_bo (cn_B p q false false) 6 9).1 4 = 9 := by
  cases p <;> cases q <;> decide +kernel
section
variable {g : Int32} {a1 a2 a3 a4 a5 a6 a7 a8 a9 a10 a11 a12 : Nat → Int32} {A B C D : Nat}
/-- a search over the four edges that finds no way -/
theorem cn_findN {post : Int32 → St2 → Prop} {f to M : Nat} (hf : f < 9) (ht : to < 9) (hA : A ≤ M) (hB : B ≤ M) (hC : C ≤ M) (hD : D ≤ M) (hM : M < 2 ^ 31) (h7 : cn_m a7 (cn_W A B C D) 81)
    (hok : ∀ p q r s : Bool, cn_ok (cn_B p q r s) f)
    (hn : (cn_bo (cn_B (decide (0 < A)) (decide (0 < B)) (decide (0 < C)) (decide (0 < D))) f 9).1 to = 9)
    (H : ∀ b9 b10 : Nat → Int32, post 0 (g, a1, a2, a3, a4, a5, a6, a7, a8, b9, b10, a11, a12)) : wpX_findWay post (g, a1, a2, a3, a4, a5, a6, a7, a8, a9, a10, a11, a12) (nI f) (nI to) :=
  cn_find hf ht (fun k _ => Nat.lt_of_le_of_lt (cn_Wle hA hB hC hD k) hM) (fun k _ => cn_WB k) h7 (hok _ _ _ _) (fun b9 b10 _ => ⟨fun _ => H b9 b10, fun z => absurd hn z⟩)
/-- a search from 1 to 6 that finds the way -/
theorem cn_findY {post : Int32 → St2 → Prop} {M : Nat} (hA : A ≤ M) (hB : B ≤ M) (hC : C ≤ M) (hD : D ≤ M) (hM : M < 2 ^ 31) (h7 : cn_m a7 (cn_W A B C D) 81) (pA : 0 < A) (pC : 0 < C)
    (H : ∀ b9 b10 : Nat → Int32, b9 6 = nI 4 → b9 4 = nI 1 → post 1 (g, a1, a2, a3, a4, a5, a6, a7, a8, b9, b10, a11, a12)) : wpX_findWay post (g, a1, a2, a3, a4, a5, a6, a7, a8, a9, a10, a11, a12) (nI 1) (nI 6) :=
  cn_find (f := 1) (to := 6) (by decide) (by decide) (fun k _ => Nat.lt_of_le_of_lt (cn_Wle hA hB hC hD k) hM) (fun k _ => cn_WB k) h7 (cn_ok1 _ _ _ _) (fun b9 b10 hb => by
    rw [decide_eq_true pA, decide_eq_true pC] at hb
    have w := cn_way16 (decide (0 < B)) (decide (0 < D))
    have e6 := hb 6 (by decide)
    have e4 := hb 4 (by decide)
    rw [w.1] at e6
    rw [w.2] at e4
    rw [decide_eq_true pA, decide_eq_true pC]
    exact ⟨fun z => absurd (w.1.symm.trans z) (by decide), fun _ => H b9 b10 e6 e4⟩)
/-- one step of narrowest -/
theorem cn_nw {post : Int32 → Prop} {f ta u i least here n : Nat} (hi : i < 9) (hat : ta < 9) (hf : f < 9) (hne : ta ≠ f) (hc : a9 ta = nI u) (hu : u < 9) (hw : a7 (9 * u + ta) = nI here) (hl : least < 2 ^ 31) (hh : here < 2 ^ 31)
    (H : wX_narrowest_9 post (nI f) g a1 a2 a3 a4 a5 a6 a7 a8 a9 a10 a11 a12 n (nI (min least here)) (nI u) (nI (i + 1))) : wX_narrowest_9 post (nI f) g a1 a2 a3 a4 a5 a6 a7 a8 a9 a10 a11 a12 (n + 1) (nI least) (nI ta) (nI i) := by
  refine pk_le 9 i (fun z => absurd z (by omega)) (fun _ => pk_eq ta f (fun z => absurd z hne) (fun _ => ⟨pk_in ta 9 hat, nm_r (e' := nI u) (by rw [nI_clamp (by omega)]; exact hc) ⟨pk_in (9 * u + ta) 81 (by omega) (cn_ix u ta), nm_r (e' := nI here) (by rw [pk_cl (9 * u + ta) (cn_ix u ta)]; exact hw) ?_⟩⟩))
  refine pk_le least here (fun z => nm_r (nI_1 i) ?_) (fun z => nm_r (nI_1 i) ?_)
  · rw [Nat.min_eq_left z] at H
    exact H
  · rw [Nat.min_eq_right (Nat.le_of_lt z)] at H
    exact H
theorem cn_narrow {post : Int32 → Prop} (h6 : a9 6 = nI 4) (h4 : a9 4 = nI 1) (hA : A ≤ 2000) (hC : C ≤ 2000) (h7 : cn_m a7 (cn_W A B C D) 81) (H : post (nI (min C A))) :
    wpX_narrowest post (g, a1, a2, a3, a4, a5, a6, a7, a8, a9, a10, a11, a12) (nI 1) (nI 6) := by
  have t : wX_narrowest_9 post (nI 1) g a1 a2 a3 a4 a5 a6 a7 a8 a9 a10 a11 a12 3 (nI 1000000) (nI 6) (nI 0) := by
    refine cn_nw (u := 4) (here := C) (by decide) (by decide) (by decide) (by decide) h6 (by decide) (h7 42 (by decide)) (by decide) (by omega) ?_
    refine cn_nw (u := 1) (here := A) (by decide) (by decide) (by decide) (by decide) h4 (by decide) (h7 13 (by decide)) (by omega) (by omega) ?_
    rw [Nat.min_eq_right (show C ≤ 1000000 by omega)]
    exact pk_le 9 2 (fun z => absurd z (by omega)) (fun _ => pk_eq 1 1 (fun _ => H) (fun z => absurd rfl z))
  exact ⟨3, t⟩
/-- one step of push -/
theorem cn_ps {post : St2 → Prop} {f ta u i m n : Nat} {W : Nat → Nat} (hi : i < 9) (hat : ta < 9) (hf : f < 9) (hne : ta ≠ f) (hc : a9 ta = nI u) (hu : u < 9) (h7 : cn_m a7 W 81) (hm : m ≤ W (9 * u + ta))
    (H : ∀ b7, cn_m b7 (cn_up (cn_up W (9 * u + ta) (W (9 * u + ta) - m)) (9 * ta + u) (cn_up W (9 * u + ta) (W (9 * u + ta) - m) (9 * ta + u) + m)) 81 → wX_push_6 post (nI f) (nI m) g n (nI u) (nI (i + 1)) a1 a2 a3 a4 a5 a6 b7 a8 a9 a10 a11 a12) :
    wX_push_6 post (nI f) (nI m) g (n + 1) (nI ta) (nI i) a1 a2 a3 a4 a5 a6 a7 a8 a9 a10 a11 a12 := by
  have k1 : cn_m (upd a7 (9 * u + ta) (nI (W (9 * u + ta) - m))) (cn_up W (9 * u + ta) (W (9 * u + ta) - m)) 81 := cn_m_up h7
  refine pk_le 9 i (fun z => absurd z (by omega)) (fun _ => pk_eq ta f (fun z => absurd z hne) (fun _ => ⟨pk_in ta 9 hat, nm_r (e' := nI u) (by rw [nI_clamp (by omega)]; exact hc) ⟨pk_in (9 * u + ta) 81 (by omega) (cn_ix u ta), pk_in (9 * u + ta) 81 (by omega) (cn_ix u ta), nm_r (e' := upd a7 (9 * u + ta) (nI (W (9 * u + ta) - m))) ?_ ⟨pk_in (9 * ta + u) 81 (by omega) (cn_ix ta u), pk_in (9 * ta + u) 81 (by omega) (cn_ix ta u), nm_r (e' := upd (upd a7 (9 * u + ta) (nI (W (9 * u + ta) - m))) (9 * ta + u) (nI (cn_up W (9 * u + ta) (W (9 * u + ta) - m) (9 * ta + u) + m))) ?_ (nm_r (nI_1 i) (H _ (cn_m_up k1)))⟩⟩⟩))
  · rw [pk_cl (9 * u + ta) (cn_ix u ta), h7 _ (by omega), pk_sub hm]
  · rw [pk_cl (9 * ta + u) (cn_ix ta u), k1 _ (by omega), nI_add]
theorem cn_push {post : St2 → Prop} {m : Nat} (h6 : a9 6 = nI 4) (h4 : a9 4 = nI 1) (hA : m ≤ A) (hC : m ≤ C) (h7 : cn_m a7 (cn_W A B C D) 81)
    (H : ∀ b7, cn_m b7 (cn_W (A - m) (B + m) (C - m) (D + m)) 81 → post (g, a1, a2, a3, a4, a5, a6, b7, a8, a9, a10, a11, a12)) : wpX_push post (g, a1, a2, a3, a4, a5, a6, a7, a8, a9, a10, a11, a12) (nI 1) (nI 6) (nI m) := by
  have t : wX_push_6 post (nI 1) (nI m) g 3 (nI 6) (nI 0) a1 a2 a3 a4 a5 a6 a7 a8 a9 a10 a11 a12 := by
    refine cn_ps (u := 4) (W := cn_W A B C D) (by decide) (by decide) (by decide) (by decide) h6 (by decide) h7 hC (fun b7 h => ?_)
    refine cn_ps (u := 1) (W := cn_W A B (C - m) (D + m)) (by decide) (by decide) (by decide) (by decide) h4 (by decide) (cn_m_eq h (fun k _ => ?_)) hA (fun c7 h' => ?_)
    · refine cn_Wc (P := fun k => cn_up (cn_up (cn_W A B C D) 42 (C - m)) 58 (D + m) k = cn_W A B (C - m) (D + m) k) rfl rfl rfl rfl (fun k e1 e2 e3 e4 => ?_) k
      show cn_up (cn_up (cn_W A B C D) 42 (C - m)) 58 (D + m) k = cn_W A B (C - m) (D + m) k
      rw [cn_up_n e4, cn_up_n e3, cn_W0 e1 e2 e3 e4, cn_W0 e1 e2 e3 e4]
    · refine pk_le 9 2 (fun z => absurd z (by omega)) (fun _ => pk_eq 1 1 (fun _ => H c7 (cn_m_eq h' (fun k _ => ?_))) (fun z => absurd rfl z))
      refine cn_Wc (P := fun k => cn_up (cn_up (cn_W A B (C - m) (D + m)) 13 (A - m)) 37 (B + m) k = cn_W (A - m) (B + m) (C - m) (D + m) k) rfl rfl rfl rfl (fun k e1 e2 e3 e4 => ?_) k
      show cn_up (cn_up (cn_W A B (C - m) (D + m)) 13 (A - m)) 37 (B + m) k = cn_W (A - m) (B + m) (C - m) (D + m) k
      rw [cn_up_n e2, cn_up_n e1, cn_W0 e1 e2 e3 e4, cn_W0 e1 e2 e3 e4]
  exact ⟨3, t⟩
/-- the loop of send ends where there is no way -/
theorem cn_s28 {post : Int32 → St2 → Prop} {x1 x2 x3 x4 : Int32} {n i : Nat} (hi : i < 100000) (H : post x4 (g, a1, a2, a3, a4, a5, a6, a7, a8, a9, a10, a11, a12)) : wX_send_28 post x1 x2 x3 (n + 1) x4 0 (nI i) g a1 a2 a3 a4 a5 a6 a7 a8 a9 a10 a11 a12 :=
  pk_le 100000 i (fun z => absurd z (by omega)) (fun _ => br_t rfl H)
/-- send where there is no way -/
theorem cn_sendN {post : Int32 → St2 → Prop} {x : Int32} {f to M : Nat} (hf : f < 9) (ht : to < 9) (hA : A ≤ M) (hB : B ≤ M) (hC : C ≤ M) (hD : D ≤ M) (hM : M < 2 ^ 31) (h7 : cn_m a7 (cn_W A B C D) 81)
    (hok : ∀ p q r s : Bool, cn_ok (cn_B p q r s) f)
    (hn : (cn_bo (cn_B (decide (0 < A)) (decide (0 < B)) (decide (0 < C)) (decide (0 < D))) f 9).1 to = 9)
    (H : ∀ b9 b10 : Nat → Int32, post 0 (g, a1, a2, a3, a4, a5, a6, a7, a8, b9, b10, a11, a12)) : wpX_send post (g, a1, a2, a3, a4, a5, a6, a7, a8, a9, a10, a11, a12) (nI f) (nI to) x := by
  unfold wpX_send
  refine br_c (fun _ => ⟨1, cn_s28 (i := 0) (by decide) (H a9 a10)⟩) (fun _ => ?_)
  refine cn_findN hf ht hA hB hC hD hM h7 hok hn (fun b9 b10 => ?_)
  exact br_t rfl ⟨1, cn_s28 (i := 0) (by decide) (H b9 b10)⟩
theorem cn_no16 (h : A = 0 ∨ C = 0) : (cn_bo (cn_B (decide (0 < A)) (decide (0 < B)) (decide (0 < C)) (decide (0 < D))) 1 9).1 6 = 9 := by
  rcases h with h | h
  · rw [decide_eq_false (show ¬ 0 < A by omega)]
    exact cn_no16a _ _ _
  · rw [decide_eq_false (show ¬ 0 < C by omega)]
    exact cn_no16b _ _ _
/-- what send does when the way was found: it pushes once -/
theorem cn_s68 {post : Int32 → St2 → Prop} {L m : Nat} (h6 : a9 6 = nI 4) (h4 : a9 4 = nI 1) (hA : A ≤ 1000) (hB : B ≤ 1000) (hC : C ≤ 1000) (hD : D ≤ 1000) (hL : L < 2 ^ 31) (em : m = min (min C A) L) (h7 : cn_m a7 (cn_W A B C D) 81)
    (H : ∀ b7 b9 b10, cn_m b7 (cn_W (A - m) (B + m) (C - m) (D + m)) 81 → post (nI m) (g, a1, a2, a3, a4, a5, a6, b7, a8, b9, b10, a11, a12)) :
    wX_send_68 post (wX_send_28 post (nI 1) (nI 6) (nI L) 1) (nI 1) (nI 6) (nI L) 0 0 (nI m) g a1 a2 a3 a4 a5 a6 a7 a8 a9 a10 a11 a12 := by
  unfold wX_send_68
  refine cn_push h6 h4 (by omega) (by omega) h7 (fun b7 hb => ?_)
  refine nm_r (e' := nI m) (cn_zadd _) ?_
  refine pk_le L m (fun z => nm_r (nI_1 0) (cn_s28 (i := 1) (by decide) (H b7 a9 a10 hb))) (fun z => ?_)
  refine cn_findN (M := 2000) (f := 1) (to := 6) (by decide) (by decide) (by omega) (by omega) (by omega) (by omega) (by decide) hb cn_ok1 (cn_no16 (by omega)) (fun b9 b10 => ?_)
  exact br_t rfl (nm_r (nI_1 0) (cn_s28 (i := 1) (by decide) (H b7 b9 b10 hb)))
/-- send from 1 to 6 -/
theorem cn_send {post : Int32 → St2 → Prop} {L : Nat} (hA : A ≤ 1000) (hB : B ≤ 1000) (hC : C ≤ 1000) (hD : D ≤ 1000) (hL : L < 2 ^ 31) (h7 : cn_m a7 (cn_W A B C D) 81)
    (H : ∀ m, m = min (min C A) L → ∀ b7 b9 b10, cn_m b7 (cn_W (A - m) (B + m) (C - m) (D + m)) 81 → post (nI m) (g, a1, a2, a3, a4, a5, a6, b7, a8, b9, b10, a11, a12)) :
    wpX_send post (g, a1, a2, a3, a4, a5, a6, a7, a8, a9, a10, a11, a12) (nI 1) (nI 6) (nI L) := by
  by_cases hw : 0 < A ∧ 0 < C
  · obtain ⟨pA, pC⟩ := hw
    unfold wpX_send
    refine pk_le L 0 (fun z => ⟨1, cn_s28 (i := 0) (by decide) ?_⟩) (fun z => ?_)
    · exact H 0 (by omega) a7 a9 a10 h7
    · refine cn_findY (M := 1000) hA hB hC hD (by decide) h7 pA pC (fun b9 b10 h6 h4 => ?_)
      refine br_f (by decide) ⟨2, ?_⟩
      refine pk_le 100000 0 (fun z => absurd z (by omega)) (fun _ => br_f (by decide) ?_)
      refine cn_narrow (A := A) (B := B) (C := C) (D := D) h6 h4 (by omega) (by omega) h7 ?_
      refine nm_r (e' := nI L) (by rw [← nI_0, pk_sub (Nat.zero_le L), Nat.sub_zero]) ?_
      refine pk_le L (min C A) (fun z => ?_) (fun z => ?_)
      · exact cn_s68 h6 h4 hA hB hC hD hL (by omega) h7 (H L (by omega))
      · exact cn_s68 h6 h4 hA hB hC hD hL (by omega) h7 (H (min C A) (by omega))
  · have hn : A = 0 ∨ C = 0 := by omega
    refine cn_sendN (M := 1000) (by decide) (by decide) hA hB hC hD (by decide) h7 cn_ok1 (cn_no16 hn) (fun b9 b10 => ?_)
    exact H 0 (by omega) a7 b9 b10 h7
end
end
section
/-- what a state holds: the trusts, the positions, what is free -/
def cn_Q (T U p A B C D : Nat) (u : St2) : Prop := cn_m u.2.1 (cn_T T U) 49 ∧ (∀ k, k < 7 → u.2.2.1 k = cn_p p k) ∧ cn_m u.2.2.2.1 (cn_W A B C D) 81
theorem cn_edge {A B C D k : Nat} (h : 63 ≤ k ∨ 7 ≤ k % 9) : cn_W A B C D k = 0 := cn_W0 (by omega) (by omega) (by omega) (by omega)
section
variable {g : Int32} {a1 a2 a3 a4 a5 a6 a7 a8 a9 a10 a11 a12 : Nat → Int32}
theorem cn_trust {post : Int32 → St2 → Prop} {T F : Nat → Nat} {u v s : Nat} (hu : u < 7) (hv : v < 7) (huv : u ≠ v) (h1 : cn_m a1 T 49) (h3 : cn_m a3 F 81) (h0 : T (7 * u + v) = 0) (f0 : F (9 * v + u) = 0) (hs : s ≤ 1000)
    (H : ∀ r b1 b3, cn_m b1 (cn_up T (7 * u + v) s) 49 → cn_m b3 (cn_up F (9 * v + u) s) 81 → post r (g, b1, a2, b3, a4, a5, a6, a7, a8, a9, a10, a11, a12)) : wpX_trust post (g, a1, a2, a3, a4, a5, a6, a7, a8, a9, a10, a11, a12) (nI u) (nI v) (nI s) := by
  have c1 : (nI (7 * u + v)).toNatClampNeg = 7 * u + v := nI_clamp (by omega)
  have c3 : ((9 : Int32) * nI v + nI u).toNatClampNeg = 9 * v + u := pk_cl (9 * v + u) (cn_ix v u)
  have v1 : a1 (7 * u + v) = nI 0 := by rw [h1 _ (by omega), h0]
  have v3 : a3 (9 * v + u) = nI 0 := by rw [h3 _ (by omega), f0]
  unfold wpX_trust
  refine cn_pair u v hu hv huv (br_f (by decide) (nm_r (cn_ix7 u v) (br_f (nI_pos (by omega)) ⟨pk_in (7 * u + v) 49 (by omega), br_t ?_ ⟨pk_in (7 * u + v) 49 (by omega), pk_in (7 * u + v) 49 (by omega), nm_r (e' := upd a1 (7 * u + v) (nI s)) ?_ ⟨pk_in (9 * v + u) 81 (by omega) (cn_ix v u), pk_in (9 * v + u) 81 (by omega) (cn_ix v u), nm_r (e' := upd a3 (9 * v + u) (nI s)) ?_ ⟨pk_in (7 * u + v) 49 (by omega), H _ _ _ (cn_m_up h1) (cn_m_up h3)⟩⟩⟩⟩)))
  · rw [c1, v1]
    show nI s ≤ nI 1000 - nI 0
    rw [pk_sub (by omega)]
    exact nI_le hs (by decide)
  · rw [c1, v1, nI_add, Nat.zero_add]
  · rw [c3, v3, nI_add, Nat.zero_add]
end
theorem cn_trust1 {post : Int32 → St2 → Prop} {u : St2} {s : Nat} (hs : s ≤ 1000) (hQ : cn_Q 0 0 0 0 0 0 0 u) (H : ∀ r u', cn_Q s 0 0 s 0 0 0 u' → post r u') : wpX_trust post u 4 1 (nI s) := by
  obtain ⟨g, a1, a2, a3, a4, a5, a6, a7, a8, a9, a10, a11, a12⟩ := u
  obtain ⟨h1, h2, h3⟩ := hQ
  refine cn_trust (u := 4) (v := 1) (by decide) (by decide) (by decide) h1 h3 rfl rfl hs (fun r b1 b3 k1 k3 => H r _ ⟨cn_m_eq k1 (fun k _ => ?_), h2, cn_m_eq k3 (fun k _ => ?_)⟩)
  · show (if k = 29 then s else if k = 29 then 0 else if k = 46 then 0 else 0) = if k = 29 then s else if k = 46 then 0 else 0
    by_cases e : k = 29
    · rw [if_pos e, if_pos e]
    · rw [if_neg e, if_neg e, if_neg e]
  · show (if k = 13 then s else cn_W 0 0 0 0 k) = if k = 13 then s else if k = 37 then 0 else if k = 42 then 0 else if k = 58 then 0 else 0
    by_cases e : k = 13
    · rw [if_pos e, if_pos e]
    · rw [if_neg e, if_neg e]
      unfold cn_W
      rw [if_neg e]
theorem cn_trust2 {post : Int32 → St2 → Prop} {u : St2} {s t : Nat} (ht : t ≤ 1000) (hQ : cn_Q s 0 0 s 0 0 0 u) (H : ∀ r u', cn_Q s t 0 s 0 t 0 u' → post r u') : wpX_trust post u 6 4 (nI t) := by
  obtain ⟨g, a1, a2, a3, a4, a5, a6, a7, a8, a9, a10, a11, a12⟩ := u
  obtain ⟨h1, h2, h3⟩ := hQ
  refine cn_trust (u := 6) (v := 4) (by decide) (by decide) (by decide) h1 h3 rfl rfl ht (fun r b1 b3 k1 k3 => H r _ ⟨cn_m_eq k1 (fun k _ => ?_), h2, cn_m_eq k3 (fun k _ => ?_)⟩)
  · show (if k = 46 then t else if k = 29 then s else if k = 46 then 0 else 0) = if k = 29 then s else if k = 46 then t else 0
    by_cases e : k = 46
    · rw [if_pos e, if_neg (show ¬ k = 29 by omega), if_pos e]
    · rw [if_neg e, if_neg e, if_neg e]
  · refine cn_Wc (P := fun k => cn_up (cn_W s 0 0 0) 42 t k = cn_W s 0 t 0 k) rfl rfl rfl rfl (fun k e1 e2 e3 e4 => ?_) k
    show cn_up (cn_W s 0 0 0) 42 t k = cn_W s 0 t 0 k
    rw [cn_up_n e3, cn_W0 e1 e2 e3 e4, cn_W0 e1 e2 e3 e4]
theorem cn_most16 {post : Int32 → St2 → Prop} {u : St2} {T U p A B C D : Nat} (hA : A ≤ 1000) (hB : B ≤ 1000) (hC : C ≤ 1000) (hD : D ≤ 1000) (hQ : cn_Q T U p A B C D u) (H : ∀ u', cn_Q T U p A B C D u' → post (nI (min C A)) u') : wpX_most post u 1 6 := by
  obtain ⟨g, a1, a2, a3, a4, a5, a6, a7, a8, a9, a10, a11, a12⟩ := u
  obtain ⟨h1, h2, h3⟩ := hQ
  unfold wpX_most
  refine cn_pair 1 6 (by decide) (by decide) (by decide) (br_f (by decide) (cn_copy (fun b hb => ?_)))
  refine cn_send (L := 1000000) hA hB hC hD (by decide) (cn_m_of h3 hb) (fun m em b7 b9 b10 _ => ?_)
  rw [show m = min C A by omega]
  exact H _ ⟨h1, h2, h3⟩
theorem cn_most61 {post : Int32 → St2 → Prop} {u : St2} {T U p A C : Nat} (hA : A ≤ 1000) (hC : C ≤ 1000) (hQ : cn_Q T U p A 0 C 0 u) (H : ∀ u', cn_Q T U p A 0 C 0 u' → post 0 u') : wpX_most post u 6 1 := by
  obtain ⟨g, a1, a2, a3, a4, a5, a6, a7, a8, a9, a10, a11, a12⟩ := u
  obtain ⟨h1, h2, h3⟩ := hQ
  unfold wpX_most
  refine cn_pair 6 1 (by decide) (by decide) (by decide) (br_f (by decide) (cn_copy (fun b hb => ?_)))
  refine cn_sendN (f := 6) (to := 1) (M := 1000) (by decide) (by decide) hA (by decide) hC (by decide) (by decide) (cn_m_of h3 hb) cn_ok6 (cn_no61 _ _) (fun b9 b10 => ?_)
  exact H _ ⟨h1, h2, h3⟩
theorem cn_pay {post : Int32 → St2 → Prop} {u : St2} {s t P : Nat} (hs : s ≤ 1000) (ht : t ≤ 1000) (hP : P < 2 ^ 31) (hQ : cn_Q s t 0 s 0 t 0 u)
    (H1 : P ≤ min t s → ∀ u', cn_Q s t P (s - P) P (t - P) P u' → post (-nI P) u') (H2 : ¬ P ≤ min t s → ∀ u', cn_Q s t 0 s 0 t 0 u' → post (-3) u') : wpX_pay post u 1 6 (nI P) := by
  obtain ⟨g, a1, a2, a3, a4, a5, a6, a7, a8, a9, a10, a11, a12⟩ := u
  have h1 : cn_m a1 (cn_T s t) 49 := hQ.1
  have h2 : ∀ k, k < 7 → a2 k = cn_p 0 k := hQ.2.1
  have h3 : cn_m a3 (cn_W s 0 t 0) 81 := hQ.2.2
  have c1 : (1 : Int32).toNatClampNeg = 1 := pk_cl 1
  have c6 : (6 : Int32).toNatClampNeg = 6 := pk_cl 6
  unfold wpX_pay
  refine cn_pair 1 6 (by decide) (by decide) (by decide) (br_f (by decide) (br_t (nI_pos' hP) (cn_copy (fun b hb => ?_))))
  refine cn_send (L := P) hs (by decide) ht (by decide) hP (cn_m_of h3 hb) (fun m em b7 b9 b10 h7 => ?_)
  refine pk_le P m (fun z => ?_) (fun z => H2 (by omega) _ ⟨h1, h2, h3⟩)
  have eP : m = P := by omega
  rw [eP] at h7
  refine cn_keepW (fun k hk hq => by rw [h3 k hk, h7 k hk, cn_edge hq, cn_edge hq]) (fun b3 hb3 => ?_)
  refine ⟨pk_in 1 7 (by decide), pk_in 1 7 (by decide), nm_r (e' := upd a2 1 (-nI P)) ?_ ⟨pk_in 6 7 (by decide), pk_in 6 7 (by decide), nm_r (e' := upd (upd a2 1 (-nI P)) 6 (nI P)) ?_ ⟨pk_in 1 7 (by decide), ?_⟩⟩⟩
  · rw [c1, h2 1 (by decide)]
    show upd a2 1 (-nI 0 - nI P) = upd a2 1 (-nI P)
    rw [cn_neg0]
  · rw [c6, pk_un (show (6 : Nat) ≠ 1 by decide), h2 6 (by decide)]
    show upd (upd a2 1 (-nI P)) 6 (nI 0 + nI P) = upd (upd a2 1 (-nI P)) 6 (nI P)
    rw [nI_add, Nat.zero_add]
  · rw [c1, pk_un (show (1 : Nat) ≠ 6 by decide), pk_us]
    refine H1 (by omega) _ ⟨h1, fun k hk => ?_, cn_m_of (cn_m_eq h7 (fun k _ => by rw [Nat.zero_add])) hb3⟩
    show upd (upd a2 1 (-nI P)) 6 (nI P) k = if k = 1 then -nI P else if k = 6 then nI P else 0
    by_cases e6 : k = 6
    · rw [e6, pk_us]
      rfl
    · rw [pk_un e6]
      by_cases e1 : k = 1
      · rw [e1, pk_us]
        rfl
      · rw [pk_un e1, h2 k hk, if_neg e1, if_neg e6]
        show (if k = 1 then -nI 0 else if k = 6 then nI 0 else 0) = 0
        rw [if_neg e1, if_neg e6]
theorem cn_payN {post : Int32 → St2 → Prop} {u : St2} {x : Int32} (hx : ¬ 0 ≤ x) (H : post (-2) u) : wpX_pay post u 1 6 x := by
  obtain ⟨g, a1, a2, a3, a4, a5, a6, a7, a8, a9, a10, a11, a12⟩ := u
  unfold wpX_pay
  exact cn_pair 1 6 (by decide) (by decide) (by decide) (br_f (by decide) (br_f hx H))
end
section
theorem cn_f00 : decide (0 < 0) = false := decide_eq_false (by decide)
theorem cn_no46z (A B D : Nat) : (cn_bo (cn_B (decide (0 < A)) (decide (0 < B)) (decide (0 < 0)) (decide (0 < D))) 4 9).1 6 = 9 := by
  rw [cn_f00]
  exact cn_no46 (decide (0 < A)) (decide (0 < B)) (decide (0 < D))
theorem cn_no14z (C D : Nat) : (cn_bo (cn_B (decide (0 < 0)) (decide (0 < 0)) (decide (0 < C)) (decide (0 < D))) 1 9).1 4 = 9 := by
  rw [cn_f00]
  exact cn_no14 (decide (0 < C)) (decide (0 < D))
theorem cn_no64z (A B : Nat) : (cn_bo (cn_B (decide (0 < A)) (decide (0 < B)) (decide (0 < 0)) (decide (0 < 0))) 6 9).1 4 = 9 := by
  rw [cn_f00]
  exact cn_no64 (decide (0 < A)) (decide (0 < B))
theorem cn_withN {post : Int32 → St2 → Prop} {u : St2} {x : Int32} (hx : x < 0) (H : post (-2) u) : wpX_withdraw post u 6 4 x := by
  obtain ⟨g, a1, a2, a3, a4, a5, a6, a7, a8, a9, a10, a11, a12⟩ := u
  unfold wpX_withdraw
  exact cn_pair 6 4 (by decide) (by decide) (by decide) (br_f (by decide) (nm_e (br_t hx H)))
theorem cn_withM {post : Int32 → St2 → Prop} {u : St2} {s t p A B C D b : Nat} (ht : t ≤ 1000) (hb : b < 2 ^ 31) (hx : t < b) (hQ : cn_Q s t p A B C D u) (H : post (-2) u) : wpX_withdraw post u 6 4 (nI b) := by
  obtain ⟨g, a1, a2, a3, a4, a5, a6, a7, a8, a9, a10, a11, a12⟩ := u
  have h1 : cn_m a1 (cn_T s t) 49 := hQ.1
  unfold wpX_withdraw
  refine cn_pair 6 4 (by decide) (by decide) (by decide) (br_f (by decide) (nm_r (e' := nI 46) rfl (br_f (nI_pos hb) ⟨pk_in 46 49 (by decide), br_f ?_ H⟩)))
  rw [nI_clamp (show 46 < 2 ^ 31 by decide), h1 46 (by decide)]
  exact nI_ge hx hb
theorem cn_with {post : Int32 → St2 → Prop} {u : St2} {s t p b : Nat} (hs : s ≤ 1000) (ht : t ≤ 1000) (ps : p ≤ s) (pt : p ≤ t) (hb : b ≤ t) (hQ : cn_Q s t p (s - p) p (t - p) p u)
    (H1 : p ≤ t - b → ∀ u', cn_Q s (t - b) p (s - p) p (t - b - p) p u' → post (nI (t - b)) u') (H2 : t - b < p → ∀ u', cn_Q s t p (s - p) p (t - p) p u' → post (-3) u') : wpX_withdraw post u 6 4 (nI b) := by
  obtain ⟨g, a1, a2, a3, a4, a5, a6, a7, a8, a9, a10, a11, a12⟩ := u
  have h1 : cn_m a1 (cn_T s t) 49 := hQ.1
  have h2 : ∀ k, k < 7 → a2 k = cn_p p k := hQ.2.1
  have h3 : cn_m a3 (cn_W (s - p) p (t - p) p) 81 := hQ.2.2
  have c46 : (nI 46).toNatClampNeg = 46 := nI_clamp (by decide)
  have c42 : ((9 : Int32) * 4 + 6).toNatClampNeg = 42 := pk_cl 42
  have c58 : ((9 : Int32) * 6 + 4).toNatClampNeg = 58 := pk_cl 58
  unfold wpX_withdraw
  refine cn_pair 6 4 (by decide) (by decide) (by decide) (br_f (by decide) (nm_r (e' := nI 46) rfl (br_f (nI_pos (by omega)) ⟨pk_in 46 49 (by decide), br_t ?_ (cn_copy (fun w hw => ?_))⟩)))
  · rw [c46, h1 46 (by decide)]
    exact nI_le hb (show t < 2 ^ 31 by omega)
  · have k7 : cn_m w (cn_W (s - p) p (t - p) p) 81 := cn_m_of h3 hw
    refine ⟨pk_in 42 81 (by decide), nm_r (e' := nI (t - p) - nI b) ?_ ?_⟩
    · rw [c42, h3 42 (by decide)]
      rfl
    · by_cases z : t - p < b
      · refine br_t (pk_sneg (by omega) z) (nm_r (cn_neg_sub (Nat.le_of_lt z)) ⟨pk_in 42 81 (by decide), nm_r (e' := upd w 42 (nI 0)) ?_ ⟨pk_in 58 81 (by decide), pk_in 58 81 (by decide), nm_r (e' := upd (upd w 42 (nI 0)) 58 (nI (t - b))) ?_ ?_⟩⟩)
        · rw [c42]
          rfl
        · rw [c58, pk_un (show (58 : Nat) ≠ 42 by decide), k7 58 (by decide)]
          show upd (upd w 42 (nI 0)) 58 (nI p - nI (b - (t - p))) = upd (upd w 42 (nI 0)) 58 (nI (t - b))
          rw [pk_sub (by omega), show p - (b - (t - p)) = t - b by omega]
        · refine cn_sendN (f := 4) (to := 6) (A := s - p) (B := p) (C := 0) (D := t - b) (M := 1000) (by decide) (by decide) (by omega) (by omega) (by decide) (by omega) (by decide) (cn_m_eq (cn_m_up (cn_m_up k7)) (fun k _ => ?_)) cn_ok4 (cn_no46z (s - p) p (t - b)) (fun b9 b10 => ?_)
          · refine cn_Wc (P := fun k => cn_up (cn_up (cn_W (s - p) p (t - p) p) 42 0) 58 (t - b) k = cn_W (s - p) p 0 (t - b) k) rfl rfl rfl rfl (fun k e1 e2 e3 e4 => ?_) k
            show cn_up (cn_up (cn_W (s - p) p (t - p) p) 42 0) 58 (t - b) k = cn_W (s - p) p 0 (t - b) k
            rw [cn_up_n e4, cn_up_n e3, cn_W0 e1 e2 e3 e4, cn_W0 e1 e2 e3 e4]
          · exact br_f (nI_nle (by omega) (by omega)) (H2 (by omega) _ ⟨h1, h2, h3⟩)
      · have e : nI (t - p) - nI b = nI (t - b - p) := by
          rw [pk_sub (by omega), show t - p - b = t - b - p by omega]
        rw [e]
        refine br_f (nI_pos (by omega)) ⟨pk_in 42 81 (by decide), nm_r (e' := upd w 42 (nI (t - b - p))) (by rw [c42]) ?_⟩
        have j7 : cn_m (upd w 42 (nI (t - b - p))) (cn_W (s - p) p (t - b - p) p) 81 := cn_m_eq (cn_m_up k7) (fun k _ => by
          refine cn_Wc (P := fun k => cn_up (cn_W (s - p) p (t - p) p) 42 (t - b - p) k = cn_W (s - p) p (t - b - p) p k) rfl rfl rfl rfl (fun k e1 e2 e3 e4 => ?_) k
          show cn_up (cn_W (s - p) p (t - p) p) 42 (t - b - p) k = cn_W (s - p) p (t - b - p) p k
          rw [cn_up_n e3, cn_W0 e1 e2 e3 e4, cn_W0 e1 e2 e3 e4])
        unfold wX_withdraw_129
        refine cn_keepW (fun k hk hq => by rw [h3 k hk, j7 k hk, cn_edge hq, cn_edge hq]) (fun b3 hb3 => ?_)
        refine ⟨pk_in 46 49 (by decide), pk_in 46 49 (by decide), nm_r (e' := upd a1 46 (nI (t - b))) ?_ ⟨pk_in 46 49 (by decide), ?_⟩⟩
        · rw [c46, h1 46 (by decide)]
          show upd a1 46 (nI t - nI b) = upd a1 46 (nI (t - b))
          rw [pk_sub hb]
        · rw [c46, pk_us]
          refine H1 (by omega) _ ⟨cn_m_eq (cn_m_up h1) (fun k _ => ?_), h2, cn_m_of j7 hb3⟩
          show (if k = 46 then t - b else if k = 29 then s else if k = 46 then t else 0) = if k = 29 then s else if k = 46 then t - b else 0
          by_cases e : k = 46
          · rw [if_pos e, if_neg (show ¬ k = 29 by omega), if_pos e]
          · rw [if_neg e, if_neg e, if_neg e]
section
variable {g : Int32} {a1 a2 a3 a4 a5 a6 a7 a8 a9 a10 a11 a12 : Nat → Int32}
theorem cn_debt {post : Int32 → Prop} {u v x y : Nat} (hu : u < 7) (hv : v < 7) (h1 : a1 (7 * v + u) = nI x) (h3 : a3 (9 * u + v) = nI y) (H : post (nI x - nI y)) : wpX_debt post (g, a1, a2, a3, a4, a5, a6, a7, a8, a9, a10, a11, a12) (nI u) (nI v) := by
  refine ⟨pk_in (7 * v + u) 49 (by omega) (cn_ix7 v u), pk_in (9 * u + v) 81 (by omega) (cn_ix u v), ?_⟩
  rw [pk_cl (7 * v + u) (cn_ix7 v u), pk_cl (9 * u + v) (cn_ix u v), h1, h3]
  exact H
end
theorem cn_least {post : Int32 → St2 → Prop} {u : St2} {s U p C D : Nat} (hs : s ≤ 1000) (hC : C ≤ 1000) (hD : D ≤ 1000) (ps : p ≤ s) (hQ : cn_Q s U p (s - p) p C D u) (H : ∀ u', cn_Q s U p (s - p) p C D u' → post (nI p) u') : wpX_leastDebt post u 1 4 := by
  obtain ⟨g, a1, a2, a3, a4, a5, a6, a7, a8, a9, a10, a11, a12⟩ := u
  have h1 : cn_m a1 (cn_T s U) 49 := hQ.1
  have h2 : ∀ k, k < 7 → a2 k = cn_p p k := hQ.2.1
  have h3 : cn_m a3 (cn_W (s - p) p C D) 81 := hQ.2.2
  have c37 : ((9 : Int32) * 4 + 1).toNatClampNeg = 37 := pk_cl 37
  have c13 : ((9 : Int32) * 1 + 4).toNatClampNeg = 13 := pk_cl 13
  have c29 : ((7 : Int32) * 4 + 1).toNatClampNeg = 29 := pk_cl 29
  unfold wpX_leastDebt
  refine cn_pair 1 4 (by decide) (by decide) (by decide) (br_f (by decide) (br_t (by decide) ?_))
  unfold wpX_roundAbout
  refine cn_copy (fun w hw => ?_)
  have k7 : cn_m w (cn_W (s - p) p C D) 81 := cn_m_of h3 hw
  refine ⟨pk_in 37 81 (by decide), nm_e ⟨pk_in 13 81 (by decide), nm_r (e' := upd w 13 (nI 0)) (by rw [c13]; rfl) ⟨pk_in 37 81 (by decide), nm_r (e' := upd (upd w 13 (nI 0)) 37 (nI 0)) (by rw [c37]; rfl) ?_⟩⟩⟩
  refine cn_sendN (f := 1) (to := 4) (A := 0) (B := 0) (C := C) (D := D) (M := 1000) (by decide) (by decide) (by decide) (by decide) hC hD (by decide) (cn_m_eq (cn_m_up (cn_m_up k7)) (fun k _ => ?_)) cn_ok1 (cn_no14z C D) (fun b9 b10 => ?_)
  · refine cn_Wc (P := fun k => cn_up (cn_up (cn_W (s - p) p C D) 13 0) 37 0 k = cn_W 0 0 C D k) rfl rfl rfl rfl (fun k e1 e2 e3 e4 => ?_) k
    show cn_up (cn_up (cn_W (s - p) p C D) 13 0) 37 0 k = cn_W 0 0 C D k
    rw [cn_up_n e2, cn_up_n e1, cn_W0 e1 e2 e3 e4, cn_W0 e1 e2 e3 e4]
  · refine cn_debt (u := 1) (v := 4) (x := s) (y := s - p) (by decide) (by decide) (h1 29 (by decide)) (h3 13 (by decide)) ?_
    show post (nI s - nI (s - p) - 0) _
    have e : nI s - nI (s - p) - 0 = nI p := by
      show nI s - nI (s - p) - nI 0 = nI p
      rw [pk_sub (by omega), pk_sub (by omega), show s - (s - p) - 0 = p by omega]
    rw [e]
    exact H _ ⟨h1, h2, h3⟩
theorem cn_great {post : Int32 → St2 → Prop} {u : St2} {s U p A B D : Nat} (hU : U ≤ 1000) (hA : A ≤ 1000) (hB : B ≤ 1000) (pU : p ≤ U) (hQ : cn_Q s U p A B (U - p) D u) (H : ∀ u', cn_Q s U p A B (U - p) D u' → post (nI p) u') : wpX_greatestDebt post u 4 6 := by
  obtain ⟨g, a1, a2, a3, a4, a5, a6, a7, a8, a9, a10, a11, a12⟩ := u
  have h1 : cn_m a1 (cn_T s U) 49 := hQ.1
  have h2 : ∀ k, k < 7 → a2 k = cn_p p k := hQ.2.1
  have h3 : cn_m a3 (cn_W A B (U - p) D) 81 := hQ.2.2
  have c42 : ((9 : Int32) * 4 + 6).toNatClampNeg = 42 := pk_cl 42
  have c58 : ((9 : Int32) * 6 + 4).toNatClampNeg = 58 := pk_cl 58
  have c46 : ((7 : Int32) * 6 + 4).toNatClampNeg = 46 := pk_cl 46
  unfold wpX_greatestDebt
  refine cn_pair 4 6 (by decide) (by decide) (by decide) (br_f (by decide) (br_t (by decide) ?_))
  unfold wpX_roundAbout
  refine cn_copy (fun w hw => ?_)
  have k7 : cn_m w (cn_W A B (U - p) D) 81 := cn_m_of h3 hw
  refine ⟨pk_in 42 81 (by decide), nm_e ⟨pk_in 58 81 (by decide), nm_r (e' := upd w 58 (nI 0)) (by rw [c58]; rfl) ⟨pk_in 42 81 (by decide), nm_r (e' := upd (upd w 58 (nI 0)) 42 (nI 0)) (by rw [c42]; rfl) ?_⟩⟩⟩
  refine cn_sendN (f := 6) (to := 4) (A := A) (B := B) (C := 0) (D := 0) (M := 1000) (by decide) (by decide) hA hB (by decide) (by decide) (by decide) (cn_m_eq (cn_m_up (cn_m_up k7)) (fun k _ => ?_)) cn_ok6 (cn_no64z A B) (fun b9 b10 => ?_)
  · refine cn_Wc (P := fun k => cn_up (cn_up (cn_W A B (U - p) D) 58 0) 42 0 k = cn_W A B 0 0 k) rfl rfl rfl rfl (fun k e1 e2 e3 e4 => ?_) k
    show cn_up (cn_up (cn_W A B (U - p) D) 58 0) 42 0 k = cn_W A B 0 0 k
    rw [cn_up_n e3, cn_up_n e4, cn_W0 e1 e2 e3 e4, cn_W0 e1 e2 e3 e4]
  · refine cn_debt (u := 4) (v := 6) (x := U) (y := U - p) (by decide) (by decide) (h1 46 (by decide)) (h3 42 (by decide)) ?_
    show post (nI U - nI (U - p) + 0) _
    have e : nI U - nI (U - p) + 0 = nI p := by
      show nI U - nI (U - p) + nI 0 = nI p
      rw [pk_sub (by omega), nI_add, show U - (U - p) + 0 = p by omega]
    rw [e]
    exact H _ ⟨h1, h2, h3⟩
end
section
/-- what debts() lays into work: 1-4, 4-6, 6 to the sink, the source to 1 -/
def cn_V (T U p : Nat) (k : Nat) : Nat := if k = 13 then T else if k = 42 then U else if k = 62 then p else if k = 64 then p else 0
def cn_E (k : Nat) : Bool := if k = 13 then true else if k = 42 then true else if k = 62 then true else if k = 64 then true else false
def cn_k (c : Nat) : Nat := if c / 9 < 7 ∧ c % 9 < 7 then 1 else 0
/-- relax, rounds of it, in naturals: (distance, come from) -/
def cn_cv (c : Nat) (s : (Nat → Nat) × (Nat → Nat)) : (Nat → Nat) × (Nat → Nat) :=
  if cn_E c = true ∧ s.1 (c / 9) < 1000000 ∧ s.1 (c / 9) + cn_k c < s.1 (c % 9) then (cn_up s.1 (c % 9) (s.1 (c / 9) + cn_k c), cn_up s.2 (c % 9) (c / 9)) else s
def cn_ci (s : (Nat → Nat) × (Nat → Nat)) : Nat → (Nat → Nat) × (Nat → Nat)
  | 0 => s
  | j + 1 => cn_cv j (cn_ci s j)
def cn_s0 : (Nat → Nat) × (Nat → Nat) := (fun n => if n = 7 then 0 else 1000000, fun _ => 9)
def cn_s1 : (Nat → Nat) × (Nat → Nat) := (fun n => if n = 7 then 0 else if n = 1 then 0 else 1000000, fun n => if n = 1 then 7 else 9)
def cn_s2 : (Nat → Nat) × (Nat → Nat) := (fun n => if n = 7 then 0 else if n = 1 then 0 else if n = 4 then 1 else if n = 6 then 2 else if n = 8 then 2 else 1000000, fun n => if n = 1 then 7 else if n = 4 then 1 else if n = 6 then 4 else if n = 8 then 6 else 9)
theorem cn_s0le (n : Nat) : cn_s0.1 n ≤ 1000000 := by
  show (if n = 7 then 0 else 1000000) ≤ 1000000
  split
  · decide
  · decide
theorem cn_r0 : ∀ n, n < 9 → (cn_ci cn_s0 81).1 n = cn_s1.1 n ∧ (cn_ci cn_s0 81).2 n = cn_s1.2 n := by decide +kernel
theorem cn_r1 : ∀ n, n < 9 → (cn_ci cn_s1 81).1 n = cn_s2.1 n ∧ (cn_ci cn_s1 81).2 n = cn_s2.2 n := by decide +kernel
theorem cn_r2 : ∀ n, n < 9 → (cn_ci cn_s2 81).1 n = cn_s2.1 n ∧ (cn_ci cn_s2 81).2 n = cn_s2.2 n := by decide +kernel
def cn_N (s : (Nat → Nat) × (Nat → Nat)) (b9 b11 : Nat → Int32) : Prop := ∀ n, n < 9 → s.1 n ≤ 1000000 ∧ b11 n = nI (s.1 n) ∧ b9 n = cn_v (s.2 n)
theorem cn_N_eq {s t : (Nat → Nat) × (Nat → Nat)} {b9 b11 : Nat → Int32} (h : cn_N s b9 b11) (e : ∀ n, n < 9 → s.1 n = t.1 n ∧ s.2 n = t.2 n) : cn_N t b9 b11 := by
  intro n hn
  have q := h n hn
  rw [(e n hn).1, (e n hn).2] at q
  exact q
theorem cn_VE {T U p : Nat} (hT : 0 < T) (hU : 0 < U) (hp : 0 < p) (k : Nat) : 0 < cn_V T U p k ↔ cn_E k = true := by
  unfold cn_V cn_E
  by_cases e1 : k = 13
  · rw [if_pos e1, if_pos e1]
    exact ⟨fun _ => rfl, fun _ => hT⟩
  · rw [if_neg e1, if_neg e1]
    by_cases e2 : k = 42
    · rw [if_pos e2, if_pos e2]
      exact ⟨fun _ => rfl, fun _ => hU⟩
    · rw [if_neg e2, if_neg e2]
      by_cases e3 : k = 62
      · rw [if_pos e3, if_pos e3]
        exact ⟨fun _ => rfl, fun _ => hp⟩
      · rw [if_neg e3, if_neg e3]
        by_cases e4 : k = 64
        · rw [if_pos e4, if_pos e4]
          exact ⟨fun _ => rfl, fun _ => hp⟩
        · rw [if_neg e4, if_neg e4]
          exact ⟨fun z => absurd z (by decide), fun z => absurd z (by decide)⟩
theorem cn_Vle {T U p M : Nat} (hT : T ≤ M) (hU : U ≤ M) (hp : p ≤ M) (k : Nat) : cn_V T U p k ≤ M := by
  unfold cn_V
  by_cases e1 : k = 13
  · rw [if_pos e1]
    exact hT
  · rw [if_neg e1]
    by_cases e2 : k = 42
    · rw [if_pos e2]
      exact hU
    · rw [if_neg e2]
      by_cases e3 : k = 62
      · rw [if_pos e3]
        exact hp
      · rw [if_neg e3]
        by_cases e4 : k = 64
        · rw [if_pos e4]
          exact hp
        · rw [if_neg e4]
          exact Nat.zero_le M
section
variable {g : Int32} {a1 a2 a3 a4 a5 a6 a7 a8 a9 a10 a11 a12 : Nat → Int32} {W : Nat → Nat}
theorem cn_cost {post : Int32 → Prop} {u v : Nat} (hu : u < 9) (hv : v < 9) (h8 : ∀ k, k < 81 → a8 k = nI 0) (H : post (nI (if u < 7 ∧ v < 7 then 1 else 0))) : wpX_costOf post (g, a1, a2, a3, a4, a5, a6, a7, a8, a9, a10, a11, a12) (nI u) (nI v) := by
  unfold wpX_costOf
  refine pk_le 7 u (fun z => ?_) (fun z => pk_lt v 7 (fun y => ⟨pk_in (9 * v + u) 81 (by omega) (cn_ix v u), br_t ?_ ?_⟩) (fun y => ?_))
  · rw [if_neg (by omega)] at H
    exact H
  · rw [pk_cl (9 * v + u) (cn_ix v u), h8 _ (by omega)]
    exact nI_le (Nat.le_refl 0) (by decide)
  · rw [if_pos ⟨z, y⟩] at H
    exact H
  · rw [if_neg (by omega)] at H
    exact H
theorem cn_relax {post : St2 → Prop} {c : Nat} {s : (Nat → Nat) × (Nat → Nat)} (hc : c < 81) (hW : ∀ k, k < 81 → W k < 2 ^ 31) (hE : ∀ k, k < 81 → (0 < W k ↔ cn_E k = true)) (h7 : cn_m a7 W 81) (h8 : ∀ k, k < 81 → a8 k = nI 0) (hr : cn_N s a9 a11)
    (H : ∀ b9 b11, cn_N (cn_cv c s) b9 b11 → post (g, a1, a2, a3, a4, a5, a6, a7, a8, b9, a10, b11, a12)) : wpX_relax post (g, a1, a2, a3, a4, a5, a6, a7, a8, a9, a10, a11, a12) (nI (c / 9)) (nI (c % 9)) := by
  have hu : c / 9 < 9 := by omega
  have hv : c % 9 < 9 := by omega
  have e : (9 : Int32) * nI (c / 9) + nI (c % 9) = nI c := by rw [cn_ix, show 9 * (c / 9) + c % 9 = c by omega]
  have e7 : a7 ((9 : Int32) * nI (c / 9) + nI (c % 9)).toNatClampNeg = nI (W c) := by rw [pk_cl c e]; exact h7 c hc
  have eu : a11 (nI (c / 9)).toNatClampNeg = nI (s.1 (c / 9)) := by rw [nI_clamp (by omega)]; exact (hr _ hu).2.1
  have ev : a11 (nI (c % 9)).toNatClampNeg = nI (s.1 (c % 9)) := by rw [nI_clamp (by omega)]; exact (hr _ hv).2.1
  have bu : s.1 (c / 9) ≤ 1000000 := (hr _ hu).1
  have bv : s.1 (c % 9) ≤ 1000000 := (hr _ hv).1
  have bk : cn_k c ≤ 1 := by
    unfold cn_k
    split
    · exact Nat.le_refl 1
    · exact Nat.zero_le 1
  unfold wpX_relax
  refine ⟨pk_in c 81 hc e, ?_⟩
  by_cases hb : cn_E c = true
  · refine br_f (by rw [e7]; exact nI_nle ((hE c hc).mpr hb) (hW c hc)) ⟨pk_in (c / 9) 9 hu, ?_⟩
    by_cases k1 : s.1 (c / 9) < 1000000
    · refine br_f (by rw [eu]; exact nI_ge k1 (by decide)) ⟨pk_in (c / 9) 9 hu, cn_cost hu hv h8 ?_⟩
      refine nm_r (e' := nI (s.1 (c / 9) + cn_k c)) (by rw [eu, nI_add]; rfl) ⟨pk_in (c % 9) 9 hv, ?_⟩
      by_cases k2 : s.1 (c / 9) + cn_k c < s.1 (c % 9)
      · refine br_f (by rw [ev]; exact nI_ge k2 (by omega)) ⟨pk_in (c % 9) 9 hv, nm_r (e' := upd a11 (c % 9) (nI (s.1 (c / 9) + cn_k c))) (by rw [nI_clamp (by omega)]) ⟨pk_in (c % 9) 9 hv, nm_r (e' := upd a9 (c % 9) (nI (c / 9))) (by rw [nI_clamp (by omega)]) (H _ _ ?_)⟩⟩
        have ec : cn_cv c s = (cn_up s.1 (c % 9) (s.1 (c / 9) + cn_k c), cn_up s.2 (c % 9) (c / 9)) := if_pos ⟨hb, k1, k2⟩
        rw [ec]
        intro n hn
        show cn_up s.1 (c % 9) (s.1 (c / 9) + cn_k c) n ≤ 1000000 ∧ upd a11 (c % 9) (nI (s.1 (c / 9) + cn_k c)) n = nI (cn_up s.1 (c % 9) (s.1 (c / 9) + cn_k c) n) ∧ upd a9 (c % 9) (nI (c / 9)) n = cn_v (cn_up s.2 (c % 9) (c / 9) n)
        by_cases z : n = c % 9
        · rw [z, cn_up_s, cn_up_s, pk_us, pk_us, cn_v_lt hu]
          exact ⟨by omega, rfl, rfl⟩
        · rw [cn_up_n z, cn_up_n z, pk_un z, pk_un z]
          exact hr n hn
      · have ec : cn_cv c s = s := if_neg (fun z => k2 z.2.2)
        rw [ec] at H
        exact br_t (by rw [ev]; exact nI_le (by omega) (by omega)) (H _ _ hr)
    · have ec : cn_cv c s = s := if_neg (fun z => k1 z.2.1)
      rw [ec] at H
      exact br_t (by rw [eu]; exact nI_le (a := 1000000) (by omega) (by omega)) (H _ _ hr)
  · have ec : cn_cv c s = s := if_neg (fun z => hb z.1)
    rw [ec] at H
    have hw0 : W c = 0 := by
      rcases Nat.eq_zero_or_pos (W c) with z | z
      · exact z
      · exact absurd ((hE c hc).mp z) hb
    exact br_t (by rw [e7, hw0]; exact nI_le (Nat.le_refl 0) (by decide)) (H _ _ hr)
theorem cn_c49 {post : Int32 → St2 → Prop} {J : Int32 → Int32 → (Nat → Int32) → (Nat → Int32) → (Nat → Int32) → (Nat → Int32) → (Nat → Int32) → (Nat → Int32) → (Nat → Int32) → (Nat → Int32) → (Nat → Int32) → (Nat → Int32) → (Nat → Int32) → (Nat → Int32) → Prop} {x1 : Int32} {s : (Nat → Nat) × (Nat → Nat)} (hW : ∀ k, k < 81 → W k < 2 ^ 31) (hE : ∀ k, k < 81 → (0 < W k ↔ cn_E k = true)) (h7 : cn_m a7 W 81) (h8 : ∀ k, k < 81 → a8 k = nI 0) (hr : cn_N s a9 a11)
    (H : ∀ b9 b11, cn_N (cn_ci s 81) b9 b11 → J (x1 + 1) g a1 a2 a3 a4 a5 a6 a7 a8 b9 a10 b11 a12) : ∃ n, wX_findCheapest_49 post J x1 n 0 g a1 a2 a3 a4 a5 a6 a7 a8 a9 a10 a11 a12 :=
  pk_loop (σ := (Nat → Int32) × (Nat → Int32)) (fun n i t => wX_findCheapest_49 post J x1 n (nI i) g a1 a2 a3 a4 a5 a6 a7 a8 t.1 a10 t.2 a12) (fun i t => cn_N (cn_ci s i) t.1 t.2) 81 0 (a9, a11) (by omega) hr
    (fun n t h => pk_le 81 81 (fun _ => nm_e (H _ _ h)) (fun z => absurd z (by omega)))
    (fun n i t hi h hw => by
      obtain ⟨b9, b11⟩ := t
      have d1 : nI i / 9 = nI (i / 9) := pk_div (d := 9) (by omega) (by decide) (by decide)
      have d2 : nI i - nI i / 9 * 9 = nI (i % 9) := pk_rem (d := 9) (by omega) (by decide) (by decide)
      refine pk_le 81 i (fun z => absurd z (by omega)) (fun _ => ⟨by decide, by decide, ?_⟩)
      rw [d2, d1]
      exact cn_relax hi hW hE h7 h8 h (fun c9 c11 hc => nm_r (nI_1 i) (hw (c9, c11) hc)))
def cn_st (i : Nat) : (Nat → Nat) × (Nat → Nat) := if i = 0 then cn_s0 else if i = 1 then cn_s1 else cn_s2
theorem cn_st_s (i : Nat) : ∀ n, n < 9 → (cn_ci (cn_st i) 81).1 n = (cn_st (i + 1)).1 n ∧ (cn_ci (cn_st i) 81).2 n = (cn_st (i + 1)).2 n := by
  rcases i with _ | _ | i
  · exact cn_r0
  · exact cn_r1
  · have e1 : cn_st (i + 1 + 1) = cn_s2 := by
      unfold cn_st
      rw [if_neg (by omega), if_neg (by omega)]
    have e2 : cn_st (i + 1 + 1 + 1) = cn_s2 := by
      unfold cn_st
      rw [if_neg (by omega), if_neg (by omega)]
    rw [e1, e2]
    exact cn_r2
theorem cn_c41 {post : Int32 → St2 → Prop} (hW : ∀ k, k < 81 → W k < 2 ^ 31) (hE : ∀ k, k < 81 → (0 < W k ↔ cn_E k = true)) (h7 : cn_m a7 W 81) (h8 : ∀ k, k < 81 → a8 k = nI 0) (hr : cn_N cn_s0 a9 a11)
    (H : ∀ b9 b11, cn_N cn_s2 b9 b11 → post 1 (g, a1, a2, a3, a4, a5, a6, a7, a8, b9, a10, b11, a12)) : ∃ n, wX_findCheapest_41 post n 0 g a1 a2 a3 a4 a5 a6 a7 a8 a9 a10 a11 a12 :=
  pk_loop (σ := (Nat → Int32) × (Nat → Int32)) (fun n i t => wX_findCheapest_41 post n (nI i) g a1 a2 a3 a4 a5 a6 a7 a8 t.1 a10 t.2 a12) (fun i t => cn_N (cn_st i) t.1 t.2) 9 0 (a9, a11) (by omega) hr
    (fun n t h => by
      obtain ⟨b9, b11⟩ := t
      have e8 : b11 8 = nI 2 := (h 8 (by decide)).2.1
      exact pk_le 9 9 (fun _ => br_f (by show ¬ 1000000 ≤ b11 8; rw [e8]; exact nI_ge (a := 2) (b := 1000000) (by decide) (by decide)) (H b9 b11 h)) (fun z => absurd z (by omega)))
    (fun n i t hi h hw => pk_le 9 i (fun z => absurd z (by omega)) (fun _ => cn_c49 hW hE h7 h8 h (fun b9 b11 hb => by
      rw [nI_1]
      exact hw (b9, b11) (cn_N_eq hb (cn_st_s i)))))
theorem cn_c25 {post : Int32 → St2 → Prop} {J : Int32 → (Nat → Int32) → (Nat → Int32) → (Nat → Int32) → (Nat → Int32) → (Nat → Int32) → (Nat → Int32) → (Nat → Int32) → (Nat → Int32) → (Nat → Int32) → (Nat → Int32) → (Nat → Int32) → (Nat → Int32) → Prop} {i : Nat} {z : Int32} (hi : i < 9) (H : J (nI (i + 1)) a1 a2 a3 a4 a5 a6 a7 a8 (upd a9 i (-1)) a10 (upd a11 i z) a12) : wX_findCheapest_25 post J (nI i) z (nI i) g a1 a2 a3 a4 a5 a6 a7 a8 a9 a10 a11 a12 := by
  have ei : (nI i).toNatClampNeg = i := nI_clamp (by omega)
  unfold wX_findCheapest_25
  rw [ei]
  exact ⟨pk_in i 9 hi, nm_e ⟨pk_in i 9 hi, nm_e (nm_r (nI_1 i) H)⟩⟩
theorem cn_cheap {post : Int32 → St2 → Prop} (hW : ∀ k, k < 81 → W k < 2 ^ 31) (hE : ∀ k, k < 81 → (0 < W k ↔ cn_E k = true)) (h7 : cn_m a7 W 81) (h8 : ∀ k, k < 81 → a8 k = nI 0)
    (H : ∀ b9 b11 : Nat → Int32, b9 8 = nI 6 → b9 6 = nI 4 → b9 4 = nI 1 → b9 1 = nI 7 → b11 8 = nI 2 → post 1 (g, a1, a2, a3, a4, a5, a6, a7, a8, b9, a10, b11, a12)) : wpX_findCheapest post (g, a1, a2, a3, a4, a5, a6, a7, a8, a9, a10, a11, a12) :=
  pk_loop (σ := (Nat → Int32) × (Nat → Int32)) (fun n i t => wX_findCheapest_2 post g n (nI i) a1 a2 a3 a4 a5 a6 a7 a8 t.1 a10 t.2 a12) (fun i t => (∀ k, k < i → t.1 k = (fun _ => -1) k) ∧ (∀ k, k < i → t.2 k = (fun j => nI (cn_s0.1 j)) k)) 9 0 (a9, a11) (by omega) ⟨fun k h => absurd h (by omega), fun k h => absurd h (by omega)⟩
    (fun n t h => pk_le 9 9 (fun _ => cn_c41 hW hE h7 h8 (fun n hn => ⟨cn_s0le n, h.2 n hn, h.1 n hn⟩) (fun b9 b11 hb => H b9 b11 (hb 8 (by decide)).2.2 (hb 6 (by decide)).2.2 (hb 4 (by decide)).2.2 (hb 1 (by decide)).2.2 (hb 8 (by decide)).2.1)) (fun z => absurd z (by omega)))
    (fun n i t hi h hw => by
      obtain ⟨b9, b11⟩ := t
      refine pk_le 9 i (fun z => absurd z (by omega)) (fun _ => pk_eq i 7 (fun z => ?_) (fun z => ?_))
      · refine cn_c25 hi (hw (upd b9 i (-1), upd b11 i 0) ⟨cn_fill rfl h.1 rfl, cn_fill rfl h.2 ?_⟩)
        show (0 : Int32) = nI (if i = 7 then 0 else 1000000)
        rw [if_pos z]
        rfl
      · refine cn_c25 hi (hw (upd b9 i (-1), upd b11 i 1000000) ⟨cn_fill rfl h.1 rfl, cn_fill rfl h.2 ?_⟩)
        show (1000000 : Int32) = nI (if i = 7 then 0 else 1000000)
        rw [if_neg z]
        rfl)
end
end
section
theorem cn_V_T {T U p i j : Nat} (hi : i < 7) (hj : j < 7) : cn_V T U p (9 * i + j) = cn_T T U (7 * j + i) := by
  unfold cn_V cn_T
  by_cases e1 : 9 * i + j = 13
  · rw [if_pos e1, if_pos (show 7 * j + i = 29 by omega)]
  · rw [if_neg e1, if_neg (show ¬ 7 * j + i = 29 by omega)]
    by_cases e2 : 9 * i + j = 42
    · rw [if_pos e2, if_pos (show 7 * j + i = 46 by omega)]
    · rw [if_neg e2, if_neg (show ¬ 7 * j + i = 46 by omega), if_neg (by omega), if_neg (by omega)]
theorem cn_V_0 {T U p k : Nat} (e1 : k ≠ 13) (e2 : k ≠ 42) (e3 : k ≠ 62) (e4 : k ≠ 64) : cn_V T U p k = 0 := by
  unfold cn_V
  rw [if_neg e1, if_neg e2, if_neg e3, if_neg e4]
theorem cn_V_src {T U p i : Nat} (hi : i < 7) : cn_V T U p (63 + i) = if i = 1 then p else 0 := by
  by_cases e : i = 1
  · rw [e]
    rfl
  · rw [if_neg e, cn_V_0 (by omega) (by omega) (by omega) (by omega)]
theorem cn_V_snk {T U p i : Nat} (hi : i < 7) : cn_V T U p (9 * i + 8) = if i = 6 then p else 0 := by
  by_cases e : i = 6
  · rw [e]
    rfl
  · rw [if_neg e, cn_V_0 (by omega) (by omega) (by omega) (by omega)]
theorem cn_np {p : Nat} (hp : p ≤ 1000) (h : 0 ≤ -nI p) : p = 0 := by
  have q : -nI 0 ≤ -nI p := h
  rw [sb_nle (by decide) (by omega)] at q
  omega
theorem cn_pn {p : Nat} (hp : p ≤ 1000) : -nI p ≤ 0 := by
  have q : -nI p ≤ -nI 0 := (sb_nle (by omega) (by decide)).mpr (Nat.zero_le p)
  exact q
theorem cn_pa {T U p i : Nat} (hp : p ≤ 1000) (hi : i < 7) (h : 0 ≤ cn_p p i) : nI 0 = nI (cn_V T U p (63 + i)) := by
  rw [cn_V_src hi]
  unfold cn_p at h
  by_cases e : i = 1
  · rw [if_pos e] at h
    rw [if_pos e, cn_np hp h]
  · rw [if_neg e]
theorem cn_pb {T U p i : Nat} (hp : p ≤ 1000) (hi : i < 7) (h : ¬ 0 ≤ cn_p p i) : -(cn_p p i) = nI (cn_V T U p (63 + i)) := by
  rw [cn_V_src hi]
  unfold cn_p at h ⊢
  by_cases e : i = 1
  · rw [if_pos e, if_pos e, cn_nn]
  · rw [if_neg e] at h
    by_cases e6 : i = 6
    · rw [if_pos e6] at h
      exact absurd (nI_pos' (by omega)) h
    · rw [if_neg e6] at h
      exact absurd (by decide) h
theorem cn_pc {T U p i : Nat} (hp : p ≤ 1000) (hi : i < 7) (h : cn_p p i ≤ 0) : nI 0 = nI (cn_V T U p (9 * i + 8)) := by
  rw [cn_V_snk hi]
  unfold cn_p at h
  by_cases e : i = 6
  · rw [if_neg (show ¬ i = 1 by omega), if_pos e] at h
    rw [if_pos e]
    rcases Nat.eq_zero_or_pos p with z | z
    · rw [z]
    · exact absurd h (nI_nle z (by omega))
  · rw [if_neg e]
theorem cn_pd {T U p i : Nat} (hp : p ≤ 1000) (hi : i < 7) (h : ¬ cn_p p i ≤ 0) : cn_p p i = nI (cn_V T U p (9 * i + 8)) := by
  rw [cn_V_snk hi]
  unfold cn_p at h ⊢
  by_cases e : i = 1
  · rw [if_pos e] at h
    exact absurd (cn_pn hp) h
  · rw [if_neg e] at h ⊢
    by_cases e6 : i = 6
    · rw [if_pos e6, if_pos e6]
    · rw [if_neg e6, if_neg e6]
      all_goals rfl
/-- a store into work, the places done so far -/
theorem cn_vs {a : Nat → Int32} {V : Nat → Nat} {P Q : Nat → Prop} {q : Nat} {x : Int32} (h : ∀ k, k < 81 → P k → a k = nI (V k)) (hx : x = nI (V q)) (hQ : ∀ k, k < 81 → Q k → P k ∨ k = q) : ∀ k, k < 81 → Q k → upd a q x k = nI (V k) := by
  intro k hk hq
  by_cases e : k = q
  · rw [e, pk_us, hx]
  · rw [pk_un e]
    rcases hQ k hk hq with z | z
    · exact h k hk z
    · exact absurd z e
section
variable {g : Int32} {a1 a2 a3 a4 a5 a6 a7 a8 a9 a10 a11 a12 : Nat → Int32} {T U p : Nat}
theorem cn_d122 {post : Int32 → St2 → Prop} {J : Int32 → Int32 → (Nat → Int32) → (Nat → Int32) → (Nat → Int32) → (Nat → Int32) → (Nat → Int32) → (Nat → Int32) → (Nat → Int32) → (Nat → Int32) → (Nat → Int32) → (Nat → Int32) → (Nat → Int32) → (Nat → Int32) → Prop} {x1 : Int32} {i : Nat} (hi : i < 7) (h1 : cn_m a1 (cn_T T U) 49)
    (h0 : ∀ k, k < 81 → (k < 9 * i ∨ (63 ≤ k ∧ k < 63 + (i + 1)) ∨ 70 ≤ k ∨ k % 9 = 7 ∨ k = 9 * i + 8) → a7 k = nI (cn_V T U p k))
    (H : ∀ b7, (∀ k, k < 81 → (k < 9 * (i + 1) ∨ (63 ≤ k ∧ k < 63 + (i + 1)) ∨ 70 ≤ k ∨ k % 9 = 7) → b7 k = nI (cn_V T U p k)) → J x1 (nI (i + 1)) a1 a2 a3 a4 a5 a6 b7 a8 a9 a10 a11 a12) :
    ∃ n, wX_debts_122 post J x1 (nI i) g n 0 a1 a2 a3 a4 a5 a6 a7 a8 a9 a10 a11 a12 :=
  pk_loop (fun n j t => wX_debts_122 post J x1 (nI i) g n (nI j) a1 a2 a3 a4 a5 a6 t a8 a9 a10 a11 a12) (fun j t => ∀ k, k < 81 → (k < 9 * i + j ∨ (63 ≤ k ∧ k < 63 + (i + 1)) ∨ 70 ≤ k ∨ k % 9 = 7 ∨ k = 9 * i + 8) → t k = nI (cn_V T U p k)) 7 0 a7 (by omega) (fun k hk q => h0 k hk (by omega))
    (fun n t h => pk_le 7 7 (fun _ => nm_r (nI_1 i) (H t (fun k hk q => h k hk (by omega)))) (fun z => absurd z (by omega)))
    (fun n j t hj h hw => by
      have e9 : ((9 : Int32) * nI i + nI j).toNatClampNeg = 9 * i + j := pk_cl (9 * i + j) (cn_ix i j)
      have e7 : ((7 : Int32) * nI j + nI i).toNatClampNeg = 7 * j + i := pk_cl (7 * j + i) (cn_ix7 j i)
      have ev : cn_V T U p (9 * i + j) = cn_T T U (7 * j + i) := cn_V_T hi hj
      have hw' : ∀ x : Int32, x = nI (cn_V T U p (9 * i + j)) → wX_debts_122 post J x1 (nI i) g n (nI (j + 1)) a1 a2 a3 a4 a5 a6 (upd t (9 * i + j) x) a8 a9 a10 a11 a12 :=
        fun x hx => hw _ (cn_vs (P := fun k => k < 9 * i + j ∨ (63 ≤ k ∧ k < 63 + (i + 1)) ∨ 70 ≤ k ∨ k % 9 = 7 ∨ k = 9 * i + 8) h hx (fun k hk q => by omega))
      refine pk_le 7 j (fun z => absurd z (by omega)) (fun _ => pk_eq i j (fun z => ⟨pk_in (9 * i + j) 81 (by omega) (cn_ix i j), nm_r (e' := upd t (9 * i + j) 0) (by rw [e9]) (nm_r (nI_1 j) (hw' 0 ?_))⟩) (fun z => ⟨pk_in (7 * j + i) 49 (by omega) (cn_ix7 j i), pk_in (9 * i + j) 81 (by omega) (cn_ix i j), nm_r (e' := upd t (9 * i + j) (a1 (7 * j + i))) (by rw [e9, e7]) (nm_r (nI_1 j) (hw' _ ?_))⟩))
      · rw [ev]
        unfold cn_T
        rw [if_neg (by omega), if_neg (by omega)]
        rfl
      · rw [h1 _ (by omega), ev])
theorem cn_d97 {post : Int32 → St2 → Prop} {J : Int32 → Int32 → (Nat → Int32) → (Nat → Int32) → (Nat → Int32) → (Nat → Int32) → (Nat → Int32) → (Nat → Int32) → (Nat → Int32) → (Nat → Int32) → (Nat → Int32) → (Nat → Int32) → (Nat → Int32) → (Nat → Int32) → Prop} {x1 z0 : Int32} {d i : Nat} (hi : i < 7) (hp : p ≤ 1000) (h1 : cn_m a1 (cn_T T U) 49) (h2 : ∀ k, k < 7 → a2 k = cn_p p k) (hd : x1 = nI d) (hz : z0 = nI (cn_V T U p (9 * i + 8)))
    (h0 : ∀ k, k < 81 → (k < 9 * i ∨ (63 ≤ k ∧ k < 63 + (i + 1)) ∨ 70 ≤ k ∨ k % 9 = 7) → a7 k = nI (cn_V T U p k))
    (H : ∀ b7, (∀ k, k < 81 → (k < 9 * (i + 1) ∨ (63 ≤ k ∧ k < 63 + (i + 1)) ∨ 70 ≤ k ∨ k % 9 = 7) → b7 k = nI (cn_V T U p k)) → J (nI (d + cn_V T U p (9 * i + 8))) (nI (i + 1)) a1 a2 a3 a4 a5 a6 b7 a8 a9 a10 a11 a12) :
    wX_debts_97 post J x1 (nI i) z0 (9 * nI i + 8) g a1 a2 a3 a4 a5 a6 a7 a8 a9 a10 a11 a12 := by
  have e9 : ((9 : Int32) * nI i + 8).toNatClampNeg = 9 * i + 8 := pk_cl (9 * i + 8) (cn_ix i 8)
  have ei : a2 (nI i).toNatClampNeg = cn_p p i := by rw [nI_clamp (by omega)]; exact h2 i hi
  have k7 : ∀ k, k < 81 → (k < 9 * i ∨ (63 ≤ k ∧ k < 63 + (i + 1)) ∨ 70 ≤ k ∨ k % 9 = 7 ∨ k = 9 * i + 8) → upd a7 (9 * i + 8) z0 k = nI (cn_V T U p k) :=
    cn_vs (P := fun k => k < 9 * i ∨ (63 ≤ k ∧ k < 63 + (i + 1)) ∨ 70 ≤ k ∨ k % 9 = 7) h0 hz (fun k hk q => by omega)
  unfold wX_debts_97
  rw [ei, e9, hd]
  refine ⟨pk_in (9 * i + 8) 81 (by omega) (cn_ix i 8), nm_e ⟨pk_in i 7 hi, br_c (fun z => nm_r (e' := nI (d + cn_V T U p (9 * i + 8))) ?_ (cn_d122 hi h1 k7 H)) (fun z => ⟨pk_in i 7 hi, nm_r (e' := nI (d + cn_V T U p (9 * i + 8))) ?_ (cn_d122 hi h1 k7 H)⟩)⟩⟩
  · rw [← nI_add, ← cn_pc hp hi z]
    rfl
  · rw [← nI_add, ← cn_pd hp hi z]
theorem cn_d66 {post : Int32 → St2 → Prop} {J : Int32 → Int32 → (Nat → Int32) → (Nat → Int32) → (Nat → Int32) → (Nat → Int32) → (Nat → Int32) → (Nat → Int32) → (Nat → Int32) → (Nat → Int32) → (Nat → Int32) → (Nat → Int32) → (Nat → Int32) → (Nat → Int32) → Prop} {x1 z0 : Int32} {d i : Nat} (hi : i < 7) (hp : p ≤ 1000) (h1 : cn_m a1 (cn_T T U) 49) (h2 : ∀ k, k < 7 → a2 k = cn_p p k) (hd : x1 = nI d) (hz : z0 = nI (cn_V T U p (63 + i)))
    (h0 : ∀ k, k < 81 → (k < 9 * i ∨ (63 ≤ k ∧ k < 63 + i) ∨ 70 ≤ k ∨ k % 9 = 7) → a7 k = nI (cn_V T U p k))
    (H : ∀ b7, (∀ k, k < 81 → (k < 9 * (i + 1) ∨ (63 ≤ k ∧ k < 63 + (i + 1)) ∨ 70 ≤ k ∨ k % 9 = 7) → b7 k = nI (cn_V T U p k)) → J (nI (d + cn_V T U p (9 * i + 8))) (nI (i + 1)) a1 a2 a3 a4 a5 a6 b7 a8 a9 a10 a11 a12) :
    wX_debts_66 post J x1 (nI i) z0 (63 + nI i) g a1 a2 a3 a4 a5 a6 a7 a8 a9 a10 a11 a12 := by
  have e63 : (63 : Int32) + nI i = nI (63 + i) := nI_add 63 i
  have ei : a2 (nI i).toNatClampNeg = cn_p p i := by rw [nI_clamp (by omega)]; exact h2 i hi
  have k7 : ∀ k, k < 81 → (k < 9 * i ∨ (63 ≤ k ∧ k < 63 + (i + 1)) ∨ 70 ≤ k ∨ k % 9 = 7) → upd a7 (63 + i) z0 k = nI (cn_V T U p k) :=
    cn_vs (P := fun k => k < 9 * i ∨ (63 ≤ k ∧ k < 63 + i) ∨ 70 ≤ k ∨ k % 9 = 7) h0 hz (fun k hk q => by omega)
  unfold wX_debts_66
  rw [ei, e63, nI_clamp (show 63 + i < 2 ^ 31 by omega)]
  exact ⟨pk_in (63 + i) 81 (by omega), nm_e ⟨pk_in i 7 hi, br_c (fun z => cn_d97 hi hp h1 h2 hd (cn_pc hp hi z) k7 H) (fun z => ⟨pk_in i 7 hi, cn_d97 hi hp h1 h2 hd (cn_pd hp hi z) k7 H⟩)⟩⟩
def cn_due (p i : Nat) : Nat := if i = 7 then p else 0
theorem cn_due_s {i : Nat} (hi : i < 7) : cn_due p i + cn_V T U p (9 * i + 8) = cn_due p (i + 1) := by
  rw [cn_V_snk hi]
  unfold cn_due
  rw [if_neg (show ¬ i = 7 by omega), Nat.zero_add]
  by_cases e : i = 6
  · rw [if_pos e, if_pos (by omega)]
  · rw [if_neg e, if_neg (by omega)]
/-- the rows of work: E is what follows them -/
theorem cn_d32 {post : Int32 → St2 → Prop} (hp : p ≤ 1000) (h1 : cn_m a1 (cn_T T U) 49) (h2 : ∀ k, k < 7 → a2 k = cn_p p k) (h7 : ∀ k, k < 81 → a7 k = nI 0)
    (H : ∀ n b7, cn_m b7 (cn_V T U p) 81 → wX_debts_32 post g (n + 1) (nI p) (nI 7) a1 a2 a3 a4 a5 a6 b7 a8 a9 a10 a11 a12) : ∃ n, wX_debts_32 post g n 0 0 a1 a2 a3 a4 a5 a6 a7 a8 a9 a10 a11 a12 :=
  pk_loop (fun n i t => wX_debts_32 post g n (nI (cn_due p i)) (nI i) a1 a2 a3 a4 a5 a6 t a8 a9 a10 a11 a12) (fun i t => ∀ k, k < 81 → (k < 9 * i ∨ (63 ≤ k ∧ k < 63 + i) ∨ 70 ≤ k ∨ k % 9 = 7) → t k = nI (cn_V T U p k)) 7 0 a7 (by omega)
    (fun k hk q => by rw [h7 k hk, cn_V_0 (by omega) (by omega) (by omega) (by omega)])
    (fun n t h => H n t (fun k hk => h k hk (by omega)))
    (fun n i t hi h hw => by
      have ei : a2 (nI i).toNatClampNeg = cn_p p i := by rw [nI_clamp (by omega)]; exact h2 i hi
      have G : ∀ b7, (∀ k, k < 81 → (k < 9 * (i + 1) ∨ (63 ≤ k ∧ k < 63 + (i + 1)) ∨ 70 ≤ k ∨ k % 9 = 7) → b7 k = nI (cn_V T U p k)) → wX_debts_32 post g n (nI (cn_due p i + cn_V T U p (9 * i + 8))) (nI (i + 1)) a1 a2 a3 a4 a5 a6 b7 a8 a9 a10 a11 a12 := by
        intro b7 hb
        rw [cn_due_s hi]
        exact hw b7 hb
      refine pk_le 7 i (fun z => absurd z (by omega)) (fun _ => ⟨pk_in i 7 hi, br_c (fun z => ?_) (fun z => ⟨pk_in i 7 hi, ?_⟩)⟩)
      · rw [ei] at z
        exact cn_d66 hi hp h1 h2 rfl (cn_pa hp hi z) h G
      · rw [ei] at z ⊢
        exact cn_d66 hi hp h1 h2 rfl (cn_pb hp hi z) h G)
theorem cn_sendOne {post : St2 → Prop} {u v : Nat} {x : Int32} (hu : u < 9) (hv : v < 9) (H : ∀ b7 b8, post (g, a1, a2, a3, a4, a5, a6, b7, b8, a9, a10, a11, a12)) : wpX_sendOne post (g, a1, a2, a3, a4, a5, a6, a7, a8, a9, a10, a11, a12) (nI u) (nI v) x := by
  have q1 : vp_in (9 * nI u + nI v) 81 := pk_in (9 * u + v) 81 (by omega) (cn_ix u v)
  have q2 : vp_in (9 * nI v + nI u) 81 := pk_in (9 * v + u) 81 (by omega) (cn_ix v u)
  unfold wpX_sendOne
  exact ⟨q1, q1, nm_e ⟨q2, q2, nm_e ⟨q2, br_c (fun _ => ⟨q1, q1, nm_e (H _ _)⟩) (fun _ => ⟨q2, q2, nm_e (H _ _)⟩)⟩⟩⟩
theorem cn_n142 {post : Int32 → St2 → Prop} {x2 : Int32} {ta u i n : Nat} (hi : i < 9) (ht : ta < 9) (ne : ta ≠ 7) (hu : u < 9) (h9 : a9 ta = nI u) (H : ∀ b7 b8, wX_narrowestOwed_142 post x2 n (nI u) (nI (i + 1)) g a1 a2 a3 a4 a5 a6 b7 b8 a9 a10 a11 a12) : wX_narrowestOwed_142 post x2 (n + 1) (nI ta) (nI i) g a1 a2 a3 a4 a5 a6 a7 a8 a9 a10 a11 a12 :=
  pk_le 9 i (fun z => absurd z (by omega)) (fun _ => pk_eq ta 7 (fun z => absurd z ne) (fun _ => ⟨pk_in ta 9 ht, nm_r (e' := nI u) (by rw [nI_clamp (by omega)]; exact h9) (cn_sendOne hu ht (fun b7 b8 => nm_r (nI_1 i) (H b7 b8)))⟩))
theorem cn_n8 {post : Int32 → St2 → Prop} {ta u i n least here : Nat} (hi : i < 9) (ht : ta < 9) (ne : ta ≠ 7) (hu : u < 9) (h9 : a9 ta = nI u) (h7 : a7 (9 * u + ta) = nI here) (hl : least ≤ here) (hh : here < 2 ^ 31) (h8 : ∀ k, k < 81 → a8 k = nI 0)
    (H : wX_narrowestOwed_8 post g a1 a2 a3 a4 a5 a6 a7 a8 a9 a10 a11 a12 n (nI least) (nI u) (nI (i + 1))) : wX_narrowestOwed_8 post g a1 a2 a3 a4 a5 a6 a7 a8 a9 a10 a11 a12 (n + 1) (nI least) (nI ta) (nI i) := by
  have t75 : wX_narrowestOwed_75 post (wX_narrowestOwed_8 post g a1 a2 a3 a4 a5 a6 a7 a8 a9 a10 a11 a12 n) (nI least) (nI ta) (nI i) (nI u) (nI here) g a1 a2 a3 a4 a5 a6 a7 a8 a9 a10 a11 a12 := by
    unfold wX_narrowestOwed_75 wX_narrowestOwed_76 wX_narrowestOwed_114
    exact br_t rfl (br_t (nI_le hl hh) (nm_r (nI_1 i) H))
  refine pk_le 9 i (fun z => absurd z (by omega)) (fun _ => pk_eq ta 7 (fun z => absurd z ne) (fun _ => ⟨pk_in ta 9 ht, nm_r (e' := nI u) (by rw [nI_clamp (by omega)]; exact h9) ⟨pk_in (9 * u + ta) 81 (by omega) (cn_ix u ta), nm_r (e' := nI here) (by rw [pk_cl (9 * u + ta) (cn_ix u ta)]; exact h7) ?_⟩⟩))
  refine br_c (fun _ => t75) (fun _ => br_c (fun _ => t75) (fun _ => ⟨pk_in (9 * ta + u) 81 (by omega) (cn_ix ta u), br_t ?_ t75⟩))
  rw [pk_cl (9 * ta + u) (cn_ix ta u), h8 _ (by omega)]
  exact nI_le (Nat.le_refl 0) (by decide)
theorem cn_narO {post : Int32 → St2 → Prop} (hT : T ≤ 1000) (hU : U ≤ 1000) (pT : p ≤ T) (pU : p ≤ U) (h7 : cn_m a7 (cn_V T U p) 81) (h8 : ∀ k, k < 81 → a8 k = nI 0) (k8 : a9 8 = nI 6) (k6 : a9 6 = nI 4) (k4 : a9 4 = nI 1) (k1 : a9 1 = nI 7)
    (H : ∀ b7 b8, post (nI p) (g, a1, a2, a3, a4, a5, a6, b7, b8, a9, a10, a11, a12)) : wpX_narrowestOwed post (g, a1, a2, a3, a4, a5, a6, a7, a8, a9, a10, a11, a12) (nI p) := by
  have t : wX_narrowestOwed_142 post (nI p) 5 (nI 8) (nI 0) g a1 a2 a3 a4 a5 a6 a7 a8 a9 a10 a11 a12 := by
    refine cn_n142 (u := 6) (by decide) (by decide) (by decide) (by decide) k8 (fun _ _ => ?_)
    refine cn_n142 (u := 4) (by decide) (by decide) (by decide) (by decide) k6 (fun _ _ => ?_)
    refine cn_n142 (u := 1) (by decide) (by decide) (by decide) (by decide) k4 (fun _ _ => ?_)
    refine cn_n142 (u := 7) (by decide) (by decide) (by decide) (by decide) k1 (fun b7 b8 => ?_)
    exact pk_le 9 4 (fun z => absurd z (by omega)) (fun _ => pk_eq 7 7 (fun _ => H b7 b8) (fun z => absurd rfl z))
  have r : wX_narrowestOwed_8 post g a1 a2 a3 a4 a5 a6 a7 a8 a9 a10 a11 a12 5 (nI p) (nI 8) (nI 0) := by
    refine cn_n8 (u := 6) (here := p) (by decide) (by decide) (by decide) (by decide) k8 (h7 62 (by decide)) (by omega) (by omega) h8 ?_
    refine cn_n8 (u := 4) (here := U) (by decide) (by decide) (by decide) (by decide) k6 (h7 42 (by decide)) (by omega) (by omega) h8 ?_
    refine cn_n8 (u := 1) (here := T) (by decide) (by decide) (by decide) (by decide) k4 (h7 13 (by decide)) (by omega) (by omega) h8 ?_
    refine cn_n8 (u := 7) (here := p) (by decide) (by decide) (by decide) (by decide) k1 (h7 64 (by decide)) (by omega) (by omega) h8 ?_
    exact pk_le 9 4 (fun z => absurd z (by omega)) (fun _ => pk_eq 7 7 (fun _ => ⟨5, t⟩) (fun z => absurd rfl z))
  exact ⟨5, r⟩
theorem cn_d197 {post : Int32 → St2 → Prop} {x1 x2 x3 : Int32} {n i : Nat} (hi : i < 100000) (H : post x2 (g, a1, a2, a3, a4, a5, a6, a7, a8, a9, a10, a11, a12)) : wX_debts_197 post x1 (n + 1) x2 x3 0 (nI i) g a1 a2 a3 a4 a5 a6 a7 a8 a9 a10 a11 a12 :=
  pk_le 100000 i (fun z => absurd z (by omega)) (fun _ => br_t rfl H)
/-- what follows the rows -/
theorem cn_dend {post : Int32 → St2 → Prop} {n : Nat} (hT : T ≤ 1000) (hU : U ≤ 1000) (pT : p ≤ T) (pU : p ≤ U) (h7 : cn_m a7 (cn_V T U p) 81) (h8 : ∀ k, k < 81 → a8 k = nI 0)
    (H : ∀ b7 b8 b9 b11, post (2 * nI p) (g, a1, a2, a3, a4, a5, a6, b7, b8, b9, a10, b11, a12)) : wX_debts_32 post g (n + 1) (nI p) (nI 7) a1 a2 a3 a4 a5 a6 a7 a8 a9 a10 a11 a12 := by
  refine pk_le 7 7 (fun _ => ?_) (fun z => absurd z (by omega))
  refine pk_le p 0 (fun z => ⟨1, cn_d197 (i := 0) (by decide) ?_⟩) (fun z => ?_)
  · have e : p = 0 := by omega
    have h := H a7 a8 a9 a11
    rw [e] at h
    exact h
  · refine cn_cheap (W := cn_V T U p) (fun k _ => Nat.lt_of_le_of_lt (cn_Vle hT hU (by omega) k) (by decide)) (fun k _ => cn_VE (by omega) (by omega) (by omega) k) h7 h8 (fun b9 b11 k8 k6 k4 k1 m8 => ?_)
    refine br_f (by decide) ⟨2, ?_⟩
    refine pk_le 100000 0 (fun z => absurd z (by omega)) (fun _ => br_f (by decide) ?_)
    have ep : nI p - 0 = nI p := by
      show nI p - nI 0 = nI p
      rw [pk_sub (Nat.zero_le p), Nat.sub_zero]
    rw [ep]
    refine cn_narO hT hU pT pU h7 h8 k8 k6 k4 k1 (fun b7 b8 => ?_)
    refine nm_r (e' := 2 * nI p) ?_ (nm_r (e' := nI p) ?_ ?_)
    · rw [m8, cn_zadd]
      rfl
    · rw [cn_zadd]
    · exact pk_le p p (fun _ => nm_r (nI_1 0) (cn_d197 (i := 1) (by decide) (H b7 b8 b9 b11))) (fun z => absurd z (by omega))
end
theorem cn_debts {post : Int32 → St2 → Prop} {u : St2} {T U p A B C D : Nat} (hT : T ≤ 1000) (hU : U ≤ 1000) (pT : p ≤ T) (pU : p ≤ U) (hQ : cn_Q T U p A B C D u) (H : ∀ u', cn_Q T U p A B C D u' → post (2 * nI p) u') : wpX_debts post u := by
  obtain ⟨g, a1, a2, a3, a4, a5, a6, a7, a8, a9, a10, a11, a12⟩ := u
  have h1 : cn_m a1 (cn_T T U) 49 := hQ.1
  have h2 : ∀ k, k < 7 → a2 k = cn_p p k := hQ.2.1
  have h3 : cn_m a3 (cn_W A B C D) 81 := hQ.2.2
  exact pk_loop (σ := (Nat → Int32) × (Nat → Int32)) (fun n i t => wX_debts_4 post 0 g n (nI i) a1 a2 a3 a4 a5 a6 t.1 t.2 a9 a10 a11 a12) (fun i t => (∀ k, k < i → t.1 k = (fun _ => nI 0) k) ∧ (∀ k, k < i → t.2 k = (fun _ => nI 0) k)) 81 0 (a7, a8) (by omega) ⟨fun k h => absurd h (by omega), fun k h => absurd h (by omega)⟩
    (fun n t h => pk_le 81 81 (fun _ => cn_d32 (by omega) h1 h2 h.1 (fun n b7 hb => cn_dend hT hU pT pU hb h.2 (fun c7 c8 c9 c11 => H _ ⟨h1, h2, h3⟩))) (fun z => absurd z (by omega)))
    (fun n i t hi h hw => pk_le 81 i (fun z => absurd z (by omega)) (fun _ => ⟨pk_in i 81 hi, nm_r (e' := upd t.1 i 0) (by rw [nI_clamp (by omega)]) ⟨pk_in i 81 hi, nm_r (e' := upd t.2 i 0) (by rw [nI_clamp (by omega)]) (nm_r (nI_1 i) (hw (upd t.1 i 0, upd t.2 i 0) ⟨cn_fill rfl h.1 rfl, cn_fill rfl h.2 rfl⟩))⟩⟩))
end
section
section
variable {post : Int32 → St0 → Prop} {mc ms kc ks : Nat} {g : Int32} {a1 a2 a3 a4 a5 a6 a7 a8 a9 a10 a11 a12 : Nat → Int32} {s t U p : Nat}
theorem cn_l260 (hp : post 1 ()) (hs : s < 512) (hU : U < 512) (ps : p ≤ s) (pU : p ≤ U) (hQ : cn_Q s U p (s - p) p (U - p) p (g, a1, a2, a3, a4, a5, a6, a7, a8, a9, a10, a11, a12)) :
    wL_lawOf_260 post mc ms (nI p) (nI (min (U - p) (s - p))) kc ks g a1 a2 a3 a4 a5 a6 a7 a8 a9 a10 a11 a12 := by
  unfold wL_lawOf_260
  refine cn_most16 (by omega) (by omega) (by omega) (by omega) hQ (fun u q => ?_)
  obtain ⟨g, a1, a2, a3, a4, a5, a6, a7, a8, a9, a10, a11, a12⟩ := u
  refine br_t rfl (cn_debts (by omega) (by omega) ps pU q (fun u q => ?_))
  obtain ⟨g, a1, a2, a3, a4, a5, a6, a7, a8, a9, a10, a11, a12⟩ := u
  refine br_t rfl (cn_least (by omega) (by omega) (by omega) ps q (fun u q => ?_))
  obtain ⟨g, a1, a2, a3, a4, a5, a6, a7, a8, a9, a10, a11, a12⟩ := u
  refine br_t rfl (cn_great (by omega) (by omega) (by omega) pU q (fun u q => ?_))
  obtain ⟨g, a1, a2, a3, a4, a5, a6, a7, a8, a9, a10, a11, a12⟩ := u
  exact br_t rfl hp
theorem cn_l232 (hp : post 1 ()) (hs : s < 512) (hU : U < 512) (ps : p ≤ s) (pU : p ≤ U) (hQ : cn_Q s U p (s - p) p (U - p) p (g, a1, a2, a3, a4, a5, a6, a7, a8, a9, a10, a11, a12)) :
    wL_lawOf_232 post mc ms (nI s) (nI p) (nI U) kc ks g a1 a2 a3 a4 a5 a6 a7 a8 a9 a10 a11 a12 := by
  have k := cn_l260 (mc := mc) (ms := ms) (kc := kc) (ks := ks) hp hs hU ps pU hQ
  unfold wL_lawOf_232
  rw [pk_sub ps, pk_sub pU]
  refine pk_le (s - p) (U - p) (fun z => ?_) (fun z => ?_)
  · rw [Nat.min_eq_right z] at k
    exact k
  · rw [Nat.min_eq_left (Nat.le_of_lt z)] at k
    exact k
/-- withdraw isn't taken: what follows -/
theorem cn_l165n {x3 : Int32} (hp : post 1 ()) (hs : s < 512) (ht : t < 512) (ps : p ≤ s) (pt : p ≤ t) (hx : x3 < 0 ∨ ∃ b, b < 2 ^ 31 ∧ t < b ∧ x3 = nI b) (hQ : cn_Q s t p (s - p) p (t - p) p (g, a1, a2, a3, a4, a5, a6, a7, a8, a9, a10, a11, a12)) :
    wL_lawOf_165 post mc ms x3 (nI s) (nI t) (nI p) 0 kc ks g a1 a2 a3 a4 a5 a6 a7 a8 a9 a10 a11 a12 := by
  have k := cn_l232 (mc := mc) (ms := ms) (kc := kc) (ks := ks) hp hs ht ps pt hQ
  have j : wL_lawOf_204 post mc ms x3 (nI s) (nI t) (nI p) 0 (-2) (-2) kc ks g a1 a2 a3 a4 a5 a6 a7 a8 a9 a10 a11 a12 := br_t rfl (br_t rfl k)
  unfold wL_lawOf_165
  rcases hx with hx | ⟨b, hb, hx, e⟩
  · exact cn_withN hx (br_t rfl j)
  · rw [e] at j ⊢
    exact cn_withM (by omega) hb hx hQ (br_t rfl j)
theorem cn_l165y {b : Nat} (hp : post 1 ()) (hs : s < 512) (ht : t < 512) (ps : p ≤ s) (pt : p ≤ t) (hb : b ≤ t) (hQ : cn_Q s t p (s - p) p (t - p) p (g, a1, a2, a3, a4, a5, a6, a7, a8, a9, a10, a11, a12)) :
    wL_lawOf_165 post mc ms (nI b) (nI s) (nI t) (nI p) 1 kc ks g a1 a2 a3 a4 a5 a6 a7 a8 a9 a10 a11 a12 := by
  have e : nI t - nI b = nI (t - b) := pk_sub hb
  unfold wL_lawOf_165
  refine cn_with (by omega) (by omega) ps pt hb hQ (fun z u q => ?_) (fun z u q => ?_)
  · obtain ⟨g, a1, a2, a3, a4, a5, a6, a7, a8, a9, a10, a11, a12⟩ := u
    have k := cn_l232 (mc := mc) (ms := ms) (kc := kc) (ks := ks) hp hs (by omega) ps z q
    refine br_f (by decide) (br_t (by rw [e]; exact nI_le z (by omega)) ?_)
    unfold wL_lawOf_204
    rw [e]
    exact br_t rfl (br_f (by decide) (br_f (nI_nlt z (by omega)) k))
  · obtain ⟨g, a1, a2, a3, a4, a5, a6, a7, a8, a9, a10, a11, a12⟩ := u
    have k := cn_l232 (mc := mc) (ms := ms) (kc := kc) (ks := ks) hp hs ht ps pt q
    refine br_f (by decide) (br_f (by rw [e]; exact nI_ge z (by omega)) ?_)
    unfold wL_lawOf_204
    rw [e]
    exact br_t rfl (br_f (by decide) (br_t (nI_lt z (by omega)) k))
theorem cn_l148 {x3 : Int32} (hp : post 1 ()) (hs : s < 512) (ht : t < 512) (ps : p ≤ s) (pt : p ≤ t) (hQ : cn_Q s t p (s - p) p (t - p) p (g, a1, a2, a3, a4, a5, a6, a7, a8, a9, a10, a11, a12)) :
    wL_lawOf_148 post mc ms x3 (nI s) (nI t) (nI p) kc ks g a1 a2 a3 a4 a5 a6 a7 a8 a9 a10 a11 a12 := by
  unfold wL_lawOf_148
  refine br_c (fun z => cn_l165n hp hs ht ps pt (Or.inl z) hQ) (fun z => ?_)
  obtain ⟨b, hb, e⟩ := nI_of z
  rw [e]
  exact pk_lt t b (fun y => cn_l165n hp hs ht ps pt (Or.inr ⟨b, hb, y, rfl⟩) hQ) (fun y => cn_l165y hp hs ht ps pt y hQ)
theorem cn_l101a {x2 x3 : Int32} (hp : post 1 ()) (hs : s < 512) (ht : t < 512) (hx : x2 < 0) (hQ : cn_Q s t 0 s 0 t 0 (g, a1, a2, a3, a4, a5, a6, a7, a8, a9, a10, a11, a12)) :
    wL_lawOf_101 post mc ms x2 x3 (nI s) (nI t) 0 kc ks g a1 a2 a3 a4 a5 a6 a7 a8 a9 a10 a11 a12 := by
  have hx' : ¬ 0 ≤ x2 := by
    rw [Int32.le_iff_toInt_le]
    rw [Int32.lt_iff_toInt_lt] at hx
    omega
  have k := cn_l148 (mc := mc) (ms := ms) (kc := kc) (ks := ks) (x3 := x3) (p := 0) hp hs ht (Nat.zero_le s) (Nat.zero_le t) hQ
  unfold wL_lawOf_101
  exact cn_payN hx' (br_f hx' (br_t rfl (br_t rfl k)))
theorem cn_l101b {x3 : Int32} {P : Nat} (hp : post 1 ()) (hs : s < 512) (ht : t < 512) (hP : P < 2 ^ 31) (hx : min t s < P) (hQ : cn_Q s t 0 s 0 t 0 (g, a1, a2, a3, a4, a5, a6, a7, a8, a9, a10, a11, a12)) :
    wL_lawOf_101 post mc ms (nI P) x3 (nI s) (nI t) 0 kc ks g a1 a2 a3 a4 a5 a6 a7 a8 a9 a10 a11 a12 := by
  unfold wL_lawOf_101
  refine cn_pay (by omega) (by omega) hP hQ (fun z => absurd z (by omega)) (fun _ u q => ?_)
  obtain ⟨g, a1, a2, a3, a4, a5, a6, a7, a8, a9, a10, a11, a12⟩ := u
  have k := cn_l148 (mc := mc) (ms := ms) (kc := kc) (ks := ks) (x3 := x3) (p := 0) hp hs ht (Nat.zero_le s) (Nat.zero_le t) q
  exact br_t (nI_pos' hP) (br_t rfl (br_t rfl (br_t rfl k)))
theorem cn_l101c {x3 : Int32} {P : Nat} (hp : post 1 ()) (hs : s < 512) (ht : t < 512) (hx : P ≤ min t s) (hQ : cn_Q s t 0 s 0 t 0 (g, a1, a2, a3, a4, a5, a6, a7, a8, a9, a10, a11, a12)) :
    wL_lawOf_101 post mc ms (nI P) x3 (nI s) (nI t) 1 kc ks g a1 a2 a3 a4 a5 a6 a7 a8 a9 a10 a11 a12 := by
  unfold wL_lawOf_101
  refine cn_pay (by omega) (by omega) (by omega) hQ (fun _ u q => ?_) (fun z => absurd hx z)
  obtain ⟨g, a1, a2, a3, a4, a5, a6, a7, a8, a9, a10, a11, a12⟩ := u
  have k := cn_l148 (mc := mc) (ms := ms) (kc := kc) (ks := ks) (x3 := x3) hp hs ht (show P ≤ s by omega) (show P ≤ t by omega) q
  exact br_t (nI_pos' (by omega)) (br_f (by decide) (br_t rfl (br_f (by decide) k)))
theorem cn_l37 {x2 x3 : Int32} (hp : post 1 ()) (hs : s < 512) (ht : t < 512) (hQ : cn_Q 0 0 0 0 0 0 0 (g, a1, a2, a3, a4, a5, a6, a7, a8, a9, a10, a11, a12)) :
    wL_lawOf_37 post mc ms x2 x3 (nI s) (nI t) (nI (min t s)) kc ks g a1 a2 a3 a4 a5 a6 a7 a8 a9 a10 a11 a12 := by
  unfold wL_lawOf_37
  refine cn_trust1 (by omega) hQ (fun _ u q => ?_)
  obtain ⟨g, a1, a2, a3, a4, a5, a6, a7, a8, a9, a10, a11, a12⟩ := u
  refine cn_trust2 (by omega) q (fun _ u q => ?_)
  obtain ⟨g, a1, a2, a3, a4, a5, a6, a7, a8, a9, a10, a11, a12⟩ := u
  refine cn_most16 (by omega) (by omega) (by omega) (by omega) q (fun u q => ?_)
  obtain ⟨g, a1, a2, a3, a4, a5, a6, a7, a8, a9, a10, a11, a12⟩ := u
  refine br_t rfl (cn_most61 (by omega) (by omega) q (fun u q => ?_))
  obtain ⟨g, a1, a2, a3, a4, a5, a6, a7, a8, a9, a10, a11, a12⟩ := u
  refine br_t rfl (br_c (fun z => cn_l101a hp hs ht z q) (fun z => ?_))
  obtain ⟨P, hP, e⟩ := nI_of z
  rw [e]
  exact pk_lt (min t s) P (fun y => cn_l101b hp hs ht hP y q) (fun y => cn_l101c hp hs ht y q)
theorem cn_lawOf {x0 x1 x2 x3 : Int32} (hp : post 1 ()) : wpL_lawOf post 212 3392 () x0 x1 x2 x3 := by
  obtain ⟨s, hs, es⟩ := pk_andE x0 (m := 511) 9 (by decide)
  obtain ⟨t, ht, et⟩ := pk_andE x1 (m := 511) 9 (by decide)
  have h0 : cn_Q 0 0 0 0 0 0 0 (0, (fun _ => 0), (fun _ => 0), (fun _ => 0), (fun _ => 0), (fun _ => 0), (fun _ => 0), (fun _ => 0), (fun _ => 0), (fun _ => 0), (fun _ => 0), (fun _ => 0), (fun _ => 0)) := by
    refine ⟨fun k _ => ?_, fun k _ => ?_, fun k _ => ?_⟩
    · show nI 0 = nI (if k = 29 then 0 else if k = 46 then 0 else 0)
      rw [ite_self, ite_self]
    · show (0 : Int32) = if k = 1 then 0 else if k = 6 then 0 else 0
      rw [ite_self, ite_self]
    · show nI 0 = nI (if k = 13 then 0 else if k = 37 then 0 else if k = 42 then 0 else if k = 58 then 0 else 0)
      rw [ite_self, ite_self, ite_self, ite_self]
  refine ⟨by decide, by decide, 12, 351, by decide, by decide, ?_⟩
  unfold wpX_init
  refine ⟨by decide, by decide, by decide, by decide, by decide, by decide, by decide, by decide, by decide, by decide, by decide, by decide, by decide, by decide, by decide, by decide, by decide, by decide, by decide, by decide, by decide, by decide, by decide, by decide, ?_⟩
  refine nm_r es (nm_r et ?_)
  have k := cn_l37 (mc := 212) (ms := 3392) (kc := 1 + 12) (ks := 13 + 351) (x2 := x2) (x3 := x3) hp hs ht h0
  refine pk_le t s (fun z => ?_) (fun z => ?_)
  · rw [Nat.min_eq_left z] at k
    exact k
  · rw [Nat.min_eq_right (Nat.le_of_lt z)] at k
    exact k
end
theorem cn_cell {post : Int32 → Prop} {L : Nat} {xs : Nat → Int32} {x : Int32} (i : Nat) (hi : i < 4) (hL : L ≤ 4) (H : ∀ v, post v) (e : x = nI i := by rfl) : wpL_cellAt post L xs () x :=
  pk_le L i (fun _ => H _) (fun z => ⟨pk_in i L z e, H _⟩) rfl e
theorem i_vc (xs : Nat → Int32) (L : Nat) (hL : L ≤ 4) : wpL_law (fun r => r = 1) L xs := by
  unfold wpL_law
  exact cn_cell 0 (by decide) hL (fun _ => cn_cell 1 (by decide) hL (fun _ => cn_cell 2 (by decide) hL (fun _ => cn_cell 3 (by decide) hL (fun _ => ⟨212, 3392, by decide, by decide, cn_lawOf rfl⟩))))
end
