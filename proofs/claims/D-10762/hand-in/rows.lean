section
/-! numbers and places -/
theorem mj_g (j b : Nat) : (41 : Int32) * nI j + nI b = nI (41 * j + b) := by
  rw [show (41 : Int32) = nI 41 from rfl, pk_mul, nI_add]
theorem mj_8 (g c : Nat) : (8 : Int32) * nI g + nI c = nI (8 * g + c) := by
  rw [show (8 : Int32) = nI 8 from rfl, pk_mul, nI_add]
theorem mj_48 (j b : Nat) : (48 : Int32) * nI j + nI b = nI (48 * j + b) := by
  rw [show (48 : Int32) = nI 48 from rfl, pk_mul, nI_add]
theorem mj_14 (j b : Nat) : (14 : Int32) * nI j + nI b = nI (14 * j + b) := by
  rw [show (14 : Int32) = nI 14 from rfl, pk_mul, nI_add]
theorem mj_p (g : Nat) (k : Nat) {x : Int32} (hx : x = nI k) : nI g + x = nI (g + k) := by
  rw [hx, nI_add]
theorem mj_q (g : Nat) (k : Nat) {x : Int32} (hx : x = nI k) : x + nI g = nI (k + g) := by
  rw [hx, nI_add]
theorem mj_cl {n : Nat} {x : Int32} (hx : x = nI n) (h : n < 2 ^ 31) : x.toNatClampNeg = n := by
  rw [hx, nI_clamp h]
theorem mj_in {n N : Nat} {x : Int32} (hx : x = nI n) (h : n < N) (hN : N < 2 ^ 31) : vp_in x N := by
  rw [hx]; exact vp_in_nI h hN
/-- an index that is known: the access, and the place -/
theorem mj_at {x : Int32} {n N : Nat} {P : Nat → Prop} (hx : x = nI n) (h : n < N) (hN : N < 2 ^ 31) (hp : P n) : vp_in x N ∧ P x.toNatClampNeg := by
  rw [hx]
  refine ⟨vp_in_nI h hN, ?_⟩
  rw [nI_clamp (by omega)]
  exact hp
theorem mj_fill {s src : Nat → Int32} {p i : Nat} {x : Int32} (h : ∀ c, c < i → s (p + c) = src c) (hx : x = src i) : ∀ c, c < i + 1 → upd s (p + i) x (p + c) = src c := by
  intro c hc
  by_cases e : c = i
  · rw [e, pk_us, hx]
  · rw [pk_un (by omega)]
    exact h c (by omega)
theorem mj_off {s a : Nat → Int32} {lo hi k : Nat} {x : Int32} (h : ∀ i, i < lo ∨ hi ≤ i → s i = a i) (h1 : lo ≤ k) (h2 : k < hi) : ∀ i, i < lo ∨ hi ≤ i → upd s k x i = a i := by
  intro i hi'
  rw [pk_un (by omega)]
  exact h i hi'
/-! the journal's picture -/
def mj_cpy (j b : Nat) (sv cu : Nat → Nat → Int32) (d : Prop) (a5 a6 a7 : Nat → Int32) : Prop :=
  (a6 (41 * j + b) = 0 ∧ a7 (41 * j + b) = 0 ∧ ∀ c, c < 8 → cu b c = sv b c) ∨
  (a6 (41 * j + b) = 1 ∧ (∀ c, c < 8 → a5 (8 * (41 * j + b) + c) = cu b c) ∧ ((a7 (41 * j + b) = 0 ∧ ∀ c, c < 8 → cu b c = sv b c) ∨ (a7 (41 * j + b) = 1 ∧ d)))
def mj_anc (j num A I N0 : Nat) (a4 : Nat → Int32) : Prop :=
  a4 (10 * j + 5 * ((num + 1) % 2)) = nI num ∧ a4 (10 * j + 5 * ((num + 1) % 2) + 1) = nI A ∧ a4 (10 * j + 5 * ((num + 1) % 2) + 2) = nI I ∧ a4 (10 * j + 5 * ((num + 1) % 2) + 3) = nI N0 ∧ a4 (10 * j + 5 * ((num + 1) % 2) + 4) = nI num ∧ ∃ v, v < num ∧ a4 (10 * j + 5 * (num % 2)) = nI v
def mj_img (j b I IU : Nat) (sv : Nat → Nat → Int32) (a1 a2 a8 : Nat → Int32) : Prop :=
  (a8 (41 * j + b) = -1 ∧ ∀ c, c < 8 → a1 (8 * (41 * j + b) + c) = sv b c) ∨
  (∃ q, q < IU ∧ a8 (41 * j + b) = nI ((I + q) % 48) ∧ ∀ c, c < 8 → a2 (8 * (48 * j + (I + q) % 48) + c) = sv b c)
def mj_lst (a3 : Nat → Int32) (j r N n : Nat) (bs : Nat → Nat) : Prop :=
  a3 (8 * (14 * j + r)) = 1 ∧ a3 (8 * (14 * j + r) + 1) = nI N ∧ a3 (8 * (14 * j + r) + 7) = nI N ∧ a3 (8 * (14 * j + r) + 2) = nI n ∧ ∀ i, i < n → a3 (8 * (14 * j + r) + (3 + i)) = nI (bs i)
def mj_cnt (a3 : Nat → Int32) (j r N : Nat) : Prop :=
  a3 (8 * (14 * j + r)) = 2 ∧ a3 (8 * (14 * j + r) + 1) = nI N ∧ a3 (8 * (14 * j + r) + 7) = nI N
def mj_sec (a3 : Nat → Int32) (j A N l : Nat) (bs : Nat → Nat) : Prop :=
  (∀ q, q < (l + 3) / 4 → mj_lst a3 j ((A + q) % 14) N (min 4 (l - 4 * q)) (fun i => bs (4 * q + i))) ∧ mj_cnt a3 j ((A + (l + 3) / 4) % 14) N
def mj_ov (a2 : Nat → Int32) (j I : Nat) (bs : Nat → Nat) : Nat → (Nat → Nat → Int32) → Nat → Nat → Int32
  | 0, D => D
  | q + 1, D => fun b c => if b = bs q then a2 (8 * (48 * j + (I + q) % 48) + c) else mj_ov a2 j I bs q D b c
def mj_path (a2 a3 : Nat → Int32) (j : Nat) : Nat → Nat → Nat → Nat → (Nat → Nat → Int32) → Nat → Nat → Nat → (Nat → Nat → Int32) → Prop
  | 0, A, I, N, D, A', I', N', D' => A = A' ∧ I = I' ∧ N = N' ∧ ∀ b c, b < 41 → c < 8 → D b c = D' b c
  | n + 1, A, I, N, D, A', I', N', D' => ∃ (l : Nat) (bs : Nat → Nat), 0 < l ∧ l ≤ 41 ∧ (∀ q, q < l → bs q < 41) ∧ mj_sec a3 j A N l bs ∧ mj_path a2 a3 j n (A + (l + 3) / 4 + 1) (I + l) (N + 1) (mj_ov a2 j I bs l D) A' I' N' D'
def mj_dsk (a1 : Nat → Int32) (j : Nat) : Nat → Nat → Int32 := fun b c => a1 (8 * (41 * j + b) + c)
def mj_vol (j A RU I IU N num : Nat) (a9 a10 a11 a12 a13 a14 : Nat → Int32) : Prop :=
  a9 j = nI A ∧ a10 j = nI RU ∧ a11 j = nI I ∧ a12 j = nI IU ∧ a13 j = nI N ∧ a14 j = nI num
def mj_bnd (T A RU I IU N num : Nat) : Prop := A < 14 ∧ I < 48 ∧ RU ≤ 14 ∧ IU ≤ 48 ∧ N ≤ T ∧ 1 ≤ num ∧ num ≤ T
/-- what lies on the disk: coming up gives sv; the number of the next saving is N, and no row counts for it -/
def mj_RK (j : Nat) (sv : Nat → Nat → Int32) (T : Nat) (a1 a2 a3 a4 : Nat → Int32) : Prop :=
  ∃ n A RU I IU N0 N num : Nat, mj_bnd T A RU I IU N num ∧ mj_anc j num A I N0 a4 ∧ mj_path a2 a3 j n A I N0 (mj_dsk a1 j) (A + RU) (I + IU) N sv ∧ (∀ r, r < 14 → (∃ v, v ≤ N ∧ a3 (8 * (14 * j + r) + 1) = nI v) ∧ ¬ mj_cnt a3 j r N)
def mj_JX (j : Nat) (sv : Nat → Nat → Int32) (T n A RU I IU N0 N num : Nat) (a1 a2 a3 a4 a8 a9 a10 a11 a12 a13 a14 : Nat → Int32) : Prop :=
  mj_bnd T A RU I IU N num ∧ mj_vol j A RU I IU N num a9 a10 a11 a12 a13 a14 ∧ mj_anc j num A I N0 a4 ∧ mj_path a2 a3 j n A I N0 (mj_dsk a1 j) (A + RU) (I + IU) N sv ∧ (∀ r, r < 14 → ∃ v, v < N ∧ a3 (8 * (14 * j + r) + 1) = nI v) ∧ (∀ b, b < 41 → mj_img j b I IU sv a1 a2 a8)
def mj_JR (j : Nat) (sv : Nat → Nat → Int32) (T : Nat) (a1 a2 a3 a4 a8 a9 a10 a11 a12 a13 a14 : Nat → Int32) : Prop :=
  ∃ n A RU I IU N0 N num : Nat, mj_JX j sv T n A RU I IU N0 N num a1 a2 a3 a4 a8 a9 a10 a11 a12 a13 a14
def mj_AB (F Cu : Nat → Nat → Nat → Int32) (d : Nat → Prop) (T : Nat) (a1 a2 a3 a4 a5 a6 a7 a8 a9 a10 a11 a12 a13 a14 : Nat → Int32) : Prop :=
  (∀ j, j < 4 → mj_JR j (F j) T a1 a2 a3 a4 a8 a9 a10 a11 a12 a13 a14) ∧ (∀ j b, j < 4 → b < 41 → mj_cpy j b (F j) (Cu j) (d j) a5 a6 a7)
def mj_u3 (Cu : Nat → Nat → Nat → Int32) (j b c : Nat) (v : Int32) : Nat → Nat → Nat → Int32 := fun j' b' c' => if j' = j ∧ b' = b ∧ c' = c then v else Cu j' b' c'
theorem mj_u3s {Cu : Nat → Nat → Nat → Int32} {j b c : Nat} {v : Int32} : mj_u3 Cu j b c v j b c = v := if_pos ⟨rfl, rfl, rfl⟩
theorem mj_u3n {Cu : Nat → Nat → Nat → Int32} {j b c j' b' c' : Nat} {v : Int32} (h : ¬ (j' = j ∧ b' = b ∧ c' = c)) : mj_u3 Cu j b c v j' b' c' = Cu j' b' c' := if_neg h
theorem mj_u3e {Cu : Nat → Nat → Nat → Int32} {j b c : Nat} {v : Int32} (h : Cu j b c = v) : mj_u3 Cu j b c v = Cu := by
  funext j' b' c'
  by_cases e : j' = j ∧ b' = b ∧ c' = c
  · obtain ⟨rfl, rfl, rfl⟩ := e
    rw [mj_u3s, h]
  · rw [mj_u3n e]
/-! load, cell, setCell -/
theorem mj_load27 {post : St2 → Prop} {w hf gd uk un wt wr sn sk : Int32} {a1 a2 a3 a4 a5 a6 a7 a8 a9 a10 a11 a12 a13 a14 a15 a16 a17 a18 a19 a20 a21 a22 a23 a24 a25 a26 : Nat → Int32} {j g : Nat} {src : Nat → Int32} (hj : j < 4) (hg : g < 164)
    (hs : (a8 g = -1 ∧ ∀ c, c < 8 → a1 (8 * g + c) = src c) ∨ (∃ p, p < 48 ∧ a8 g = nI p ∧ ∀ c, c < 8 → a2 (8 * (48 * j + p) + c) = src c))
    (H : ∀ b5 : Nat → Int32, (∀ c, c < 8 → b5 (8 * g + c) = src c) → (∀ i, i < 8 * g ∨ 8 * g + 8 ≤ i → b5 i = a5 i) → post (w, hf, gd, uk, un, wt, wr, sn, sk, a1, a2, a3, a4, b5, a6, a7, a8, a9, a10, a11, a12, a13, a14, a15, a16, a17, a18, a19, a20, a21, a22, a23, a24, a25, a26)) :
    ∃ n, wX_load_27 post (nI j) (nI g) w hf gd uk un wt wr sn sk n 0 a1 a2 a3 a4 a5 a6 a7 a8 a9 a10 a11 a12 a13 a14 a15 a16 a17 a18 a19 a20 a21 a22 a23 a24 a25 a26 := by
  refine pk_loop (fun n i s => wX_load_27 post (nI j) (nI g) w hf gd uk un wt wr sn sk n (nI i) a1 a2 a3 a4 s a6 a7 a8 a9 a10 a11 a12 a13 a14 a15 a16 a17 a18 a19 a20 a21 a22 a23 a24 a25 a26) (fun i s => (∀ c, c < i → s (8 * g + c) = src c) ∧ (∀ x, x < 8 * g ∨ 8 * g + 8 ≤ x → s x = a5 x)) 8 0 a5 (by omega) ⟨fun c hc => absurd hc (by omega), fun _ _ => rfl⟩ ?_ ?_
  · intro n s hI
    exact pk_le 8 8 (fun _ => H s hI.1 hI.2) (fun z => absurd z (by omega))
  · intro n i s hi hI hw
    refine pk_le 8 i (fun z => absurd z (by omega)) (fun _ => ⟨vp_in_nI hg (by decide), ?_⟩)
    rw [nI_clamp (show g < 2 ^ 31 by omega)]
    rcases hs with ⟨e, hs⟩ | ⟨p, hp, e, hs⟩
    · refine br_t (by rw [e]; decide) ⟨mj_in (mj_8 g i) (by omega) (by decide), mj_in (mj_8 g i) (by omega) (by decide), nm_r (e' := upd s (8 * g + i) (src i)) ?_ (nm_r (nI_1 i) (hw _ ⟨mj_fill hI.1 rfl, mj_off hI.2 (by omega) (by omega)⟩))⟩
      rw [mj_8, nI_clamp (by omega), hs i hi]
    · refine br_f (by rw [e]; exact nI_pos (by omega)) ⟨vp_in_nI hg (by decide), ?_⟩
      rw [e, mj_48, mj_8, mj_8, nI_clamp (show 8 * (48 * j + p) + i < 2 ^ 31 by omega), nI_clamp (show 8 * g + i < 2 ^ 31 by omega), hs i hi]
      exact ⟨vp_in_nI (by omega) (by decide), vp_in_nI (by omega) (by decide), nm_e (nm_r (nI_1 i) (hw _ ⟨mj_fill hI.1 rfl, mj_off hI.2 (by omega) (by omega)⟩))⟩
theorem mj_load27b {post : St2 → Prop} {w hf gd uk un wt wr sn sk : Int32} {a1 a2 a3 a4 a5 a6 a7 a8 a9 a10 a11 a12 a13 a14 a15 a16 a17 a18 a19 a20 a21 a22 a23 a24 a25 a26 : Nat → Int32} {j g : Nat} {src : Nat → Int32} (hj : j < 4) (hg : g < 164)
    (hs : (a8 g = -1 ∧ ∀ c, c < 8 → a1 (8 * g + c) = src c) ∨ (∃ p, p < 48 ∧ a8 g = nI p ∧ ∀ c, c < 8 → a2 (8 * (48 * j + p) + c) = src c))
    (H : ∀ b5 : Nat → Int32, (∀ c, c < 8 → b5 (8 * g + c) = src c) → (∀ i, i < 8 * g ∨ 8 * g + 8 ≤ i → b5 i = a5 i) → post (w, hf, gd, uk, un, wt, wr, sn, sk, a1, a2, a3, a4, b5, a6, a7, a8, a9, a10, a11, a12, a13, a14, a15, a16, a17, a18, a19, a20, a21, a22, a23, a24, a25, a26)) :
    ∃ n, wX_load_2_27 post (nI j) (nI g) w hf gd uk un wt wr sn sk n 0 a1 a2 a3 a4 a5 a6 a7 a8 a9 a10 a11 a12 a13 a14 a15 a16 a17 a18 a19 a20 a21 a22 a23 a24 a25 a26 := by
  refine pk_loop (fun n i s => wX_load_2_27 post (nI j) (nI g) w hf gd uk un wt wr sn sk n (nI i) a1 a2 a3 a4 s a6 a7 a8 a9 a10 a11 a12 a13 a14 a15 a16 a17 a18 a19 a20 a21 a22 a23 a24 a25 a26) (fun i s => (∀ c, c < i → s (8 * g + c) = src c) ∧ (∀ x, x < 8 * g ∨ 8 * g + 8 ≤ x → s x = a5 x)) 8 0 a5 (by omega) ⟨fun c hc => absurd hc (by omega), fun _ _ => rfl⟩ ?_ ?_
  · intro n s hI
    exact pk_le 8 8 (fun _ => H s hI.1 hI.2) (fun z => absurd z (by omega))
  · intro n i s hi hI hw
    refine pk_le 8 i (fun z => absurd z (by omega)) (fun _ => ⟨vp_in_nI hg (by decide), ?_⟩)
    rw [nI_clamp (show g < 2 ^ 31 by omega)]
    rcases hs with ⟨e, hs⟩ | ⟨p, hp, e, hs⟩
    · refine br_t (by rw [e]; decide) ⟨mj_in (mj_8 g i) (by omega) (by decide), mj_in (mj_8 g i) (by omega) (by decide), nm_r (e' := upd s (8 * g + i) (src i)) ?_ (nm_r (nI_1 i) (hw _ ⟨mj_fill hI.1 rfl, mj_off hI.2 (by omega) (by omega)⟩))⟩
      rw [mj_8, nI_clamp (by omega), hs i hi]
    · refine br_f (by rw [e]; exact nI_pos (by omega)) ⟨vp_in_nI hg (by decide), ?_⟩
      rw [e, mj_48, mj_8, mj_8, nI_clamp (show 8 * (48 * j + p) + i < 2 ^ 31 by omega), nI_clamp (show 8 * g + i < 2 ^ 31 by omega), hs i hi]
      exact ⟨vp_in_nI (by omega) (by decide), vp_in_nI (by omega) (by decide), nm_e (nm_r (nI_1 i) (hw _ ⟨mj_fill hI.1 rfl, mj_off hI.2 (by omega) (by omega)⟩))⟩
theorem mj_load27c {post : St2 → Prop} {w hf gd uk un wt wr sn sk : Int32} {a1 a2 a3 a4 a5 a6 a7 a8 a9 a10 a11 a12 a13 a14 a15 a16 a17 a18 a19 a20 a21 a22 a23 a24 a25 a26 : Nat → Int32} {j g : Nat} {src : Nat → Int32} (hj : j < 4) (hg : g < 164)
    (hs : (a8 g = -1 ∧ ∀ c, c < 8 → a1 (8 * g + c) = src c) ∨ (∃ p, p < 48 ∧ a8 g = nI p ∧ ∀ c, c < 8 → a2 (8 * (48 * j + p) + c) = src c))
    (H : ∀ b5 : Nat → Int32, (∀ c, c < 8 → b5 (8 * g + c) = src c) → (∀ i, i < 8 * g ∨ 8 * g + 8 ≤ i → b5 i = a5 i) → post (w, hf, gd, uk, un, wt, wr, sn, sk, a1, a2, a3, a4, b5, a6, a7, a8, a9, a10, a11, a12, a13, a14, a15, a16, a17, a18, a19, a20, a21, a22, a23, a24, a25, a26)) :
    ∃ n, wX_load_3_27 post (nI j) (nI g) w hf gd uk un wt wr sn sk n 0 a1 a2 a3 a4 a5 a6 a7 a8 a9 a10 a11 a12 a13 a14 a15 a16 a17 a18 a19 a20 a21 a22 a23 a24 a25 a26 := by
  refine pk_loop (fun n i s => wX_load_3_27 post (nI j) (nI g) w hf gd uk un wt wr sn sk n (nI i) a1 a2 a3 a4 s a6 a7 a8 a9 a10 a11 a12 a13 a14 a15 a16 a17 a18 a19 a20 a21 a22 a23 a24 a25 a26) (fun i s => (∀ c, c < i → s (8 * g + c) = src c) ∧ (∀ x, x < 8 * g ∨ 8 * g + 8 ≤ x → s x = a5 x)) 8 0 a5 (by omega) ⟨fun c hc => absurd hc (by omega), fun _ _ => rfl⟩ ?_ ?_
  · intro n s hI
    exact pk_le 8 8 (fun _ => H s hI.1 hI.2) (fun z => absurd z (by omega))
  · intro n i s hi hI hw
    refine pk_le 8 i (fun z => absurd z (by omega)) (fun _ => ⟨vp_in_nI hg (by decide), ?_⟩)
    rw [nI_clamp (show g < 2 ^ 31 by omega)]
    rcases hs with ⟨e, hs⟩ | ⟨p, hp, e, hs⟩
    · refine br_t (by rw [e]; decide) ⟨mj_in (mj_8 g i) (by omega) (by decide), mj_in (mj_8 g i) (by omega) (by decide), nm_r (e' := upd s (8 * g + i) (src i)) ?_ (nm_r (nI_1 i) (hw _ ⟨mj_fill hI.1 rfl, mj_off hI.2 (by omega) (by omega)⟩))⟩
      rw [mj_8, nI_clamp (by omega), hs i hi]
    · refine br_f (by rw [e]; exact nI_pos (by omega)) ⟨vp_in_nI hg (by decide), ?_⟩
      rw [e, mj_48, mj_8, mj_8, nI_clamp (show 8 * (48 * j + p) + i < 2 ^ 31 by omega), nI_clamp (show 8 * g + i < 2 ^ 31 by omega), hs i hi]
      exact ⟨vp_in_nI (by omega) (by decide), vp_in_nI (by omega) (by decide), nm_e (nm_r (nI_1 i) (hw _ ⟨mj_fill hI.1 rfl, mj_off hI.2 (by omega) (by omega)⟩))⟩
theorem mj_src {F : Nat → Nat → Int32} {T j b : Nat} {a1 a2 a3 a4 a8 a9 a10 a11 a12 a13 a14 : Nat → Int32} (h : mj_JR j F T a1 a2 a3 a4 a8 a9 a10 a11 a12 a13 a14) (hb : b < 41) :
    (a8 (41 * j + b) = -1 ∧ ∀ c, c < 8 → a1 (8 * (41 * j + b) + c) = F b c) ∨ (∃ p, p < 48 ∧ a8 (41 * j + b) = nI p ∧ ∀ c, c < 8 → a2 (8 * (48 * j + p) + c) = F b c) := by
  obtain ⟨n, A, RU, I, IU, N0, N, num, hbd, hv, ha, hp, hr, hi⟩ := h
  rcases hi b hb with h1 | ⟨q, hq, e, h2⟩
  · exact Or.inl h1
  · exact Or.inr ⟨(I + q) % 48, by omega, e, h2⟩
theorem mj_cpy_load {j b j' b' : Nat} {sv cu : Nat → Nat → Int32} {d : Prop} {a5 a6 a7 b5 : Nat → Int32} (hb : b < 41) (hb' : b' < 41) (hn : ¬ (j' = j ∧ b' = b)) (h : mj_cpy j' b' sv cu d a5 a6 a7)
    (ho : ∀ i, i < 8 * (41 * j + b) ∨ 8 * (41 * j + b) + 8 ≤ i → b5 i = a5 i) : mj_cpy j' b' sv cu d b5 (upd a6 (41 * j + b) 1) a7 := by
  unfold mj_cpy at h ⊢
  rw [pk_un (show 41 * j' + b' ≠ 41 * j + b by omega)]
  rcases h with h | ⟨h1, h2, h3⟩
  · exact Or.inl h
  · exact Or.inr ⟨h1, fun c hc => by rw [ho _ (by omega)]; exact h2 c hc, h3⟩
theorem mj_load {post : St2 → Prop} {w hf gd uk un wt wr sn sk : Int32} {a1 a2 a3 a4 a5 a6 a7 a8 a9 a10 a11 a12 a13 a14 a15 a16 a17 a18 a19 a20 a21 a22 a23 a24 a25 a26 : Nat → Int32} {F Cu : Nat → Nat → Nat → Int32} {d : Nat → Prop} {T j b : Nat} (h : mj_AB F Cu d T a1 a2 a3 a4 a5 a6 a7 a8 a9 a10 a11 a12 a13 a14) (hj : j < 4) (hb : b < 41)
    (H : ∀ b5 b6 : Nat → Int32, mj_AB F Cu d T a1 a2 a3 a4 b5 b6 a7 a8 a9 a10 a11 a12 a13 a14 → b6 (41 * j + b) = 1 → (∀ c, c < 8 → b5 (8 * (41 * j + b) + c) = Cu j b c) → post (w, hf, gd, uk, un, wt, wr, sn, sk, a1, a2, a3, a4, b5, b6, a7, a8, a9, a10, a11, a12, a13, a14, a15, a16, a17, a18, a19, a20, a21, a22, a23, a24, a25, a26)) : wpX_load post (w, hf, gd, uk, un, wt, wr, sn, sk, a1, a2, a3, a4, a5, a6, a7, a8, a9, a10, a11, a12, a13, a14, a15, a16, a17, a18, a19, a20, a21, a22, a23, a24, a25, a26) (nI j) (nI b) := by
  unfold wpX_load
  refine nm_r (mj_g j b) ⟨vp_in_nI (by omega) (by decide), ?_⟩
  rw [nI_clamp (show 41 * j + b < 2 ^ 31 by omega)]
  rcases h.2 j b hj hb with ⟨e6, e7, ec⟩ | ⟨e6, ecp, e7⟩
  · refine br_t e6 ⟨vp_in_nI (by omega) (by decide), nm_e ?_⟩
    refine mj_load27 hj (by omega) (mj_src (h.1 j hj) hb) (fun b5 h1 h2 => ?_)
    refine H b5 _ ⟨h.1, fun j' b' hj' hb' => ?_⟩ pk_us (fun c hc => by rw [h1 c hc, ec c hc])
    by_cases e : j' = j ∧ b' = b
    · obtain ⟨rfl, rfl⟩ := e
      exact Or.inr ⟨pk_us, fun c hc => by rw [h1 c hc, ec c hc], Or.inl ⟨e7, ec⟩⟩
    · exact mj_cpy_load hb hb' e (h.2 j' b' hj' hb') h2
  · refine br_f (by rw [e6]; decide) ?_
    exact H a5 a6 h e6 ecp
theorem mj_loadb {post : St2 → Prop} {w hf gd uk un wt wr sn sk : Int32} {a1 a2 a3 a4 a5 a6 a7 a8 a9 a10 a11 a12 a13 a14 a15 a16 a17 a18 a19 a20 a21 a22 a23 a24 a25 a26 : Nat → Int32} {F Cu : Nat → Nat → Nat → Int32} {d : Nat → Prop} {T j b : Nat} (h : mj_AB F Cu d T a1 a2 a3 a4 a5 a6 a7 a8 a9 a10 a11 a12 a13 a14) (hj : j < 4) (hb : b < 41)
    (H : ∀ b5 b6 : Nat → Int32, mj_AB F Cu d T a1 a2 a3 a4 b5 b6 a7 a8 a9 a10 a11 a12 a13 a14 → b6 (41 * j + b) = 1 → (∀ c, c < 8 → b5 (8 * (41 * j + b) + c) = Cu j b c) → post (w, hf, gd, uk, un, wt, wr, sn, sk, a1, a2, a3, a4, b5, b6, a7, a8, a9, a10, a11, a12, a13, a14, a15, a16, a17, a18, a19, a20, a21, a22, a23, a24, a25, a26)) : wpX_load_2 post (w, hf, gd, uk, un, wt, wr, sn, sk, a1, a2, a3, a4, a5, a6, a7, a8, a9, a10, a11, a12, a13, a14, a15, a16, a17, a18, a19, a20, a21, a22, a23, a24, a25, a26) (nI j) (nI b) := by
  unfold wpX_load_2
  refine nm_r (mj_g j b) ⟨vp_in_nI (by omega) (by decide), ?_⟩
  rw [nI_clamp (show 41 * j + b < 2 ^ 31 by omega)]
  rcases h.2 j b hj hb with ⟨e6, e7, ec⟩ | ⟨e6, ecp, e7⟩
  · refine br_t e6 ⟨vp_in_nI (by omega) (by decide), nm_e ?_⟩
    refine mj_load27b hj (by omega) (mj_src (h.1 j hj) hb) (fun b5 h1 h2 => ?_)
    refine H b5 _ ⟨h.1, fun j' b' hj' hb' => ?_⟩ pk_us (fun c hc => by rw [h1 c hc, ec c hc])
    by_cases e : j' = j ∧ b' = b
    · obtain ⟨rfl, rfl⟩ := e
      exact Or.inr ⟨pk_us, fun c hc => by rw [h1 c hc, ec c hc], Or.inl ⟨e7, ec⟩⟩
    · exact mj_cpy_load hb hb' e (h.2 j' b' hj' hb') h2
  · refine br_f (by rw [e6]; decide) ?_
    exact H a5 a6 h e6 ecp
theorem mj_loadc {post : St2 → Prop} {w hf gd uk un wt wr sn sk : Int32} {a1 a2 a3 a4 a5 a6 a7 a8 a9 a10 a11 a12 a13 a14 a15 a16 a17 a18 a19 a20 a21 a22 a23 a24 a25 a26 : Nat → Int32} {F Cu : Nat → Nat → Nat → Int32} {d : Nat → Prop} {T j b : Nat} (h : mj_AB F Cu d T a1 a2 a3 a4 a5 a6 a7 a8 a9 a10 a11 a12 a13 a14) (hj : j < 4) (hb : b < 41)
    (H : ∀ b5 b6 : Nat → Int32, mj_AB F Cu d T a1 a2 a3 a4 b5 b6 a7 a8 a9 a10 a11 a12 a13 a14 → b6 (41 * j + b) = 1 → (∀ c, c < 8 → b5 (8 * (41 * j + b) + c) = Cu j b c) → post (w, hf, gd, uk, un, wt, wr, sn, sk, a1, a2, a3, a4, b5, b6, a7, a8, a9, a10, a11, a12, a13, a14, a15, a16, a17, a18, a19, a20, a21, a22, a23, a24, a25, a26)) : wpX_load_3 post (w, hf, gd, uk, un, wt, wr, sn, sk, a1, a2, a3, a4, a5, a6, a7, a8, a9, a10, a11, a12, a13, a14, a15, a16, a17, a18, a19, a20, a21, a22, a23, a24, a25, a26) (nI j) (nI b) := by
  unfold wpX_load_3
  refine nm_r (mj_g j b) ⟨vp_in_nI (by omega) (by decide), ?_⟩
  rw [nI_clamp (show 41 * j + b < 2 ^ 31 by omega)]
  rcases h.2 j b hj hb with ⟨e6, e7, ec⟩ | ⟨e6, ecp, e7⟩
  · refine br_t e6 ⟨vp_in_nI (by omega) (by decide), nm_e ?_⟩
    refine mj_load27c hj (by omega) (mj_src (h.1 j hj) hb) (fun b5 h1 h2 => ?_)
    refine H b5 _ ⟨h.1, fun j' b' hj' hb' => ?_⟩ pk_us (fun c hc => by rw [h1 c hc, ec c hc])
    by_cases e : j' = j ∧ b' = b
    · obtain ⟨rfl, rfl⟩ := e
      exact Or.inr ⟨pk_us, fun c hc => by rw [h1 c hc, ec c hc], Or.inl ⟨e7, ec⟩⟩
    · exact mj_cpy_load hb hb' e (h.2 j' b' hj' hb') h2
  · refine br_f (by rw [e6]; decide) ?_
    exact H a5 a6 h e6 ecp
theorem mj_cell {post : Int32 → St2 → Prop} {w hf gd uk un wt wr sn sk : Int32} {a1 a2 a3 a4 a5 a6 a7 a8 a9 a10 a11 a12 a13 a14 a15 a16 a17 a18 a19 a20 a21 a22 a23 a24 a25 a26 : Nat → Int32} {F Cu : Nat → Nat → Nat → Int32} {d : Nat → Prop} {T j b c : Nat} (h : mj_AB F Cu d T a1 a2 a3 a4 a5 a6 a7 a8 a9 a10 a11 a12 a13 a14) (hj : j < 4) (hb : b < 41) (hc : c < 8)
    (H : ∀ b5 b6 : Nat → Int32, mj_AB F Cu d T a1 a2 a3 a4 b5 b6 a7 a8 a9 a10 a11 a12 a13 a14 → post (Cu j b c) (w, hf, gd, uk, un, wt, wr, sn, sk, a1, a2, a3, a4, b5, b6, a7, a8, a9, a10, a11, a12, a13, a14, a15, a16, a17, a18, a19, a20, a21, a22, a23, a24, a25, a26)) : wpX_cell post (w, hf, gd, uk, un, wt, wr, sn, sk, a1, a2, a3, a4, a5, a6, a7, a8, a9, a10, a11, a12, a13, a14, a15, a16, a17, a18, a19, a20, a21, a22, a23, a24, a25, a26) (nI j) (nI b) (nI c) := by
  unfold wpX_cell
  refine mj_load h hj hb (fun b5 b6 h' e6 e5 => ?_)
  show vp_in (8 * (41 * nI j + nI b) + nI c) 1312 ∧ post (b5 (8 * (41 * nI j + nI b) + nI c).toNatClampNeg) (w, hf, gd, uk, un, wt, wr, sn, sk, a1, a2, a3, a4, b5, b6, a7, a8, a9, a10, a11, a12, a13, a14, a15, a16, a17, a18, a19, a20, a21, a22, a23, a24, a25, a26)
  rw [mj_g, mj_8, nI_clamp (show 8 * (41 * j + b) + c < 2 ^ 31 by omega), e5 c hc]
  exact ⟨vp_in_nI (by omega) (by decide), H b5 b6 h'⟩
theorem mj_cellb {post : Int32 → St2 → Prop} {w hf gd uk un wt wr sn sk : Int32} {a1 a2 a3 a4 a5 a6 a7 a8 a9 a10 a11 a12 a13 a14 a15 a16 a17 a18 a19 a20 a21 a22 a23 a24 a25 a26 : Nat → Int32} {F Cu : Nat → Nat → Nat → Int32} {d : Nat → Prop} {T j b c : Nat} (h : mj_AB F Cu d T a1 a2 a3 a4 a5 a6 a7 a8 a9 a10 a11 a12 a13 a14) (hj : j < 4) (hb : b < 41) (hc : c < 8)
    (H : ∀ b5 b6 : Nat → Int32, mj_AB F Cu d T a1 a2 a3 a4 b5 b6 a7 a8 a9 a10 a11 a12 a13 a14 → post (Cu j b c) (w, hf, gd, uk, un, wt, wr, sn, sk, a1, a2, a3, a4, b5, b6, a7, a8, a9, a10, a11, a12, a13, a14, a15, a16, a17, a18, a19, a20, a21, a22, a23, a24, a25, a26)) : wpX_cell_2 post (w, hf, gd, uk, un, wt, wr, sn, sk, a1, a2, a3, a4, a5, a6, a7, a8, a9, a10, a11, a12, a13, a14, a15, a16, a17, a18, a19, a20, a21, a22, a23, a24, a25, a26) (nI j) (nI b) (nI c) := by
  unfold wpX_cell_2
  refine mj_loadb h hj hb (fun b5 b6 h' e6 e5 => ?_)
  show vp_in (8 * (41 * nI j + nI b) + nI c) 1312 ∧ post (b5 (8 * (41 * nI j + nI b) + nI c).toNatClampNeg) (w, hf, gd, uk, un, wt, wr, sn, sk, a1, a2, a3, a4, b5, b6, a7, a8, a9, a10, a11, a12, a13, a14, a15, a16, a17, a18, a19, a20, a21, a22, a23, a24, a25, a26)
  rw [mj_g, mj_8, nI_clamp (show 8 * (41 * j + b) + c < 2 ^ 31 by omega), e5 c hc]
  exact ⟨vp_in_nI (by omega) (by decide), H b5 b6 h'⟩
theorem mj_cellc {post : Int32 → St2 → Prop} {w hf gd uk un wt wr sn sk : Int32} {a1 a2 a3 a4 a5 a6 a7 a8 a9 a10 a11 a12 a13 a14 a15 a16 a17 a18 a19 a20 a21 a22 a23 a24 a25 a26 : Nat → Int32} {F Cu : Nat → Nat → Nat → Int32} {d : Nat → Prop} {T j b c : Nat} (h : mj_AB F Cu d T a1 a2 a3 a4 a5 a6 a7 a8 a9 a10 a11 a12 a13 a14) (hj : j < 4) (hb : b < 41) (hc : c < 8)
    (H : ∀ b5 b6 : Nat → Int32, mj_AB F Cu d T a1 a2 a3 a4 b5 b6 a7 a8 a9 a10 a11 a12 a13 a14 → post (Cu j b c) (w, hf, gd, uk, un, wt, wr, sn, sk, a1, a2, a3, a4, b5, b6, a7, a8, a9, a10, a11, a12, a13, a14, a15, a16, a17, a18, a19, a20, a21, a22, a23, a24, a25, a26)) : wpX_cell_3 post (w, hf, gd, uk, un, wt, wr, sn, sk, a1, a2, a3, a4, a5, a6, a7, a8, a9, a10, a11, a12, a13, a14, a15, a16, a17, a18, a19, a20, a21, a22, a23, a24, a25, a26) (nI j) (nI b) (nI c) := by
  unfold wpX_cell_3
  refine mj_loadc h hj hb (fun b5 b6 h' e6 e5 => ?_)
  show vp_in (8 * (41 * nI j + nI b) + nI c) 1312 ∧ post (b5 (8 * (41 * nI j + nI b) + nI c).toNatClampNeg) (w, hf, gd, uk, un, wt, wr, sn, sk, a1, a2, a3, a4, b5, b6, a7, a8, a9, a10, a11, a12, a13, a14, a15, a16, a17, a18, a19, a20, a21, a22, a23, a24, a25, a26)
  rw [mj_g, mj_8, nI_clamp (show 8 * (41 * j + b) + c < 2 ^ 31 by omega), e5 c hc]
  exact ⟨vp_in_nI (by omega) (by decide), H b5 b6 h'⟩
theorem mj_setCell {post : St2 → Prop} {w hf gd uk un wt wr sn sk : Int32} {a1 a2 a3 a4 a5 a6 a7 a8 a9 a10 a11 a12 a13 a14 a15 a16 a17 a18 a19 a20 a21 a22 a23 a24 a25 a26 : Nat → Int32} {F Cu : Nat → Nat → Nat → Int32} {d : Nat → Prop} {T j b c : Nat} {v : Int32} (h : mj_AB F Cu d T a1 a2 a3 a4 a5 a6 a7 a8 a9 a10 a11 a12 a13 a14) (hj : j < 4) (hb : b < 41) (hc : c < 8) (hd : d j)
    (H : ∀ b5 b6 b7 : Nat → Int32, mj_AB F (mj_u3 Cu j b c v) d T a1 a2 a3 a4 b5 b6 b7 a8 a9 a10 a11 a12 a13 a14 → post (w, hf, gd, uk, un, wt, wr, sn, sk, a1, a2, a3, a4, b5, b6, b7, a8, a9, a10, a11, a12, a13, a14, a15, a16, a17, a18, a19, a20, a21, a22, a23, a24, a25, a26)) : wpX_setCell post (w, hf, gd, uk, un, wt, wr, sn, sk, a1, a2, a3, a4, a5, a6, a7, a8, a9, a10, a11, a12, a13, a14, a15, a16, a17, a18, a19, a20, a21, a22, a23, a24, a25, a26) (nI j) (nI b) (nI c) v := by
  unfold wpX_setCell
  refine mj_load h hj hb (fun b5 b6 h' e6 e5 => ?_)
  refine nm_r (mj_g j b) ?_
  rw [mj_8, nI_clamp (show 8 * (41 * j + b) + c < 2 ^ 31 by omega), nI_clamp (show 41 * j + b < 2 ^ 31 by omega), e5 c hc]
  refine ⟨vp_in_nI (by omega) (by decide), br_c (fun e => ?_) (fun e => ⟨vp_in_nI (by omega) (by decide), nm_e ⟨vp_in_nI (by omega) (by decide), nm_e ?_⟩⟩)⟩
  · refine H b5 b6 a7 ?_
    rw [mj_u3e e]
    exact h'
  · refine H _ b6 _ ⟨h'.1, fun j' b' hj' hb' => ?_⟩
    by_cases q : j' = j ∧ b' = b
    · obtain ⟨rfl, rfl⟩ := q
      refine Or.inr ⟨e6, fun c' hc' => ?_, Or.inr ⟨pk_us, hd⟩⟩
      by_cases ec : c' = c
      · rw [ec, pk_us, mj_u3s]
      · rw [pk_un (by omega), mj_u3n (by omega), e5 c' hc']
    · have hh := h'.2 j' b' hj' hb'
      have eu : ∀ c', mj_u3 Cu j b c v j' b' c' = Cu j' b' c' := fun c' => mj_u3n (fun z => q ⟨z.1, z.2.1⟩)
      unfold mj_cpy at hh ⊢
      rw [pk_un (show 41 * j' + b' ≠ 41 * j + b by omega)]
      rcases hh with ⟨p1, p2, p3⟩ | ⟨p1, p2, p3⟩
      · exact Or.inl ⟨p1, p2, fun c' hc' => by rw [eu]; exact p3 c' hc'⟩
      · refine Or.inr ⟨p1, fun c' hc' => ?_, ?_⟩
        · rw [pk_un (by omega), eu]
          exact p2 c' hc'
        · rcases p3 with ⟨p3, p4⟩ | p3
          · exact Or.inl ⟨p3, fun c' hc' => by rw [eu]; exact p4 c' hc'⟩
          · exact Or.inr p3
end
section
/-! the ring: pure rows -/
theorem mj_path_le {a2 a3 : Nat → Int32} {j : Nat} : ∀ (n : Nat) {A I N : Nat} {D : Nat → Nat → Int32} {A' I' N' : Nat} {D' : Nat → Nat → Int32}, mj_path a2 a3 j n A I N D A' I' N' D' → A + 2 * n ≤ A' ∧ I + n ≤ I' ∧ N + n = N'
  | 0, _, _, _, _, _, _, _, _, h => by
    obtain ⟨h1, h2, h3, _⟩ := h
    omega
  | n + 1, _, _, _, _, _, _, _, _, h => by
    obtain ⟨l, bs, h0, h41, hb, hs, hp⟩ := h
    have := mj_path_le n hp
    omega
theorem mj_ov_cg {a2 b2 : Nat → Int32} {j I : Nat} {bs : Nat → Nat} : ∀ (l : Nat) {D E : Nat → Nat → Int32}, (∀ x c, I ≤ x → x < I + l → c < 8 → b2 (8 * (48 * j + x % 48) + c) = a2 (8 * (48 * j + x % 48) + c)) → (∀ b c, b < 41 → c < 8 → E b c = D b c) → ∀ b c, b < 41 → c < 8 → mj_ov b2 j I bs l E b c = mj_ov a2 j I bs l D b c
  | 0, _, _, _, hE => hE
  | l + 1, D, E, h, hE => by
    intro b c hb hc
    show (if b = bs l then b2 (8 * (48 * j + (I + l) % 48) + c) else mj_ov b2 j I bs l E b c) = (if b = bs l then a2 (8 * (48 * j + (I + l) % 48) + c) else mj_ov a2 j I bs l D b c)
    by_cases e : b = bs l
    · rw [if_pos e, if_pos e]
      exact h (I + l) c (by omega) (by omega) hc
    · rw [if_neg e, if_neg e]
      exact mj_ov_cg l (fun x c h1 h2 h3 => h x c h1 (by omega) h3) hE b c hb hc
theorem mj_sec_cg {a3 b3 : Nat → Int32} {j A N l : Nat} {bs : Nat → Nat} (h : ∀ x c, A ≤ x → x < A + (l + 3) / 4 + 1 → c < 8 → b3 (8 * (14 * j + x % 14) + c) = a3 (8 * (14 * j + x % 14) + c)) (hs : mj_sec a3 j A N l bs) : mj_sec b3 j A N l bs := by
  refine ⟨fun q hq => ?_, ?_⟩
  · obtain ⟨h1, h2, h3, h4, h5⟩ := hs.1 q hq
    have e : ∀ c, c < 8 → b3 (8 * (14 * j + (A + q) % 14) + c) = a3 (8 * (14 * j + (A + q) % 14) + c) := fun c hc => h (A + q) c (by omega) (by omega) hc
    exact ⟨(e 0 (by omega)).trans h1, (e 1 (by omega)).trans h2, (e 7 (by omega)).trans h3, (e 2 (by omega)).trans h4, fun i hi => (e (3 + i) (by omega)).trans (h5 i hi)⟩
  · obtain ⟨h1, h2, h3⟩ := hs.2
    have e : ∀ c, c < 8 → b3 (8 * (14 * j + (A + (l + 3) / 4) % 14) + c) = a3 (8 * (14 * j + (A + (l + 3) / 4) % 14) + c) := fun c hc => h (A + (l + 3) / 4) c (by omega) (by omega) hc
    exact ⟨(e 0 (by omega)).trans h1, (e 1 (by omega)).trans h2, (e 7 (by omega)).trans h3⟩
theorem mj_path_cg {a2 a3 b2 b3 : Nat → Int32} {j : Nat} : ∀ (n : Nat) {A I N : Nat} {D E : Nat → Nat → Int32} {A' I' N' : Nat} {D' E' : Nat → Nat → Int32},
    (∀ x c, A ≤ x → x < A' → c < 8 → b3 (8 * (14 * j + x % 14) + c) = a3 (8 * (14 * j + x % 14) + c)) → (∀ x c, I ≤ x → x < I' → c < 8 → b2 (8 * (48 * j + x % 48) + c) = a2 (8 * (48 * j + x % 48) + c)) →
    (∀ b c, b < 41 → c < 8 → E b c = D b c) → (∀ b c, b < 41 → c < 8 → E' b c = D' b c) → mj_path a2 a3 j n A I N D A' I' N' D' → mj_path b2 b3 j n A I N E A' I' N' E'
  | 0, _, _, _, _, _, _, _, _, _, _, _, _, hE, hE', h => by
    obtain ⟨h1, h2, h3, h4⟩ := h
    exact ⟨h1, h2, h3, fun b c hb hc => by rw [hE b c hb hc, hE' b c hb hc, h4 b c hb hc]⟩
  | n + 1, A, I, N, D, E, A', I', N', D', E', hr, hi, hE, hE', h => by
    obtain ⟨l, bs, h0, h41, hb, hs, hp⟩ := h
    have hl := mj_path_le n hp
    refine ⟨l, bs, h0, h41, hb, mj_sec_cg (fun x c h1 h2 h3 => hr x c h1 (by omega) h3) hs, mj_path_cg n (fun x c h1 h2 h3 => hr x c (by omega) h2 h3) (fun x c h1 h2 h3 => hi x c (by omega) h2 h3) (mj_ov_cg l (fun x c h1 h2 h3 => hi x c h1 (by omega) h3) hE) hE' hp⟩
theorem mj_path_snoc {a2 a3 : Nat → Int32} {j : Nat} : ∀ (n : Nat) {A I N : Nat} {D : Nat → Nat → Int32} {A1 I1 N1 : Nat} {D1 : Nat → Nat → Int32} {A2 I2 N2 : Nat} {D2 : Nat → Nat → Int32}, mj_path a2 a3 j n A I N D A1 I1 N1 D1 → mj_path a2 a3 j 1 A1 I1 N1 D1 A2 I2 N2 D2 → mj_path a2 a3 j (n + 1) A I N D A2 I2 N2 D2
  | 0, _, _, _, _, _, _, _, _, _, _, _, _, h, h1 => by
    obtain ⟨rfl, rfl, rfl, e⟩ := h
    exact mj_path_cg 1 (fun _ _ _ _ _ => rfl) (fun _ _ _ _ _ => rfl) e (fun _ _ _ _ => rfl) h1
  | n + 1, _, _, _, _, _, _, _, _, _, _, _, _, h, h1 => by
    obtain ⟨l, bs, h0, h41, hb, hs, hp⟩ := h
    exact ⟨l, bs, h0, h41, hb, hs, mj_path_snoc n hp h1⟩
theorem mj_ov_val {a2 : Nat → Int32} {j I : Nat} {bs : Nat → Nat} {cu : Nat → Nat → Int32} : ∀ (l : Nat) {D : Nat → Nat → Int32}, (∀ q c, q < l → c < 8 → a2 (8 * (48 * j + (I + q) % 48) + c) = cu (bs q) c) → ∀ b c, c < 8 → ((∀ q, q < l → bs q ≠ b) → D b c = cu b c) → mj_ov a2 j I bs l D b c = cu b c
  | 0, D, _, b, c, _, h => h (fun q hq => absurd hq (by omega))
  | l + 1, D, hi, b, c, hc, h => by
    show (if b = bs l then a2 (8 * (48 * j + (I + l) % 48) + c) else mj_ov a2 j I bs l D b c) = cu b c
    by_cases e : b = bs l
    · rw [if_pos e, hi l c (by omega) hc, e]
    · rw [if_neg e]
      refine mj_ov_val l (fun q c h1 h2 => hi q c (by omega) h2) b c hc (fun hq => h (fun q hq' => ?_))
      by_cases eq : q = l
      · rw [eq]; exact fun z => e z.symm
      · exact hq q (by omega)
/-! what lies outside a box -/
def mj_out (lo n : Nat) (a b : Nat → Int32) : Prop := ∀ i, i < lo ∨ lo + n ≤ i → b i = a i
theorem mj_out_r {lo n : Nat} {a : Nat → Int32} : mj_out lo n a a := fun _ _ => rfl
theorem mj_out_t {lo n : Nat} {a b c : Nat → Int32} (h : mj_out lo n a b) (h' : mj_out lo n b c) : mj_out lo n a c := fun i hi => (h' i hi).trans (h i hi)
theorem mj_out_u {lo n k : Nat} {a b : Nat → Int32} {x : Int32} (h : mj_out lo n a b) (h1 : lo ≤ k) (h2 : k < lo + n) : mj_out lo n a (upd b k x) := fun i hi => by
  rw [pk_un (by omega)]
  exact h i hi
theorem mj_out_w {lo n lo' n' : Nat} {a b : Nat → Int32} (h : mj_out lo' n' a b) (h1 : lo ≤ lo') (h2 : lo' + n' ≤ lo + n) : mj_out lo n a b := fun i hi => h i (by omega)
theorem mj_RK_fr {i j : Nat} (hij : i ≠ j) {sv : Nat → Nat → Int32} {T : Nat} {a1 a2 a3 a4 b1 b2 b3 b4 : Nat → Int32} (h : mj_RK i sv T a1 a2 a3 a4)
    (o1 : mj_out (328 * j) 328 a1 b1) (o2 : mj_out (384 * j) 384 a2 b2) (o3 : mj_out (112 * j) 112 a3 b3) (o4 : mj_out (10 * j) 10 a4 b4) : mj_RK i sv T b1 b2 b3 b4 := by
  obtain ⟨n, A, RU, I, IU, N0, N, num, hb, ha, hp, hr⟩ := h
  refine ⟨n, A, RU, I, IU, N0, N, num, hb, ?_, mj_path_cg n (fun x c _ _ hc => o3 _ (by omega)) (fun x c _ _ hc => o2 _ (by omega)) (fun b c hb hc => o1 _ (by omega)) (fun _ _ _ _ => rfl) hp, fun r hr' => ?_⟩
  · unfold mj_anc at ha ⊢
    rw [o4 _ (by omega), o4 _ (by omega), o4 _ (by omega), o4 _ (by omega), o4 _ (by omega), o4 _ (by omega)]
    exact ha
  · have h1 := hr r hr'
    unfold mj_cnt at h1 ⊢
    rw [o3 _ (by omega), o3 _ (by omega), o3 _ (by omega)]
    exact h1
theorem mj_JR_fr {i j : Nat} (hij : i ≠ j) {sv : Nat → Nat → Int32} {T : Nat} {a1 a2 a3 a4 a8 a9 a10 a11 a12 a13 a14 b1 b2 b3 b4 b8 b9 b10 b11 b12 b13 b14 : Nat → Int32} (h : mj_JR i sv T a1 a2 a3 a4 a8 a9 a10 a11 a12 a13 a14)
    (o1 : mj_out (328 * j) 328 a1 b1) (o2 : mj_out (384 * j) 384 a2 b2) (o3 : mj_out (112 * j) 112 a3 b3) (o4 : mj_out (10 * j) 10 a4 b4) (o8 : mj_out (41 * j) 41 a8 b8)
    (o9 : mj_out j 1 a9 b9) (o10 : mj_out j 1 a10 b10) (o11 : mj_out j 1 a11 b11) (o12 : mj_out j 1 a12 b12) (o13 : mj_out j 1 a13 b13) (o14 : mj_out j 1 a14 b14) :
    mj_JR i sv T b1 b2 b3 b4 b8 b9 b10 b11 b12 b13 b14 := by
  obtain ⟨n, A, RU, I, IU, N0, N, num, hb, hv, ha, hp, hr, hi⟩ := h
  refine ⟨n, A, RU, I, IU, N0, N, num, hb, ?_, ?_, mj_path_cg n (fun x c _ _ hc => o3 _ (by omega)) (fun x c _ _ hc => o2 _ (by omega)) (fun b c hb hc => o1 _ (by omega)) (fun _ _ _ _ => rfl) hp, fun r hr' => ?_, fun b hb => ?_⟩
  · unfold mj_vol at hv ⊢
    rw [o9 _ (by omega), o10 _ (by omega), o11 _ (by omega), o12 _ (by omega), o13 _ (by omega), o14 _ (by omega)]
    exact hv
  · unfold mj_anc at ha ⊢
    rw [o4 _ (by omega), o4 _ (by omega), o4 _ (by omega), o4 _ (by omega), o4 _ (by omega), o4 _ (by omega)]
    exact ha
  · have h1 := hr r hr'
    rw [o3 _ (by omega)]
    exact h1
  · have h1 := hi b hb
    unfold mj_img at h1 ⊢
    rw [o8 _ (by omega)]
    rcases h1 with ⟨e, h1⟩ | ⟨q, hq, e, h1⟩
    · exact Or.inl ⟨e, fun c hc => by rw [o1 _ (by omega)]; exact h1 c hc⟩
    · exact Or.inr ⟨q, hq, e, fun c hc => by rw [o2 _ (by omega)]; exact h1 c hc⟩
theorem mj_cpy_fr {i j b : Nat} (hij : i ≠ j) (hb : b < 41) {sv cu : Nat → Nat → Int32} {d : Prop} {a5 a6 a7 b5 b6 b7 : Nat → Int32} (h : mj_cpy i b sv cu d a5 a6 a7)
    (o5 : mj_out (328 * j) 328 a5 b5) (o6 : mj_out (41 * j) 41 a6 b6) (o7 : mj_out (41 * j) 41 a7 b7) : mj_cpy i b sv cu d b5 b6 b7 := by
  unfold mj_cpy at h ⊢
  rw [o6 _ (by omega), o7 _ (by omega)]
  rcases h with h | ⟨h1, h2, h3⟩
  · exact Or.inl h
  · exact Or.inr ⟨h1, fun c hc => by rw [o5 _ (by omega)]; exact h2 c hc, h3⟩
theorem mj_JR_mono {j : Nat} {sv : Nat → Nat → Int32} {T T' : Nat} (hT : T ≤ T') {a1 a2 a3 a4 a8 a9 a10 a11 a12 a13 a14 : Nat → Int32} (h : mj_JR j sv T a1 a2 a3 a4 a8 a9 a10 a11 a12 a13 a14) : mj_JR j sv T' a1 a2 a3 a4 a8 a9 a10 a11 a12 a13 a14 := by
  obtain ⟨n, A, RU, I, IU, N0, N, num, ⟨h1, h2, h3, h4, h5, h6, h7⟩, h⟩ := h
  exact ⟨n, A, RU, I, IU, N0, N, num, ⟨h1, h2, h3, h4, by omega, h6, by omega⟩, h⟩
theorem mj_RK_of {j : Nat} {sv : Nat → Nat → Int32} {T : Nat} (hT : T < 2 ^ 30) {a1 a2 a3 a4 a8 a9 a10 a11 a12 a13 a14 : Nat → Int32} (h : mj_JR j sv T a1 a2 a3 a4 a8 a9 a10 a11 a12 a13 a14) : mj_RK j sv T a1 a2 a3 a4 := by
  obtain ⟨n, A, RU, I, IU, N0, N, num, hb, hv, ha, hp, hr, hi⟩ := h
  refine ⟨n, A, RU, I, IU, N0, N, num, hb, ha, hp, fun r hr' => ?_⟩
  obtain ⟨v, hv', e⟩ := hr r hr'
  refine ⟨⟨v, by omega, e⟩, fun z => ?_⟩
  have z1 := z.2.1
  rw [e] at z1
  have hN := hb.2.2.2.2.1
  have := (nI_eq (by omega) (by omega)).mp z1
  omega
end
section
/-! small methods of the journal -/
theorem mj_rem48 {a : Nat} (h : a < 2 ^ 31) : nI a - nI a / 48 * 48 = nI (a % 48) := pk_rem h (by decide) (by decide)
theorem mj_rem14 {a : Nat} (h : a < 2 ^ 31) : nI a - nI a / 14 * 14 = nI (a % 14) := pk_rem h (by decide) (by decide)
theorem mj_forget {post : St2 → Prop} {w hf gd uk un wt wr sn sk : Int32} {a1 a2 a3 a4 a5 a6 a7 a8 a9 a10 a11 a12 a13 a14 a15 a16 a17 a18 a19 a20 a21 a22 a23 a24 a25 a26 : Nat → Int32} {j : Nat} (hj : j < 4)
    (H : ∀ b6 b7 b8 : Nat → Int32, (∀ b, b < 41 → b6 (41 * j + b) = 0 ∧ b7 (41 * j + b) = 0 ∧ b8 (41 * j + b) = -1) → mj_out (41 * j) 41 a6 b6 → mj_out (41 * j) 41 a7 b7 → mj_out (41 * j) 41 a8 b8 → post (w, hf, gd, uk, un, wt, wr, sn, sk, a1, a2, a3, a4, a5, b6, b7, b8, a9, a10, a11, a12, a13, a14, a15, a16, a17, a18, a19, a20, a21, a22, a23, a24, a25, a26)) : wpX_forget post (w, hf, gd, uk, un, wt, wr, sn, sk, a1, a2, a3, a4, a5, a6, a7, a8, a9, a10, a11, a12, a13, a14, a15, a16, a17, a18, a19, a20, a21, a22, a23, a24, a25, a26) (nI j) := by
  unfold wpX_forget
  refine nm_r (e' := nI (41 * j + 0)) (by rw [show (41 : Int32) = nI 41 from rfl, pk_mul]; rfl) ?_
  refine pk_loop (σ := (Nat → Int32) × (Nat → Int32) × (Nat → Int32)) (fun n i s => wX_forget_5 post (nI j) w hf gd uk un wt wr sn sk n (nI (41 * j + i)) a1 a2 a3 a4 a5 s.1 s.2.1 s.2.2 a9 a10 a11 a12 a13 a14 a15 a16 a17 a18 a19 a20 a21 a22 a23 a24 a25 a26)
    (fun i s => (∀ b, b < i → s.1 (41 * j + b) = 0 ∧ s.2.1 (41 * j + b) = 0 ∧ s.2.2 (41 * j + b) = -1) ∧ mj_out (41 * j) 41 a6 s.1 ∧ mj_out (41 * j) 41 a7 s.2.1 ∧ mj_out (41 * j) 41 a8 s.2.2) 41 0 (a6, a7, a8) (by omega) ⟨fun b hb => absurd hb (by omega), mj_out_r, mj_out_r, mj_out_r⟩ ?_ ?_
  · intro n s hI
    exact pk_le (41 * j + 41) (41 * j + 41) (fun _ => H _ _ _ hI.1 hI.2.1 hI.2.2.1 hI.2.2.2) (fun z => absurd z (by omega)) (hx := mj_g j 41)
  · intro n i s hi hI hw
    refine pk_le (41 * j + 41) (41 * j + i) (fun z => absurd z (by omega)) (fun _ => ?_) (hx := mj_g j 41)
    rw [nI_clamp (show 41 * j + i < 2 ^ 31 by omega)]
    refine ⟨vp_in_nI (by omega) (by decide), nm_e ⟨vp_in_nI (by omega) (by decide), nm_e ⟨vp_in_nI (by omega) (by decide), nm_e (nm_r (nI_1 _) (hw (upd s.1 (41 * j + i) 0, upd s.2.1 (41 * j + i) 0, upd s.2.2 (41 * j + i) (-1)) ⟨fun b hb => ?_, mj_out_u hI.2.1 (by omega) (by omega), mj_out_u hI.2.2.1 (by omega) (by omega), mj_out_u hI.2.2.2 (by omega) (by omega)⟩))⟩⟩⟩
    show upd s.1 (41 * j + i) 0 (41 * j + b) = 0 ∧ upd s.2.1 (41 * j + i) 0 (41 * j + b) = 0 ∧ upd s.2.2 (41 * j + i) (-1) (41 * j + b) = -1
    by_cases e : b = i
    · rw [e]; exact ⟨pk_us, pk_us, pk_us⟩
    · rw [pk_un (by omega), pk_un (by omega), pk_un (by omega)]
      exact hI.1 b (by omega)
def mj_ct (a7 : Nat → Int32) (j : Nat) : Nat → Nat
  | 0 => 0
  | i + 1 => if a7 (41 * j + i) = 0 then mj_ct a7 j i else mj_ct a7 j i + 1
theorem mj_ct_z {a7 : Nat → Int32} {j i : Nat} (h : a7 (41 * j + i) = 0) : mj_ct a7 j (i + 1) = mj_ct a7 j i := if_pos h
theorem mj_ct_s {a7 : Nat → Int32} {j i : Nat} (h : ¬ a7 (41 * j + i) = 0) : mj_ct a7 j (i + 1) = mj_ct a7 j i + 1 := if_neg h
theorem mj_ct_le {a7 : Nat → Int32} {j : Nat} : ∀ i, mj_ct a7 j i ≤ i
  | 0 => Nat.le_refl 0
  | i + 1 => by
    have := mj_ct_le (a7 := a7) (j := j) i
    by_cases e : a7 (41 * j + i) = 0
    · rw [mj_ct_z e]; omega
    · rw [mj_ct_s e]; omega
theorem mj_ct_mono {a7 : Nat → Int32} {j : Nat} : ∀ i k, mj_ct a7 j i ≤ mj_ct a7 j (i + k)
  | i, 0 => Nat.le_refl _
  | i, k + 1 => by
    have := mj_ct_mono (a7 := a7) (j := j) i k
    by_cases e : a7 (41 * j + (i + k)) = 0
    · rw [show i + (k + 1) = (i + k) + 1 from rfl, mj_ct_z e]; exact this
    · rw [show i + (k + 1) = (i + k) + 1 from rfl, mj_ct_s e]; omega
theorem mj_ct_up {a7 : Nat → Int32} {j i k : Nat} (h : i ≤ k) : mj_ct a7 j i ≤ mj_ct a7 j k := by
  have := mj_ct_mono (a7 := a7) (j := j) i (k - i)
  rwa [show i + (k - i) = k by omega] at this
theorem mj_ct_0 {a7 : Nat → Int32} {j : Nat} : ∀ i, (∀ b, b < i → a7 (41 * j + b) = 0) → mj_ct a7 j i = 0
  | 0, _ => rfl
  | i + 1, h => by
    rw [mj_ct_z (h i (by omega))]
    exact mj_ct_0 i (fun b hb => h b (by omega))
theorem mj_ct_nz {a7 : Nat → Int32} {j : Nat} {i b : Nat} (hb : b < i) (h : mj_ct a7 j i = 0) : a7 (41 * j + b) = 0 := by
  by_cases e : a7 (41 * j + b) = 0
  · exact e
  · have h1 := mj_ct_s e
    have h2 := mj_ct_up (a7 := a7) (j := j) (show b + 1 ≤ i by omega)
    omega
theorem mj_changedBlocks {post : Int32 → Prop} {w hf gd uk un wt wr sn sk : Int32} {a1 a2 a3 a4 a5 a6 a7 a8 a9 a10 a11 a12 a13 a14 a15 a16 a17 a18 a19 a20 a21 a22 a23 a24 a25 a26 : Nat → Int32} {j : Nat} (hj : j < 4) (H : post (nI (mj_ct a7 j 41))) : wpX_changedBlocks post (w, hf, gd, uk, un, wt, wr, sn, sk, a1, a2, a3, a4, a5, a6, a7, a8, a9, a10, a11, a12, a13, a14, a15, a16, a17, a18, a19, a20, a21, a22, a23, a24, a25, a26) (nI j) := by
  unfold wpX_changedBlocks
  refine nm_r (e' := nI (41 * j + 0)) (by rw [show (41 : Int32) = nI 41 from rfl, pk_mul]; rfl) ?_
  refine pk_loop (σ := Unit) (fun n i _ => wX_changedBlocks_7 post (nI j) w hf gd uk un wt wr sn sk a1 a2 a3 a4 a5 a6 a7 a8 a9 a10 a11 a12 a13 a14 a15 a16 a17 a18 a19 a20 a21 a22 a23 a24 a25 a26 n (nI (mj_ct a7 j i)) (nI (41 * j + i))) (fun _ _ => True) 41 0 () (by omega) trivial ?_ ?_
  · intro n s hI
    exact pk_le (41 * j + 41) (41 * j + 41) (fun _ => H) (fun z => absurd z (by omega)) (hx := mj_g j 41)
  · intro n i s hi hI hw
    refine pk_le (41 * j + 41) (41 * j + i) (fun z => absurd z (by omega)) (fun _ => ⟨vp_in_nI (by omega) (by decide), ?_⟩) (hx := mj_g j 41)
    rw [nI_clamp (show 41 * j + i < 2 ^ 31 by omega)]
    refine br_c (fun e => nm_r (e' := nI (mj_ct a7 j (i + 1))) ?_ (nm_r (nI_1 _) (hw () trivial))) (fun e => nm_r (e' := nI (mj_ct a7 j (i + 1))) ?_ (nm_r (nI_1 _) (hw () trivial)))
    · rw [mj_ct_z e]; exact mj_p _ 0 rfl
    · rw [mj_ct_s e]; exact nI_1 _
theorem mj_may {post : Int32 → St2 → Prop} {w hf gd uk un wt wr sn sk : Int32} {a1 a2 a3 a4 a5 a6 a7 a8 a9 a10 a11 a12 a13 a14 a15 a16 a17 a18 a19 a20 a21 a22 a23 a24 a25 a26 : Nat → Int32} {wn : Nat} (hw : w = nI wn) (hn : wn ≤ 1000) (H1 : 0 < wn → post 1 ((nI (wn - 1)), hf, gd, uk, un, wt, wr, sn, sk, a1, a2, a3, a4, a5, a6, a7, a8, a9, a10, a11, a12, a13, a14, a15, a16, a17, a18, a19, a20, a21, a22, a23, a24, a25, a26)) (H0 : wn = 0 → post 0 (w, hf, gd, uk, un, wt, wr, sn, sk, a1, a2, a3, a4, a5, a6, a7, a8, a9, a10, a11, a12, a13, a14, a15, a16, a17, a18, a19, a20, a21, a22, a23, a24, a25, a26)) : wpX_mayWrite post (w, hf, gd, uk, un, wt, wr, sn, sk, a1, a2, a3, a4, a5, a6, a7, a8, a9, a10, a11, a12, a13, a14, a15, a16, a17, a18, a19, a20, a21, a22, a23, a24, a25, a26) := by
  unfold wpX_mayWrite
  exact pk_lt 0 wn (fun z => nm_r (e' := nI (wn - 1)) (by rw [hw]; exact pk_sub (b := 1) (by omega)) (H1 z)) (fun z => H0 (by omega)) (hy := hw)
theorem mj_reach {post : Int32 → Prop} {w hf gd uk un wt wr sn sk : Int32} {a1 a2 a3 a4 a5 a6 a7 a8 a9 a10 a11 a12 a13 a14 a15 a16 a17 a18 a19 a20 a21 a22 a23 a24 a25 a26 : Nat → Int32} (H8 : post 8) (H4 : hf ≠ 0 → post 4) : wpX_reach post (w, hf, gd, uk, un, wt, wr, sn, sk, a1, a2, a3, a4, a5, a6, a7, a8, a9, a10, a11, a12, a13, a14, a15, a16, a17, a18, a19, a20, a21, a22, a23, a24, a25, a26) := by
  unfold wpX_reach
  exact br_c (fun _ => H8) (fun h => br_c (fun _ => H4 h) (fun _ => H8))
theorem mj_rowsFor {post : Int32 → Prop} {u : St0} {n : Nat} (hn : n < 1000) (H : post (nI ((n + 3) / 4 + 1))) : wpX_rowsFor post u (nI n) := by
  unfold wpX_rowsFor
  refine ⟨by decide, ?_⟩
  rw [show (nI n + 4 - 1) / 4 + 1 = nI ((n + 3) / 4 + 1) from by
    rw [show nI n + 4 = nI (n + 4) from mj_p n 4 rfl, show nI (n + 4) - 1 = nI (n + 3) from pk_sub (b := 1) (by omega), show nI (n + 3) / 4 = nI ((n + 3) / 4) from pk_div (d := 4) (by omega) (by omega) (by omega), nI_1]]
  exact H
theorem mj_copyHome {post : St2 → Prop} {w hf gd uk un wt wr sn sk : Int32} {a1 a2 a3 a4 a5 a6 a7 a8 a9 a10 a11 a12 a13 a14 a15 a16 a17 a18 a19 a20 a21 a22 a23 a24 a25 a26 : Nat → Int32} {j b p : Nat} (hj : j < 4) (hb : b < 41) (hp : p < 48)
    (H : ∀ b1 : Nat → Int32, (∀ c, c < 8 → b1 (8 * (41 * j + b) + c) = a2 (8 * (48 * j + p) + c)) → mj_out (8 * (41 * j + b)) 8 a1 b1 → post (w, hf, gd, uk, un, wt, wr, sn, sk, b1, a2, a3, a4, a5, a6, a7, a8, a9, a10, a11, a12, a13, a14, a15, a16, a17, a18, a19, a20, a21, a22, a23, a24, a25, a26)) : wpX_copyHome post (w, hf, gd, uk, un, wt, wr, sn, sk, a1, a2, a3, a4, a5, a6, a7, a8, a9, a10, a11, a12, a13, a14, a15, a16, a17, a18, a19, a20, a21, a22, a23, a24, a25, a26) (nI j) (nI b) (nI p) 8 := by
  unfold wpX_copyHome
  refine pk_loop (fun n i s => wX_copyHome_3 post (nI j) (nI b) (nI p) 8 w hf gd uk un wt wr sn sk n (nI i) s a2 a3 a4 a5 a6 a7 a8 a9 a10 a11 a12 a13 a14 a15 a16 a17 a18 a19 a20 a21 a22 a23 a24 a25 a26) (fun i s => (∀ c, c < i → s (8 * (41 * j + b) + c) = a2 (8 * (48 * j + p) + c)) ∧ mj_out (8 * (41 * j + b)) 8 a1 s) 8 0 a1 (by omega) ⟨fun c hc => absurd hc (by omega), mj_out_r⟩ ?_ ?_
  · intro n s hI
    exact pk_le 8 8 (fun _ => H s hI.1 hI.2) (fun z => absurd z (by omega))
  · intro n i s hi hI hw
    refine pk_le 8 i (fun z => absurd z (by omega)) (fun _ => ?_)
    rw [mj_48, mj_g, mj_8, mj_8, nI_clamp (show 8 * (48 * j + p) + i < 2 ^ 31 by omega), nI_clamp (show 8 * (41 * j + b) + i < 2 ^ 31 by omega)]
    exact ⟨vp_in_nI (by omega) (by decide), vp_in_nI (by omega) (by decide), nm_e (nm_r (nI_1 i) (hw _ ⟨mj_fill (src := fun c => a2 (8 * (48 * j + p) + c)) hI.1 rfl, mj_out_u hI.2 (by omega) (by omega)⟩))⟩
theorem mj_at4 {j num : Nat} (hn : num < 2 ^ 30) : (5 : Int32) * (2 * nI j + (nI num &&& 1)) = nI (10 * j + 5 * (num % 2)) := by
  rw [pk_andN (n := num) (by omega) (m := 1) 1 (by decide), show (2 : Int32) = nI 2 from rfl, show (5 : Int32) = nI 5 from rfl, pk_mul, nI_add, pk_mul]
  congr 1
  omega
theorem mj_writeAnchor {post : St2 → Prop} {w hf gd uk un wt wr sn sk : Int32} {a1 a2 a3 a4 a5 a6 a7 a8 a9 a10 a11 a12 a13 a14 a15 a16 a17 a18 a19 a20 a21 a22 a23 a24 a25 a26 : Nat → Int32} {j num wn : Nat} {rowv imgv : Int32} (hj : j < 4) (hw : w = nI wn) (hn : wn ≤ 1000) (hh : hf = 0) (e14 : a14 j = nI num) (hnum : num < 2 ^ 30)
    (H0 : wn = 0 → post (w, hf, gd, uk, un, wt, wr, sn, sk, a1, a2, a3, a4, a5, a6, a7, a8, a9, a10, a11, a12, a13, a14, a15, a16, a17, a18, a19, a20, a21, a22, a23, a24, a25, a26))
    (H1 : ∀ (t : Nat) (b4 : Nat → Int32), t = 10 * j + 5 * (num % 2) → 0 < wn → b4 t = nI (num + 1) → b4 (t + 1) = rowv → b4 (t + 2) = imgv → b4 (t + 3) = a13 j → b4 (t + 4) = nI (num + 1) → mj_out t 5 a4 b4 → post ((nI (wn - 1)), hf, gd, uk, un, wt, wr, sn, sk, a1, a2, a3, b4, a5, a6, a7, a8, (upd a9 j rowv), (upd a10 j 0), (upd a11 j imgv), (upd a12 j 0), a13, (upd a14 j (nI (num + 1))), a15, a16, a17, a18, a19, a20, a21, a22, a23, a24, a25, a26)) :
    wpX_writeAnchor post (w, hf, gd, uk, un, wt, wr, sn, sk, a1, a2, a3, a4, a5, a6, a7, a8, a9, a10, a11, a12, a13, a14, a15, a16, a17, a18, a19, a20, a21, a22, a23, a24, a25, a26) (nI j) rowv imgv := by
  unfold wpX_writeAnchor
  refine mj_may hw hn (fun h1 => br_f (by decide) ?_) (fun h0 => br_t rfl (H0 h0))
  obtain ⟨t, ht⟩ : ∃ t, t = 10 * j + 5 * (num % 2) := ⟨_, rfl⟩
  rw [nI_clamp (show j < 2 ^ 31 by omega), e14, mj_at4 hnum, ← ht]
  have vj : vp_in (nI j) 4 := vp_in_nI hj (by decide)
  refine ⟨vj, nm_e ⟨vj, vj, nm_r (e' := upd a14 j (nI (num + 1))) (by rw [nI_1]) ?_⟩⟩
  rw [show upd a14 j (nI (num + 1)) j = nI (num + 1) from pk_us, show nI t + 1 = nI (t + 1) from nI_1 t, show nI t + 2 = nI (t + 2) from mj_p t 2 rfl, show nI t + 3 = nI (t + 3) from mj_p t 3 rfl, show nI t + 4 = nI (t + 4) from mj_p t 4 rfl,
    nI_clamp (show t < 2 ^ 31 by omega), nI_clamp (show t + 1 < 2 ^ 31 by omega), nI_clamp (show t + 2 < 2 ^ 31 by omega), nI_clamp (show t + 3 < 2 ^ 31 by omega), nI_clamp (show t + 4 < 2 ^ 31 by omega)]
  refine ⟨vj, vp_in_nI (by omega) (by decide), nm_e ⟨vp_in_nI (by omega) (by decide), nm_e (mj_reach ?_ (fun z => absurd hh z))⟩⟩
  refine br_t (by decide) ⟨vp_in_nI (by omega) (by decide), nm_e ⟨vj, vp_in_nI (by omega) (by decide), nm_e ⟨vj, vp_in_nI (by omega) (by decide), nm_e ⟨vj, nm_e ⟨vj, nm_e ⟨vj, nm_e ⟨vj, nm_e ?_⟩⟩⟩⟩⟩⟩⟩
  refine H1 t _ ht h1 ?_ ?_ ?_ ?_ ?_ ?_
  · rw [pk_un (by omega), pk_un (by omega), pk_un (by omega), pk_un (by omega), pk_us]
  · rw [pk_un (by omega), pk_un (by omega), pk_un (by omega), pk_us]
  · rw [pk_un (by omega), pk_un (by omega), pk_us]
  · rw [pk_un (by omega), pk_us]
  · rw [pk_us]
  · exact mj_out_u (mj_out_u (mj_out_u (mj_out_u (mj_out_u mj_out_r (by omega) (by omega)) (by omega) (by omega)) (by omega) (by omega)) (by omega) (by omega)) (by omega) (by omega)
/-! writing home -/
theorem mj_ov_or {a2 : Nat → Int32} {j I : Nat} {bs : Nat → Nat} {D E D' : Nat → Nat → Int32} {b c : Nat} (h : E b c = D b c ∨ E b c = D' b c) : ∀ l, mj_ov a2 j I bs l E b c = mj_ov a2 j I bs l D b c ∨ mj_ov a2 j I bs l E b c = D' b c
  | 0 => h
  | l + 1 => by
    show (if b = bs l then a2 (8 * (48 * j + (I + l) % 48) + c) else mj_ov a2 j I bs l E b c) = (if b = bs l then a2 (8 * (48 * j + (I + l) % 48) + c) else mj_ov a2 j I bs l D b c) ∨ (if b = bs l then a2 (8 * (48 * j + (I + l) % 48) + c) else mj_ov a2 j I bs l E b c) = D' b c
    by_cases e : b = bs l
    · rw [if_pos e, if_pos e]; exact Or.inl rfl
    · rw [if_neg e, if_neg e]; exact mj_ov_or h l
theorem mj_path_home {a2 a3 : Nat → Int32} {j : Nat} : ∀ (n : Nat) {A I N : Nat} {D E : Nat → Nat → Int32} {A' I' N' : Nat} {D' : Nat → Nat → Int32}, (∀ b c, b < 41 → c < 8 → E b c = D b c ∨ E b c = D' b c) → mj_path a2 a3 j n A I N D A' I' N' D' → mj_path a2 a3 j n A I N E A' I' N' D'
  | 0, _, _, _, _, _, _, _, _, _, hE, h => by
    obtain ⟨h1, h2, h3, h4⟩ := h
    refine ⟨h1, h2, h3, fun b c hb hc => ?_⟩
    rcases hE b c hb hc with e | e
    · rw [e, h4 b c hb hc]
    · exact e
  | n + 1, _, _, _, _, _, _, _, _, _, hE, h => by
    obtain ⟨l, bs, h0, h41, hb, hs, hp⟩ := h
    exact ⟨l, bs, h0, h41, hb, hs, mj_path_home n (fun b c h1 h2 => mj_ov_or (hE b c h1 h2) l) hp⟩
end
section
theorem mj_nm1 {p : Nat} (h : p < 2 ^ 31) : ¬ nI p = -1 := by
  intro z
  have := nI_pos h
  rw [z] at this
  exact this (by decide)
theorem mj_wh81 {post : St2 → Prop} {J4 : Int32 → Int32 → Int32 → Int32 → Int32 → Int32 → Int32 → Int32 → Int32 → Int32 → Int32 → (Nat → Int32) → (Nat → Int32) → (Nat → Int32) → (Nat → Int32) → (Nat → Int32) → (Nat → Int32) → (Nat → Int32) → (Nat → Int32) → (Nat → Int32) → (Nat → Int32) → (Nat → Int32) → (Nat → Int32) → (Nat → Int32) → (Nat → Int32) → (Nat → Int32) → (Nat → Int32) → (Nat → Int32) → (Nat → Int32) → (Nat → Int32) → (Nat → Int32) → (Nat → Int32) → (Nat → Int32) → (Nat → Int32) → (Nat → Int32) → (Nat → Int32) → (Nat → Int32) → Prop} {w hf gd uk un wt wr sn sk : Int32} {a1 a2 a3 a4 a5 a6 a7 a8 a9 a10 a11 a12 a13 a14 a15 a16 a17 a18 a19 a20 a21 a22 a23 a24 a25 a26 : Nat → Int32} {x2 : Int32} {j i : Nat} (hj : j < 4) (hi : i < 41)
    (h8 : a8 (41 * j + i) = -1 ∨ ∃ p, p < 48 ∧ a8 (41 * j + i) = nI p)
    (H0 : x2 = 0 ∨ ¬ a8 (41 * j + i) = -1 → J4 0 (nI (i + 1)) w hf gd uk un wt wr sn sk a1 a2 a3 a4 a5 a6 a7 a8 a9 a10 a11 a12 a13 a14 a15 a16 a17 a18 a19 a20 a21 a22 a23 a24 a25 a26) (H1 : ¬ x2 = 0 → a8 (41 * j + i) = -1 → J4 1 (nI (i + 1)) w hf gd uk un wt wr sn sk a1 a2 a3 a4 a5 a6 a7 a8 a9 a10 a11 a12 a13 a14 a15 a16 a17 a18 a19 a20 a21 a22 a23 a24 a25 a26) :
    wX_writeHomes_81 post J4 (nI j) x2 (nI i) (nI (41 * j + i)) w hf gd uk un wt wr sn sk a1 a2 a3 a4 a5 a6 a7 a8 a9 a10 a11 a12 a13 a14 a15 a16 a17 a18 a19 a20 a21 a22 a23 a24 a25 a26 := by
  unfold wX_writeHomes_81
  rw [nI_clamp (show 41 * j + i < 2 ^ 31 by omega)]
  refine br_c (fun e => nm_r (nI_1 i) (H0 (Or.inl e))) (fun e => ⟨vp_in_nI (by omega) (by decide), ?_⟩)
  rcases h8 with e8 | ⟨p, hp, e8⟩
  · exact br_f (by rw [e8]; decide) (nm_r (nI_1 i) (H1 e e8))
  · exact br_t (by rw [e8]; exact nI_pos' (by omega)) (nm_r (nI_1 i) (H0 (Or.inr (by rw [e8]; exact mj_nm1 (by omega)))))
theorem mj_img8 {j b I IU : Nat} {sv : Nat → Nat → Int32} {a1 a2 a8 : Nat → Int32} (h : mj_img j b I IU sv a1 a2 a8) : a8 (41 * j + b) = -1 ∨ ∃ p, p < 48 ∧ a8 (41 * j + b) = nI p := by
  rcases h with ⟨e, _⟩ | ⟨q, _, e, _⟩
  · exact Or.inl e
  · exact Or.inr ⟨_, by omega, e⟩
set_option maxHeartbeats 4000000 in
theorem mj_writeHomes {post : St2 → Prop} {w hf gd uk un wt wr sn sk : Int32} {a1 a2 a3 a4 a5 a6 a7 a8 a9 a10 a11 a12 a13 a14 a15 a16 a17 a18 a19 a20 a21 a22 a23 a24 a25 a26 : Nat → Int32} {sv : Nat → Nat → Int32} {T j wn : Nat} (h : mj_JR j sv T a1 a2 a3 a4 a8 a9 a10 a11 a12 a13 a14) (hT : T < 2 ^ 29) (hj : j < 4) (hw : w = nI wn) (hn : wn ≤ 1000) (hh : hf = 0)
    (H : ∀ (w' : Int32) (b1 b4 b8 b9 b10 b11 b12 b14 : Nat → Int32), mj_JR j sv (T + 1) b1 a2 a3 b4 b8 b9 b10 b11 b12 a13 b14 → (42 ≤ wn → b10 j = 0 ∧ b12 j = 0) → mj_out (328 * j) 328 a1 b1 → mj_out (10 * j) 10 a4 b4 → mj_out (41 * j) 41 a8 b8 → mj_out j 1 a9 b9 → mj_out j 1 a10 b10 → mj_out j 1 a11 b11 → mj_out j 1 a12 b12 → mj_out j 1 a14 b14 →
      post (w', hf, gd, uk, un, wt, wr, sn, sk, b1, a2, a3, b4, a5, a6, a7, b8, b9, b10, b11, b12, a13, b14, a15, a16, a17, a18, a19, a20, a21, a22, a23, a24, a25, a26)) : wpX_writeHomes post (w, hf, gd, uk, un, wt, wr, sn, sk, a1, a2, a3, a4, a5, a6, a7, a8, a9, a10, a11, a12, a13, a14, a15, a16, a17, a18, a19, a20, a21, a22, a23, a24, a25, a26) (nI j) := by
  obtain ⟨n, A, RU, I, IU, N0, N, num, ⟨q1, q2, q3, q4, q5, q6, q7⟩, ⟨v9, v10, v11, v12, v13, v14⟩, ha, hp, hr, hi⟩ := h
  have vj : vp_in (nI j) 4 := vp_in_nI hj (by decide)
  unfold wpX_writeHomes
  refine pk_loop (σ := Int32 × Int32 × (Nat → Int32) × (Nat → Int32)) (fun m i s => wX_writeHomes_4 post (nI j) m s.1 (nI i) s.2.1 hf gd uk un wt wr sn sk s.2.2.1 a2 a3 a4 a5 a6 a7 s.2.2.2 a9 a10 a11 a12 a13 a14 a15 a16 a17 a18 a19 a20 a21 a22 a23 a24 a25 a26)
    (fun i s => ∃ v, s.2.1 = nI v ∧ v ≤ 1000 ∧ wn ≤ v + i ∧ ((s.1 = 1 ∧ ∀ b, b < i → s.2.2.2 (41 * j + b) = -1) ∨ (s.1 = 0 ∧ wn < 42)) ∧ (∀ b, b < 41 → mj_img j b I IU sv s.2.2.1 a2 s.2.2.2) ∧ (∀ b c, b < 41 → c < 8 → s.2.2.1 (8 * (41 * j + b) + c) = a1 (8 * (41 * j + b) + c) ∨ s.2.2.1 (8 * (41 * j + b) + c) = sv b c) ∧ mj_out (328 * j) 328 a1 s.2.2.1 ∧ mj_out (41 * j) 41 a8 s.2.2.2)
    41 0 (1, w, a1, a8) (by omega) ⟨wn, hw, hn, by omega, Or.inl ⟨rfl, fun b hb => absurd hb (by omega)⟩, hi, fun b c _ _ => Or.inl rfl, mj_out_r, mj_out_r⟩ ?_ ?_
  · intro m s hI
    obtain ⟨x2, w2, s1, s8⟩ := s
    obtain ⟨v, e1, hv1, hv2, hall, him, hd, o1, o8⟩ := hI
    dsimp only at e1 hall him hd o1 o8
    show wX_writeHomes_4 post (nI j) (m + 1) x2 (nI 41) w2 hf gd uk un wt wr sn sk s1 a2 a3 a4 a5 a6 a7 s8 a9 a10 a11 a12 a13 a14 a15 a16 a17 a18 a19 a20 a21 a22 a23 a24 a25 a26
    have keep : ∀ b10 b12 : Nat → Int32, b10 = a10 → b12 = a12 → mj_JR j sv (T + 1) s1 a2 a3 a4 s8 a9 a10 a11 a12 a13 a14 := fun _ _ _ _ => ⟨n, A, RU, I, IU, N0, N, num, ⟨q1, q2, q3, q4, by omega, q6, by omega⟩, ⟨v9, v10, v11, v12, v13, v14⟩, ha, mj_path_home n hd hp, hr, him⟩
    refine pk_le 41 41 (fun _ => ?_) (fun z => absurd z (by omega))
    rcases hall with ⟨e, ha8⟩ | ⟨e, hlt⟩
    · refine br_f (by rw [e]; decide) ?_
      rw [nI_clamp (show j < 2 ^ 31 by omega), v10]
      refine ⟨vj, pk_le RU 0 (fun z => ?_) (fun z => ?_)⟩
      · have hl := mj_path_le n hp
        refine H w2 s1 a4 s8 a9 a10 a11 a12 a14 (keep a10 a12 rfl rfl) (fun _ => ⟨?_, ?_⟩) o1 mj_out_r o8 mj_out_r mj_out_r mj_out_r mj_out_r mj_out_r
        · rw [v10, show RU = 0 by omega]; rfl
        · have hz : n = 0 := by omega
          subst hz
          obtain ⟨_, h2, _, _⟩ := hp
          rw [v12, show IU = 0 by omega]; rfl
      · rw [v9, v11, v12, nI_add, nI_add, mj_rem14 (show A + RU < 2 ^ 31 by omega), mj_rem48 (show I + IU < 2 ^ 31 by omega)]
        refine ⟨vj, vj, by decide, nm_e ⟨vj, vj, by decide, nm_e ?_⟩⟩
        refine mj_writeAnchor hj e1 hv1 hh v14 (by omega) (fun z0 => H w2 s1 a4 s8 a9 a10 a11 a12 a14 (keep a10 a12 rfl rfl) (fun z1 => absurd z1 (by omega)) o1 mj_out_r o8 mj_out_r mj_out_r mj_out_r mj_out_r mj_out_r) (fun t b4 ht hv0 f0 f1 f2 f3 f4 o4 => ?_)
        have hdsk : ∀ b c, b < 41 → c < 8 → s1 (8 * (41 * j + b) + c) = sv b c := by
          intro b c hb hc
          rcases him b hb with ⟨_, h1⟩ | ⟨q, _, e8, _⟩
          · exact h1 c hc
          · exact absurd (e8.symm.trans (ha8 b hb)) (mj_nm1 (by omega))
        refine H _ s1 b4 s8 _ _ _ _ _ ⟨0, (A + RU) % 14, 0, (I + IU) % 48, 0, N, N, num + 1, ⟨by omega, by omega, by omega, by omega, by omega, by omega, by omega⟩, ⟨pk_us, pk_us, pk_us, pk_us, v13, pk_us⟩, ?_, ⟨by omega, by omega, rfl, hdsk⟩, hr, fun b hb => Or.inl ⟨ha8 b hb, fun c hc => hdsk b c hb hc⟩⟩ (fun _ => ⟨pk_us, pk_us⟩) o1 (mj_out_w o4 (by omega) (by omega)) o8 (mj_out_u mj_out_r (by omega) (by omega)) (mj_out_u mj_out_r (by omega) (by omega)) (mj_out_u mj_out_r (by omega) (by omega)) (mj_out_u mj_out_r (by omega) (by omega)) (mj_out_u mj_out_r (by omega) (by omega))
        have hp2 : 10 * j + 5 * ((num + 1 + 1) % 2) = t := by omega
        unfold mj_anc
        rw [hp2, f0, f1, f2, f3, f4, v13]
        exact ⟨rfl, rfl, rfl, rfl, rfl, num, by omega, by rw [o4 _ (by omega)]; exact ha.1⟩
    · refine br_t e (H w2 s1 a4 s8 a9 a10 a11 a12 a14 (keep a10 a12 rfl rfl) (fun z1 => absurd z1 (by omega)) o1 mj_out_r o8 mj_out_r mj_out_r mj_out_r mj_out_r mj_out_r)
  · intro m i s hi' hI hw'
    obtain ⟨x2, w2, s1, s8⟩ := s
    obtain ⟨v, e1, hv1, hv2, hall, him, hd, o1, o8⟩ := hI
    dsimp only at e1 hall him hd o1 o8
    show wX_writeHomes_4 post (nI j) (m + 1) x2 (nI i) w2 hf gd uk un wt wr sn sk s1 a2 a3 a4 a5 a6 a7 s8 a9 a10 a11 a12 a13 a14 a15 a16 a17 a18 a19 a20 a21 a22 a23 a24 a25 a26
    refine pk_le 41 i (fun z => absurd z (by omega)) (fun _ => nm_r (mj_g j i) ⟨vp_in_nI (by omega) (by decide), ?_⟩)
    rw [nI_clamp (show 41 * j + i < 2 ^ 31 by omega)]
    rcases him i hi' with ⟨e8, hd8⟩ | ⟨q, hq, e8, h2⟩
    · refine br_t (by rw [e8]; decide) ?_
      refine mj_wh81 hj hi' (Or.inl e8) (fun z => ?_) (fun z _ => ?_)
      · refine hw' (0, w2, s1, s8) ⟨v, e1, hv1, by omega, Or.inr ⟨rfl, ?_⟩, him, hd, o1, o8⟩
        rcases hall with ⟨e, _⟩ | ⟨_, hlt⟩
        · rcases z with z | z
          · exact absurd (e.symm.trans z) (by decide)
          · exact absurd e8 z
        · exact hlt
      · refine hw' (1, w2, s1, s8) ⟨v, e1, hv1, by omega, Or.inl ⟨rfl, fun b hb => ?_⟩, him, hd, o1, o8⟩
        rcases hall with ⟨_, h8⟩ | ⟨e, _⟩
        · by_cases eb : b = i
          · rw [eb]; exact e8
          · exact h8 b (by omega)
        · exact absurd e z
    · refine br_f (by rw [e8]; exact nI_pos (by omega)) ?_
      refine mj_may e1 hv1 (fun hv0 => br_f (by decide) ?_) (fun hv0 => br_t rfl ?_)
      · refine mj_reach ⟨vp_in_nI (by omega) (by decide), ?_⟩ (fun z => absurd hh z)
        rw [e8]
        refine mj_copyHome hj hi' (by omega) (fun b1 c1 oo1 => br_t rfl ?_)
        unfold wX_writeHomes_80
        rw [nI_clamp (show 41 * j + i < 2 ^ 31 by omega)]
        refine ⟨vp_in_nI (by omega) (by decide), nm_e ?_⟩
        have him' : ∀ b, b < 41 → mj_img j b I IU sv b1 a2 (upd s8 (41 * j + i) (-1)) := by
          intro b hb
          by_cases eb : b = i
          · subst eb
            exact Or.inl ⟨pk_us, fun c hc => by rw [c1 c hc, h2 c hc]⟩
          · have hh1 := him b hb
            unfold mj_img at hh1 ⊢
            rw [pk_un (by omega)]
            rcases hh1 with ⟨f8, g1⟩ | hh1
            · exact Or.inl ⟨f8, fun c hc => by rw [oo1 _ (by omega)]; exact g1 c hc⟩
            · exact Or.inr hh1
        have hd' : ∀ b c, b < 41 → c < 8 → b1 (8 * (41 * j + b) + c) = a1 (8 * (41 * j + b) + c) ∨ b1 (8 * (41 * j + b) + c) = sv b c := by
          intro b c hb hc
          by_cases eb : b = i
          · subst eb
            exact Or.inr (by rw [c1 c hc, h2 c hc])
          · rw [oo1 _ (by omega)]
            exact hd b c hb hc
        refine mj_wh81 hj hi' (Or.inl pk_us) (fun z => ?_) (fun z _ => ?_)
        · refine hw' (0, nI (v - 1), b1, upd s8 (41 * j + i) (-1)) ⟨v - 1, rfl, by omega, by omega, Or.inr ⟨rfl, ?_⟩, him', hd', mj_out_t o1 (mj_out_w oo1 (by omega) (by omega)), mj_out_u o8 (by omega) (by omega)⟩
          rcases hall with ⟨e, _⟩ | ⟨_, hlt⟩
          · rcases z with z | z
            · exact absurd (e.symm.trans z) (by decide)
            · exact absurd pk_us z
          · exact hlt
        · refine hw' (1, nI (v - 1), b1, upd s8 (41 * j + i) (-1)) ⟨v - 1, rfl, by omega, by omega, Or.inl ⟨rfl, fun b hb => ?_⟩, him', hd', mj_out_t o1 (mj_out_w oo1 (by omega) (by omega)), mj_out_u o8 (by omega) (by omega)⟩
          show upd s8 (41 * j + i) (-1) (41 * j + b) = -1
          rcases hall with ⟨_, h8⟩ | ⟨e, _⟩
          · by_cases eb : b = i
            · rw [eb, pk_us]
            · rw [pk_un (by omega)]; exact h8 b (by omega)
          · exact absurd e z
      · refine mj_wh81 hj hi' (Or.inr ⟨_, by omega, e8⟩) (fun z => ?_) (fun _ z => absurd (e8.symm.trans z) (mj_nm1 (by omega)))
        exact hw' (0, w2, s1, s8) ⟨v, e1, hv1, by omega, Or.inr ⟨rfl, by omega⟩, him, hd, o1, o8⟩
theorem mj_makeRoom {post : St2 → Prop} {w hf gd uk un wt wr sn sk : Int32} {a1 a2 a3 a4 a5 a6 a7 a8 a9 a10 a11 a12 a13 a14 a15 a16 a17 a18 a19 a20 a21 a22 a23 a24 a25 a26 : Nat → Int32} {sv : Nat → Nat → Int32} {T j B : Nat} (h : mj_JR j sv T a1 a2 a3 a4 a8 a9 a10 a11 a12 a13 a14) (hT : T < 2 ^ 29) (hj : j < 4) (hB : B ≤ 41)
    (H : ∀ (w' hf' : Int32) (b1 b4 b8 b9 b10 b11 b12 b14 : Nat → Int32), mj_JR j sv (T + 1) b1 a2 a3 b4 b8 b9 b10 b11 b12 a13 b14 → (∃ RU IU : Nat, b10 j = nI RU ∧ b12 j = nI IU ∧ RU + ((B + 3) / 4 + 1) ≤ 14 ∧ IU + B ≤ 48) → mj_out (328 * j) 328 a1 b1 → mj_out (10 * j) 10 a4 b4 → mj_out (41 * j) 41 a8 b8 → mj_out j 1 a9 b9 → mj_out j 1 a10 b10 → mj_out j 1 a11 b11 → mj_out j 1 a12 b12 → mj_out j 1 a14 b14 →
      post (w', hf', gd, uk, un, wt, wr, sn, sk, b1, a2, a3, b4, a5, a6, a7, b8, b9, b10, b11, b12, a13, b14, a15, a16, a17, a18, a19, a20, a21, a22, a23, a24, a25, a26)) : wpX_makeRoom post (w, hf, gd, uk, un, wt, wr, sn, sk, a1, a2, a3, a4, a5, a6, a7, a8, a9, a10, a11, a12, a13, a14, a15, a16, a17, a18, a19, a20, a21, a22, a23, a24, a25, a26) (nI j) (nI B) := by
  have vj : vp_in (nI j) 4 := vp_in_nI hj (by decide)
  have go : wX_makeRoom_31 post (nI j) w hf gd uk un wt wr sn sk a1 a2 a3 a4 a5 a6 a7 a8 a9 a10 a11 a12 a13 a14 a15 a16 a17 a18 a19 a20 a21 a22 a23 a24 a25 a26 := by
    unfold wX_makeRoom_31
    refine mj_writeHomes (wn := 1000) h hT hj rfl (by omega) rfl (fun w' b1 b4 b8 b9 b10 b11 b12 b14 hJ hz o1 o4 o8 o9 o10 o11 o12 o14 => ?_)
    obtain ⟨z1, z2⟩ := hz (by omega)
    exact H w' 0 b1 b4 b8 b9 b10 b11 b12 b14 hJ ⟨0, 0, z1, z2, by omega, by omega⟩ o1 o4 o8 o9 o10 o11 o12 o14
  unfold wpX_makeRoom
  refine mj_rowsFor (by omega) ⟨vj, ?_⟩
  obtain ⟨n, A, RU, I, IU, N0, N, num, ⟨q1, q2, q3, q4, q5, q6, q7⟩, ⟨v9, v10, v11, v12, v13, v14⟩, hrest⟩ := h
  rw [nI_clamp (show j < 2 ^ 31 by omega), v10, v12, nI_add, nI_add]
  refine pk_lt 14 (RU + ((B + 3) / 4 + 1)) (fun _ => go) (fun z => ⟨vj, pk_le (IU + B) 48 (fun z2 => ?_) (fun _ => go)⟩)
  exact H w hf a1 a4 a8 a9 a10 a11 a12 a14 (mj_JR_mono (by omega) ⟨n, A, RU, I, IU, N0, N, num, ⟨q1, q2, q3, q4, q5, q6, q7⟩, ⟨v9, v10, v11, v12, v13, v14⟩, hrest⟩) ⟨RU, IU, v10, v12, by omega, by omega⟩ mj_out_r mj_out_r mj_out_r mj_out_r mj_out_r mj_out_r mj_out_r mj_out_r
end
section
/-! one saving -/
theorem mj_8m (g : Nat) : (8 : Int32) * nI g = nI (8 * g) := by
  rw [show (8 : Int32) = nI 8 from rfl, pk_mul]
theorem mj_rowCell {post : Int32 → Prop} {w hf gd uk un wt wr sn sk : Int32} {a1 a2 a3 a4 a5 a6 a7 a8 a9 a10 a11 a12 a13 a14 a15 a16 a17 a18 a19 a20 a21 a22 a23 a24 a25 a26 : Nat → Int32} {j A k : Nat} (hj : j < 4) (e9 : a9 j = nI A) (hk : A + k < 2 ^ 31) (H : post (nI (8 * (14 * j + (A + k) % 14)))) : wpX_rowCell post (w, hf, gd, uk, un, wt, wr, sn, sk, a1, a2, a3, a4, a5, a6, a7, a8, a9, a10, a11, a12, a13, a14, a15, a16, a17, a18, a19, a20, a21, a22, a23, a24, a25, a26) (nI j) (nI k) := by
  unfold wpX_rowCell
  dsimp only
  rw [nI_clamp (show j < 2 ^ 31 by omega), e9, nI_add, mj_rem14 hk, mj_14, mj_8m]
  exact ⟨vp_in_nI hj (by decide), by decide, H⟩
theorem mj_wi42 {post : St2 → Prop} {w hf gd uk un wt wr sn sk : Int32} {a1 a2 a3 a4 a5 a6 a7 a8 a9 a10 a11 a12 a13 a14 a15 a16 a17 a18 a19 a20 a21 a22 a23 a24 a25 a26 : Nat → Int32} {j b p r : Nat} (hj : j < 4) (hb : b < 41) (hp : p < 192) (hr : r ≤ 8)
    (H : ∀ b2 : Nat → Int32, (∀ c, c < r → b2 (8 * p + c) = a5 (8 * (41 * j + b) + c)) → mj_out (8 * p) 8 a2 b2 → post (w, hf, gd, uk, un, wt, wr, sn, sk, a1, b2, a3, a4, a5, a6, a7, a8, a9, a10, a11, a12, a13, a14, a15, a16, a17, a18, a19, a20, a21, a22, a23, a24, a25, a26)) : ∃ n, wX_writeImage_42 post (nI j) (nI b) (nI p) (nI r) w hf gd uk un wt wr sn sk n 0 a1 a2 a3 a4 a5 a6 a7 a8 a9 a10 a11 a12 a13 a14 a15 a16 a17 a18 a19 a20 a21 a22 a23 a24 a25 a26 := by
  refine pk_loop (fun n i s => wX_writeImage_42 post (nI j) (nI b) (nI p) (nI r) w hf gd uk un wt wr sn sk n (nI i) a1 s a3 a4 a5 a6 a7 a8 a9 a10 a11 a12 a13 a14 a15 a16 a17 a18 a19 a20 a21 a22 a23 a24 a25 a26) (fun i s => (∀ c, c < i → s (8 * p + c) = a5 (8 * (41 * j + b) + c)) ∧ mj_out (8 * p) 8 a2 s) r 0 a2 (by omega) ⟨fun c hc => absurd hc (by omega), mj_out_r⟩ ?_ ?_
  · intro n s hI
    exact pk_le r r (fun _ => H s hI.1 hI.2) (fun z => absurd z (by omega))
  · intro n i s hi hI hw
    refine pk_le r i (fun z => absurd z (by omega)) (fun _ => ?_)
    rw [mj_g, mj_8, mj_8, nI_clamp (show 8 * (41 * j + b) + i < 2 ^ 31 by omega), nI_clamp (show 8 * p + i < 2 ^ 31 by omega)]
    exact ⟨vp_in_nI (by omega) (by decide), vp_in_nI (by omega) (by decide), nm_e (nm_r (nI_1 i) (hw _ ⟨mj_fill (src := fun c => a5 (8 * (41 * j + b) + c)) hI.1 rfl, mj_out_u hI.2 (by omega) (by omega)⟩))⟩
theorem mj_writeImage {post : St2 → Prop} {w hf gd uk un wt wr sn sk : Int32} {a1 a2 a3 a4 a5 a6 a7 a8 a9 a10 a11 a12 a13 a14 a15 a16 a17 a18 a19 a20 a21 a22 a23 a24 a25 a26 : Nat → Int32} {j b I IU q wn : Nat} (hj : j < 4) (hb : b < 41) (hI : I < 48) (hIU : IU ≤ 48) (hq : q ≤ 48) (e11 : a11 j = nI I) (e12 : a12 j = nI IU) (hw : w = nI wn) (hn : wn ≤ 1000)
    (H : ∀ b2 : Nat → Int32, mj_out (8 * (48 * j + (I + IU + q) % 48)) 8 a2 b2 → (hf = 0 → 0 < wn → ∀ c, c < 8 → b2 (8 * (48 * j + (I + IU + q) % 48) + c) = a5 (8 * (41 * j + b) + c)) → post ((nI (wn - 1)), hf, gd, uk, un, wt, wr, sn, sk, a1, b2, a3, a4, a5, a6, a7, a8, a9, a10, a11, a12, a13, a14, a15, a16, a17, a18, a19, a20, a21, a22, a23, a24, a25, a26)) :
    wpX_writeImage post (w, hf, gd, uk, un, wt, wr, sn, sk, a1, a2, a3, a4, a5, a6, a7, a8, a9, a10, a11, a12, a13, a14, a15, a16, a17, a18, a19, a20, a21, a22, a23, a24, a25, a26) (nI j) (nI q) (nI b) := by
  subst hw
  unfold wpX_writeImage
  have vj : vp_in (nI j) 4 := vp_in_nI hj (by decide)
  refine mj_may rfl hn (fun h1 => br_f (by decide) ?_) (fun h0 => br_t rfl ?_)
  · rw [nI_clamp (show j < 2 ^ 31 by omega), e11, e12, nI_add, nI_add, mj_rem48 (show I + IU + q < 2 ^ 31 by omega), mj_48]
    refine ⟨vj, vj, by decide, nm_e (mj_reach ?_ (fun hne => ?_))⟩
    · exact mj_wi42 (r := 8) hj hb (by omega) (by omega) (fun b2 h2 o2 => H b2 o2 (fun _ _ => h2))
    · exact mj_wi42 (r := 4) hj hb (by omega) (by omega) (fun b2 h2 o2 => H b2 o2 (fun z => absurd z hne))
  · subst h0
    exact H a2 mj_out_r (fun _ z => absurd z (by omega))
theorem mj_wl86 {post : St2 → Prop} {w hf gd uk un wt wr sn sk : Int32} {a1 a2 a3 a4 a5 a6 a7 a8 a9 a10 a11 a12 a13 a14 a15 a16 a17 a18 a19 a20 a21 a22 a23 a24 a25 a26 : Nat → Int32} {j t N : Nat} (hj : j < 4) (ht : t + 8 ≤ 448) (e13 : a13 j = nI N)
    (H : ∀ b3 : Nat → Int32, (∀ i, i < t + 4 ∨ t + 8 ≤ i → b3 i = a3 i) → (∀ i, 1 ≤ i → i < 4 → b3 (t + (3 + i)) = a18 i) → b3 (t + 7) = nI N → post (w, hf, gd, uk, un, wt, wr, sn, sk, a1, a2, b3, a4, a5, a6, a7, a8, a9, a10, a11, a12, a13, a14, a15, a16, a17, a18, a19, a20, a21, a22, a23, a24, a25, a26)) : ∃ n, wX_writeList_86 post (nI j) (nI t) w hf gd uk un wt wr sn sk n 1 a1 a2 a3 a4 a5 a6 a7 a8 a9 a10 a11 a12 a13 a14 a15 a16 a17 a18 a19 a20 a21 a22 a23 a24 a25 a26 := by
  refine pk_loop (fun n i s => wX_writeList_86 post (nI j) (nI t) w hf gd uk un wt wr sn sk n (nI i) a1 a2 s a4 a5 a6 a7 a8 a9 a10 a11 a12 a13 a14 a15 a16 a17 a18 a19 a20 a21 a22 a23 a24 a25 a26) (fun i s => 1 ≤ i ∧ (∀ x, x < t + 4 ∨ t + 8 ≤ x → s x = a3 x) ∧ (∀ k, 1 ≤ k → k < i → s (t + (3 + k)) = a18 k)) 4 1 a3 (by omega) ⟨by omega, fun _ _ => rfl, fun k h1 h2 => absurd h2 (by omega)⟩ ?_ ?_
  · intro n s hI
    refine pk_le 4 4 (fun _ => ?_) (fun z => absurd z (by omega))
    rw [show nI t + 7 = nI (t + 7) from mj_p t 7 rfl, nI_clamp (show t + 7 < 2 ^ 31 by omega), nI_clamp (show j < 2 ^ 31 by omega), e13]
    refine ⟨vp_in_nI hj (by decide), vp_in_nI (by omega) (by decide), nm_e (H _ (fun i hi => ?_) (fun i h1 h2 => ?_) pk_us)⟩
    · rw [pk_un (by omega)]; exact hI.2.1 i (by omega)
    · rw [pk_un (by omega)]; exact hI.2.2 i h1 h2
  · intro n i s hi hI hw
    refine pk_le 4 i (fun z => absurd z (by omega)) (fun _ => ?_)
    have h1 := hI.1
    rw [show nI t + 3 = nI (t + 3) from mj_p t 3 rfl, nI_add, nI_clamp (show t + 3 + i < 2 ^ 31 by omega), nI_clamp (show i < 2 ^ 31 by omega)]
    refine ⟨vp_in_nI (by omega) (by decide), vp_in_nI (by omega) (by decide), nm_e (nm_r (nI_1 i) (hw _ ⟨by omega, fun x hx => ?_, fun k k1 k2 => ?_⟩))⟩
    · rw [pk_un (by omega)]; exact hI.2.1 x hx
    · by_cases e : k = i
      · rw [e, show t + (3 + i) = t + 3 + i by omega, pk_us]
      · rw [pk_un (by omega)]; exact hI.2.2 k k1 (by omega)
theorem mj_writeList {post : St2 → Prop} {w hf gd uk un wt wr sn sk : Int32} {a1 a2 a3 a4 a5 a6 a7 a8 a9 a10 a11 a12 a13 a14 a15 a16 a17 a18 a19 a20 a21 a22 a23 a24 a25 a26 : Nat → Int32} {j A RU rw N wn : Nat} (hj : j < 4) (hA : A + (RU + rw) < 1000) (e9 : a9 j = nI A) (e10 : a10 j = nI RU) (e13 : a13 j = nI N) (hw : w = nI wn) (hn : wn ≤ 1000)
    (H : ∀ (t : Nat) (b3 : Nat → Int32), t = 8 * (14 * j + (A + RU + rw) % 14) → mj_out t 8 a3 b3 → ((∀ i, b3 i = a3 i) ∨ (b3 t = 1 ∧ b3 (t + 1) = nI N)) → (hf = 0 → 0 < wn → b3 t = 1 ∧ b3 (t + 1) = nI N ∧ b3 (t + 7) = nI N ∧ b3 (t + 2) = gd ∧ ∀ i, i < 4 → b3 (t + (3 + i)) = a18 i) → post ((nI (wn - 1)), hf, gd, uk, un, wt, wr, sn, sk, a1, a2, b3, a4, a5, a6, a7, a8, a9, a10, a11, a12, a13, a14, a15, a16, a17, a18, a19, a20, a21, a22, a23, a24, a25, a26)) :
    wpX_writeList post (w, hf, gd, uk, un, wt, wr, sn, sk, a1, a2, a3, a4, a5, a6, a7, a8, a9, a10, a11, a12, a13, a14, a15, a16, a17, a18, a19, a20, a21, a22, a23, a24, a25, a26) (nI j) (nI rw) := by
  subst hw
  unfold wpX_writeList
  have vj : vp_in (nI j) 4 := vp_in_nI hj (by decide)
  refine mj_may rfl hn (fun h1 => br_f (by decide) ?_) (fun h0 => br_t rfl ?_)
  · rw [nI_clamp (show j < 2 ^ 31 by omega), e10, nI_add]
    refine ⟨vj, mj_rowCell hj e9 (by omega) ?_⟩
    obtain ⟨t, ht⟩ : ∃ t, t = 8 * (14 * j + (A + (RU + rw)) % 14) := ⟨_, rfl⟩
    rw [← ht]
    have ht' : t = 8 * (14 * j + (A + RU + rw) % 14) := by rw [ht, Nat.add_assoc A RU rw]
    rw [e13, show nI t + 1 = nI (t + 1) from nI_1 t, show nI t + 2 = nI (t + 2) from mj_p t 2 rfl, show nI t + 3 = nI (t + 3) from mj_p t 3 rfl,
      nI_clamp (show t < 2 ^ 31 by omega), nI_clamp (show t + 1 < 2 ^ 31 by omega), nI_clamp (show t + 2 < 2 ^ 31 by omega), nI_clamp (show t + 3 < 2 ^ 31 by omega)]
    refine mj_reach ?_ (fun hne => ?_)
    · refine ⟨vp_in_nI (by omega) (by decide), nm_e ⟨vj, vp_in_nI (by omega) (by decide), nm_e ⟨vp_in_nI (by omega) (by decide), nm_e ⟨vp_in_nI (by omega) (by decide), nm_e (br_t (by decide) (mj_wl86 hj (by omega) e13 (fun b3 f1 f2 f3 => H t b3 ht' ?_ ?_ ?_)))⟩⟩⟩⟩
      · intro i hi
        rw [f1 i (by omega), pk_un (by omega), pk_un (by omega), pk_un (by omega), pk_un (by omega)]
      · refine Or.inr ⟨?_, ?_⟩
        · rw [f1 t (by omega), pk_un (by omega), pk_un (by omega), pk_un (by omega), pk_us]
        · rw [f1 (t + 1) (by omega), pk_un (by omega), pk_un (by omega), pk_us]
      · intro _ _
        refine ⟨?_, ?_, f3, ?_, fun i hi => ?_⟩
        · rw [f1 t (by omega), pk_un (by omega), pk_un (by omega), pk_un (by omega), pk_us]
        · rw [f1 (t + 1) (by omega), pk_un (by omega), pk_un (by omega), pk_us]
        · rw [f1 (t + 2) (by omega), pk_un (by omega), pk_us]
        · by_cases e : i = 0
          · rw [e, f1 (t + (3 + 0)) (by omega), show t + (3 + 0) = t + 3 from rfl, pk_us]
          · exact f2 i (by omega) hi
    · refine ⟨vp_in_nI (by omega) (by decide), nm_e ⟨vj, vp_in_nI (by omega) (by decide), nm_e ⟨vp_in_nI (by omega) (by decide), nm_e ⟨vp_in_nI (by omega) (by decide), nm_e (br_f (by decide) (H t _ ht' ?_ (Or.inr ⟨?_, ?_⟩) (fun z => absurd z hne)))⟩⟩⟩⟩
      · intro i hi
        rw [pk_un (by omega), pk_un (by omega), pk_un (by omega), pk_un (by omega)]
      · rw [pk_un (by omega), pk_un (by omega), pk_un (by omega), pk_us]
      · rw [pk_un (by omega), pk_un (by omega), pk_us]
  · subst h0
    exact H _ a3 rfl mj_out_r (Or.inl fun _ => rfl) (fun _ z => absurd z (by omega))
theorem mj_writeCounts {post : St2 → Prop} {w hf gd uk un wt wr sn sk : Int32} {a1 a2 a3 a4 a5 a6 a7 a8 a9 a10 a11 a12 a13 a14 a15 a16 a17 a18 a19 a20 a21 a22 a23 a24 a25 a26 : Nat → Int32} {j A RU rw N wn : Nat} {v : Int32} (hj : j < 4) (hA : A + (RU + rw) < 1000) (e9 : a9 j = nI A) (e10 : a10 j = nI RU) (e13 : a13 j = nI N) (hw : w = nI wn) (hn : wn ≤ 1000) (hh : wn = 0 ∨ hf = 0)
    (H0 : wn = 0 → post (w, hf, gd, uk, un, wt, wr, sn, sk, a1, a2, a3, a4, a5, a6, a7, a8, a9, a10, a11, a12, a13, a14, a15, a16, a17, a18, a19, a20, a21, a22, a23, a24, a25, a26))
    (H1 : ∀ (t : Nat) (b3 : Nat → Int32), 0 < wn → t = 8 * (14 * j + (A + RU + rw) % 14) → mj_out t 8 a3 b3 → b3 t = 2 → b3 (t + 1) = nI N → b3 (t + 7) = nI N → post ((nI (wn - 1)), hf, gd, uk, un, wt, wr, sn, sk, a1, a2, b3, a4, a5, a6, a7, a8, a9, a10, a11, a12, a13, a14, a15, a16, a17, a18, a19, a20, a21, a22, a23, a24, a25, a26)) :
    wpX_writeCounts post (w, hf, gd, uk, un, wt, wr, sn, sk, a1, a2, a3, a4, a5, a6, a7, a8, a9, a10, a11, a12, a13, a14, a15, a16, a17, a18, a19, a20, a21, a22, a23, a24, a25, a26) (nI j) (nI rw) v := by
  unfold wpX_writeCounts
  have vj : vp_in (nI j) 4 := vp_in_nI hj (by decide)
  refine mj_may hw hn (fun h1 => br_f (by decide) ?_) (fun h0 => br_t rfl (H0 h0))
  rw [nI_clamp (show j < 2 ^ 31 by omega), e10, nI_add]
  refine ⟨vj, mj_rowCell hj e9 (by omega) ?_⟩
  obtain ⟨t, ht⟩ : ∃ t, t = 8 * (14 * j + (A + (RU + rw)) % 14) := ⟨_, rfl⟩
  rw [← ht]
  have ht' : t = 8 * (14 * j + (A + RU + rw) % 14) := by rw [ht, Nat.add_assoc A RU rw]
  rw [e13, show nI t + 1 = nI (t + 1) from nI_1 t, show nI t + 2 = nI (t + 2) from mj_p t 2 rfl, show nI t + 7 = nI (t + 7) from mj_p t 7 rfl,
    nI_clamp (show t < 2 ^ 31 by omega), nI_clamp (show t + 1 < 2 ^ 31 by omega), nI_clamp (show t + 2 < 2 ^ 31 by omega), nI_clamp (show t + 7 < 2 ^ 31 by omega)]
  refine mj_reach ?_ (fun hne => absurd hne (by
    rcases hh with hh | hh
    · omega
    · exact fun z => z hh))
  refine ⟨vp_in_nI (by omega) (by decide), nm_e ⟨vj, vp_in_nI (by omega) (by decide), nm_e ⟨vp_in_nI (by omega) (by decide), nm_e (br_t rfl ⟨vj, vp_in_nI (by omega) (by decide), nm_e (H1 t _ h1 ht' ?_ ?_ ?_ pk_us)⟩)⟩⟩⟩
  · intro i hi
    rw [pk_un (by omega), pk_un (by omega), pk_un (by omega), pk_un (by omega)]
  · rw [pk_un (by omega), pk_un (by omega), pk_un (by omega), pk_us]
  · rw [pk_un (by omega), pk_un (by omega), pk_us]
/-! which blocks are changed -/
def mj_bs (a7 : Nat → Int32) (j : Nat) : Nat → Nat → Nat
  | 0, _ => 0
  | i + 1, q => if a7 (41 * j + i) = 0 then mj_bs a7 j i q else if q = mj_ct a7 j i then i else mj_bs a7 j i q
theorem mj_bs_at {a7 : Nat → Int32} {j i : Nat} (h : ¬ a7 (41 * j + i) = 0) : ∀ n, i < n → mj_bs a7 j n (mj_ct a7 j i) = i
  | 0, hn => absurd hn (by omega)
  | n + 1, hn => by
    show (if a7 (41 * j + n) = 0 then mj_bs a7 j n (mj_ct a7 j i) else if mj_ct a7 j i = mj_ct a7 j n then n else mj_bs a7 j n (mj_ct a7 j i)) = i
    by_cases e : i = n
    · rw [← e, if_neg h, if_pos rfl]
    · have h1 := mj_ct_s h
      have h2 := mj_ct_up (a7 := a7) (j := j) (show i + 1 ≤ n by omega)
      by_cases z : a7 (41 * j + n) = 0
      · rw [if_pos z]; exact mj_bs_at h n (by omega)
      · rw [if_neg z, if_neg (by omega)]; exact mj_bs_at h n (by omega)
theorem mj_bs_lt {a7 : Nat → Int32} {j : Nat} : ∀ n q, q < mj_ct a7 j n → mj_bs a7 j n q < n ∧ ¬ a7 (41 * j + mj_bs a7 j n q) = 0 ∧ mj_ct a7 j (mj_bs a7 j n q) = q
  | 0, q, hq => absurd hq (by show ¬ q < 0; omega)
  | n + 1, q, hq => by
    have hd : mj_bs a7 j (n + 1) q = (if a7 (41 * j + n) = 0 then mj_bs a7 j n q else if q = mj_ct a7 j n then n else mj_bs a7 j n q) := rfl
    rw [hd]
    by_cases z : a7 (41 * j + n) = 0
    · rw [if_pos z]
      rw [mj_ct_z z] at hq
      have := mj_bs_lt (a7 := a7) (j := j) n q hq
      exact ⟨by omega, this.2⟩
    · rw [if_neg z]
      rw [mj_ct_s z] at hq
      by_cases e : q = mj_ct a7 j n
      · rw [if_pos e]; exact ⟨by omega, z, e.symm⟩
      · rw [if_neg e]
        have := mj_bs_lt (a7 := a7) (j := j) n q (by omega)
        exact ⟨by omega, this.2⟩
end
section
def mj_WI (j A RU I IU N B : Nat) (fu : Bool) (bs : Nat → Nat) (a2 a3 a5 : Nat → Int32) (k ro gp v : Nat) (s2 s3 s18 : Nat → Int32) : Prop :=
  (k ≤ B ∧ (k = B → ro = (B + 3) / 4 ∧ gp = 0) ∧ (k ≠ B → ro = k / 4 ∧ gp = k % 4)) ∧
  (v ≤ 1000 ∧ (fu = true → v + k + ro = 1000) ∧ (fu = false → v ≤ (B - k) + ((B + 3) / 4 - ro))) ∧
  (∀ q, 4 * ro ≤ q → q < k → s18 (q - 4 * ro) = nI (bs q)) ∧
  mj_out (384 * j) 384 a2 s2 ∧ mj_out (112 * j) 112 a3 s3 ∧
  (∀ x c, I ≤ x → x < I + IU → c < 8 → s2 (8 * (48 * j + x % 48) + c) = a2 (8 * (48 * j + x % 48) + c)) ∧
  (∀ x c, A ≤ x → x < A + RU → c < 8 → s3 (8 * (14 * j + x % 14) + c) = a3 (8 * (14 * j + x % 14) + c)) ∧
  (∀ r, r < 14 → ∃ v, v ≤ N ∧ s3 (8 * (14 * j + r) + 1) = nI v) ∧
  (∀ r, r < 14 → ¬ mj_cnt s3 j r N) ∧
  (fu = true → (∀ q c, q < k → c < 8 → s2 (8 * (48 * j + (I + IU + q) % 48) + c) = a5 (8 * (41 * j + bs q) + c)) ∧ (∀ q, q < ro → mj_lst s3 j ((A + RU + q) % 14) N (min 4 (B - 4 * q)) (fun i => bs (4 * q + i))))
theorem mj_WI_a {j A RU I IU N B : Nat} {fu : Bool} {bs : Nat → Nat} {a2 a3 a5 : Nat → Int32} {k ro gp v i : Nat} {s2 s3 s18 b2 : Nat → Int32} (h : mj_WI j A RU I IU N B fu bs a2 a3 a5 k ro gp v s2 s3 s18) (hB : B ≤ 41) (hi : IU + B ≤ 48) (hk : k < B) (hb : bs k = i) (n1 : gp + 1 ≠ 4) (n2 : k + 1 ≠ B)
    (o2 : mj_out (8 * (48 * j + (I + IU + k) % 48)) 8 s2 b2) (c2 : fu = true → ∀ c, c < 8 → b2 (8 * (48 * j + (I + IU + k) % 48) + c) = a5 (8 * (41 * j + i) + c)) : mj_WI j A RU I IU N B fu bs a2 a3 a5 (k + 1) ro (gp + 1) (v - 1) b2 s3 (upd s18 gp (nI i)) := by
  obtain ⟨⟨h1, h2, h3⟩, ⟨h4, h5, h6⟩, h7, h8, h9, h10, h11, h12, h13, h14⟩ := h
  obtain ⟨g1, g2⟩ := h3 (by omega)
  refine ⟨⟨by omega, fun z => absurd z n2, fun _ => by omega⟩, ⟨by omega, fun z => by have := h5 z; omega, fun z => by have := h6 z; omega⟩, fun q q1 q2 => ?_, mj_out_t h8 (mj_out_w o2 (by omega) (by omega)), h9, fun x c x1 x2 hc => ?_, h11, h12, h13, fun z => ⟨fun q c hq hc => ?_, (h14 z).2⟩⟩
  · by_cases e : q = k
    · rw [e, show k - 4 * ro = gp by omega, pk_us, hb]
    · rw [pk_un (by omega)]; exact h7 q q1 (by omega)
  · rw [o2 _ (by omega)]; exact h10 x c x1 x2 hc
  · by_cases e : q = k
    · rw [e, hb]; exact c2 z c hc
    · rw [o2 _ (by omega)]; exact (h14 z).1 q c (by omega) hc
theorem mj_WI_b {j A RU I IU N B : Nat} {fu : Bool} {bs : Nat → Nat} {a2 a3 a5 : Nat → Int32} {k ro gp v i t : Nat} {s2 s3 s18 b2 b3 : Nat → Int32} (h : mj_WI j A RU I IU N B fu bs a2 a3 a5 k ro gp v s2 s3 s18) (hB : B ≤ 41) (hi : IU + B ≤ 48) (hr : RU + ((B + 3) / 4 + 1) ≤ 14) (hk : k < B) (hb : bs k = i) (n1 : gp + 1 = 4 ∨ k + 1 = B)
    (o2 : mj_out (8 * (48 * j + (I + IU + k) % 48)) 8 s2 b2) (c2 : fu = true → ∀ c, c < 8 → b2 (8 * (48 * j + (I + IU + k) % 48) + c) = a5 (8 * (41 * j + i) + c))
    (ht : t = 8 * (14 * j + (A + RU + ro) % 14)) (o3 : mj_out t 8 s3 b3) (w3 : (∀ i, b3 i = s3 i) ∨ (b3 t = 1 ∧ b3 (t + 1) = nI N))
    (f3 : fu = true → b3 t = 1 ∧ b3 (t + 1) = nI N ∧ b3 (t + 7) = nI N ∧ b3 (t + 2) = nI (gp + 1) ∧ ∀ x, x < 4 → b3 (t + (3 + x)) = upd s18 gp (nI i) x) :
    mj_WI j A RU I IU N B fu bs a2 a3 a5 (k + 1) (ro + 1) 0 (v - 1 - 1) b2 b3 (upd s18 gp (nI i)) := by
  obtain ⟨⟨h1, h2, h3⟩, ⟨h4, h5, h6⟩, h7, h8, h9, h10, h11, h12, h13, h14⟩ := h
  obtain ⟨g1, g2⟩ := h3 (by omega)
  refine ⟨⟨by omega, fun z => by omega, fun z => by omega⟩, ⟨by omega, fun z => by have := h5 z; omega, fun z => by have := h6 z; omega⟩, fun q q1 q2 => absurd q2 (by omega), mj_out_t h8 (mj_out_w o2 (by omega) (by omega)), mj_out_t h9 (mj_out_w o3 (by omega) (by omega)), fun x c x1 x2 hc => ?_, fun x c x1 x2 hc => ?_, fun r hr' => ?_, fun r hr' => ?_, fun z => ⟨fun q c hq hc => ?_, fun q hq => ?_⟩⟩
  · rw [o2 _ (by omega)]; exact h10 x c x1 x2 hc
  · rw [o3 _ (by omega)]; exact h11 x c x1 x2 hc
  · by_cases e : r = (A + RU + ro) % 14
    · rw [e, ← ht]
      rcases w3 with w3 | w3
      · rw [w3 (t + 1), ht]; exact h12 _ (by omega)
      · exact ⟨N, by omega, w3.2⟩
    · rw [o3 _ (by omega)]; exact h12 r hr'
  · by_cases e : r = (A + RU + ro) % 14
    · rcases w3 with w3 | w3
      · have := h13 r hr'
        unfold mj_cnt at this ⊢
        rw [w3 _, w3 _, w3 _]
        exact this
      · intro z
        have z1 := z.1
        rw [e, ← ht, w3.1] at z1
        exact absurd z1 (by decide)
    · have := h13 r hr'
      unfold mj_cnt at this ⊢
      rw [o3 _ (by omega), o3 _ (by omega), o3 _ (by omega)]
      exact this
  · by_cases e : q = k
    · rw [e, hb]; exact c2 z c hc
    · rw [o2 _ (by omega)]; exact (h14 z).1 q c (by omega) hc
  · by_cases e : q = ro
    · obtain ⟨y1, y2, y3, y4, y5⟩ := f3 z
      rw [e]
      unfold mj_lst
      rw [← ht]
      refine ⟨y1, y2, y3, by rw [y4]; congr 1; omega, fun x hx => ?_⟩
      rw [y5 x (by omega)]
      show upd s18 gp (nI i) x = nI (bs (4 * ro + x))
      by_cases ex : x = gp
      · rw [ex, pk_us, show 4 * ro + gp = k by omega, hb]
      · rw [pk_un ex]
        have := h7 (4 * ro + x) (by omega) (by omega)
        rw [show 4 * ro + x - 4 * ro = x by omega] at this
        exact this
    · have := (h14 z).2 q (by omega)
      unfold mj_lst at this ⊢
      obtain ⟨y1, y2, y3, y4, y5⟩ := this
      refine ⟨by rw [o3 _ (by omega)]; exact y1, by rw [o3 _ (by omega)]; exact y2, by rw [o3 _ (by omega)]; exact y3, by rw [o3 _ (by omega)]; exact y4, fun x hx => by rw [o3 _ (by omega)]; exact y5 x hx⟩
theorem mj_ws95 {post : St2 → Prop} {J13 : Int32 → Int32 → Int32 → Int32 → Int32 → Int32 → Int32 → Int32 → Int32 → Int32 → Int32 → Int32 → (Nat → Int32) → (Nat → Int32) → (Nat → Int32) → (Nat → Int32) → (Nat → Int32) → (Nat → Int32) → (Nat → Int32) → (Nat → Int32) → (Nat → Int32) → (Nat → Int32) → (Nat → Int32) → (Nat → Int32) → (Nat → Int32) → (Nat → Int32) → (Nat → Int32) → (Nat → Int32) → (Nat → Int32) → (Nat → Int32) → (Nat → Int32) → (Nat → Int32) → (Nat → Int32) → (Nat → Int32) → (Nat → Int32) → (Nat → Int32) → (Nat → Int32) → (Nat → Int32) → Prop} {w hf gd uk un wt wr sn sk : Int32} {a1 a2 a3 a4 a5 a6 a7 a8 a9 a10 a11 a12 a13 a14 a15 a16 a17 a18 a19 a20 a21 a22 a23 a24 a25 a26 : Nat → Int32} {j A RU ro N v i : Nat} {x2 x3 : Int32} (hj : j < 4) (hA : A + (RU + ro) < 1000) (e9 : a9 j = nI A) (e10 : a10 j = nI RU) (e13 : a13 j = nI N) (hw : w = nI v) (hn : v ≤ 1000)
    (H : ∀ (t : Nat) (b3 : Nat → Int32), t = 8 * (14 * j + (A + RU + ro) % 14) → mj_out t 8 a3 b3 → ((∀ i, b3 i = a3 i) ∨ (b3 t = 1 ∧ b3 (t + 1) = nI N)) → (hf = 0 → 0 < v → b3 t = 1 ∧ b3 (t + 1) = nI N ∧ b3 (t + 7) = nI N ∧ b3 (t + 2) = gd ∧ ∀ i, i < 4 → b3 (t + (3 + i)) = a18 i) → J13 x3 (nI (ro + 1)) (nI (i + 1)) (nI (v - 1)) hf 0 uk un wt wr sn sk a1 a2 b3 a4 a5 a6 a7 a8 a9 a10 a11 a12 a13 a14 a15 a16 a17 a18 a19 a20 a21 a22 a23 a24 a25 a26) :
    wX_writeSaving_95 post J13 (nI j) x2 x3 (nI ro) (nI i) w hf gd uk un wt wr sn sk a1 a2 a3 a4 a5 a6 a7 a8 a9 a10 a11 a12 a13 a14 a15 a16 a17 a18 a19 a20 a21 a22 a23 a24 a25 a26 := by
  unfold wX_writeSaving_95
  exact mj_writeList hj hA e9 e10 e13 hw hn (fun t b3 h1 h2 h3 h4 => nm_r (nI_1 ro) (nm_r (nI_1 i) (H t b3 h1 h2 h3 h4)))
set_option maxHeartbeats 4000000 in
theorem mj_writeSaving {post : St2 → Prop} {w hf gd uk un wt wr sn sk : Int32} {a1 a2 a3 a4 a5 a6 a7 a8 a9 a10 a11 a12 a13 a14 a15 a16 a17 a18 a19 a20 a21 a22 a23 a24 a25 a26 : Nat → Int32} {j A RU I IU N wn B : Nat} {fu : Bool} (hj : j < 4) (hA : A < 14) (hI : I < 48) (hB : mj_ct a7 j 41 = B) (hB0 : 0 < B) (hr : RU + ((B + 3) / 4 + 1) ≤ 14) (hi : IU + B ≤ 48)
    (e9 : a9 j = nI A) (e10 : a10 j = nI RU) (e11 : a11 j = nI I) (e12 : a12 j = nI IU) (e13 : a13 j = nI N) (hN : N < 2 ^ 30) (hw : w = nI wn) (hn : wn ≤ 1000) (hft : fu = true → hf = 0 ∧ wn = 1000) (hff : fu = false → wn ≤ B + (B + 3) / 4)
    (hrows : ∀ r, r < 14 → ∃ v, v < N ∧ a3 (8 * (14 * j + r) + 1) = nI v)
    (H : ∀ (w' gd' : Int32) (b2 b3 b18 : Nat → Int32), mj_out (384 * j) 384 a2 b2 → mj_out (112 * j) 112 a3 b3 → (∀ x c, I ≤ x → x < I + IU → c < 8 → b2 (8 * (48 * j + x % 48) + c) = a2 (8 * (48 * j + x % 48) + c)) → (∀ x c, A ≤ x → x < A + RU → c < 8 → b3 (8 * (14 * j + x % 14) + c) = a3 (8 * (14 * j + x % 14) + c)) →
      (∀ r, r < 14 → ∃ v, v ≤ N ∧ b3 (8 * (14 * j + r) + 1) = nI v) → (fu = false → ∀ r, r < 14 → ¬ mj_cnt b3 j r N) →
      (fu = true → mj_sec b3 j (A + RU) N B (mj_bs a7 j 41) ∧ ∀ q c, q < B → c < 8 → b2 (8 * (48 * j + (I + IU + q) % 48) + c) = a5 (8 * (41 * j + mj_bs a7 j 41 q) + c)) → post (w', hf, gd', uk, un, wt, wr, sn, sk, a1, b2, b3, a4, a5, a6, a7, a8, a9, a10, a11, a12, a13, a14, a15, a16, a17, b18, a19, a20, a21, a22, a23, a24, a25, a26)) :
    wpX_writeSaving post (w, hf, gd, uk, un, wt, wr, sn, sk, a1, a2, a3, a4, a5, a6, a7, a8, a9, a10, a11, a12, a13, a14, a15, a16, a17, a18, a19, a20, a21, a22, a23, a24, a25, a26) (nI j) (nI B) := by
  have hB41 : B ≤ 41 := by rw [← hB]; exact mj_ct_le 41
  subst hw
  unfold wpX_writeSaving
  refine pk_loop (σ := Nat × Nat × Nat × (Nat → Int32) × (Nat → Int32) × (Nat → Int32)) (fun m i s => wX_writeSaving_13 post (nI j) (nI B) m (nI (mj_ct a7 j i)) (nI s.1) (nI i) (nI s.2.2.1) hf (nI s.2.1) uk un wt wr sn sk a1 s.2.2.2.1 s.2.2.2.2.1 a4 a5 a6 a7 a8 a9 a10 a11 a12 a13 a14 a15 a16 a17 s.2.2.2.2.2 a19 a20 a21 a22 a23 a24 a25 a26)
    (fun i s => mj_WI j A RU I IU N B fu (mj_bs a7 j 41) a2 a3 a5 (mj_ct a7 j i) s.1 s.2.1 s.2.2.1 s.2.2.2.1 s.2.2.2.2.1 s.2.2.2.2.2) 41 0 (0, 0, wn, a2, a3, a18) (by omega) ?_ ?_ ?_
  · refine ⟨⟨Nat.zero_le _, fun z => absurd z (by show ¬ 0 = B; omega), fun _ => ⟨(Nat.zero_div 4).symm, (Nat.zero_mod 4).symm⟩⟩, ⟨hn, fun z => by show wn + 0 + 0 = 1000; exact (hft z).2, fun z => by have := hff z; show wn ≤ (B - 0) + ((B + 3) / 4 - 0); omega⟩, fun q _ q2 => absurd q2 (by show ¬ q < 0; omega), mj_out_r, mj_out_r, fun _ _ _ _ _ => rfl, fun _ _ _ _ _ => rfl, fun r hr' => ?_, fun r hr' z => ?_, fun _ => ⟨fun q _ q2 => absurd q2 (by show ¬ q < 0; omega), fun q q2 => absurd q2 (by show ¬ q < 0; omega)⟩⟩
    · obtain ⟨v, hv, e⟩ := hrows r hr'
      exact ⟨v, by omega, e⟩
    · obtain ⟨v, hv, e⟩ := hrows r hr'
      have z1 := z.2.1
      have := (nI_eq (by omega) (by omega)).mp (e.symm.trans z1)
      omega
  · intro m s hI'
    obtain ⟨ro, gp, v, s2, s3, s18⟩ := s
    have hI2 : mj_WI j A RU I IU N B fu (mj_bs a7 j 41) a2 a3 a5 (mj_ct a7 j 41) ro gp v s2 s3 s18 := hI'
    rw [hB] at hI2
    obtain ⟨⟨h1, h2, h3⟩, ⟨h4, h5, h6⟩, h7, h8, h9, h10, h11, h12, h13, h14⟩ := hI2
    obtain ⟨g1, g2⟩ := h2 rfl
    show wX_writeSaving_13 post (nI j) (nI B) (m + 1) (nI (mj_ct a7 j 41)) (nI ro) (nI 41) (nI v) hf (nI gp) uk un wt wr sn sk a1 s2 s3 a4 a5 a6 a7 a8 a9 a10 a11 a12 a13 a14 a15 a16 a17 s18 a19 a20 a21 a22 a23 a24 a25 a26
    refine pk_le 41 41 (fun _ => ?_) (fun z => absurd z (by omega))
    cases hfu : fu with
    | false =>
      have hv0 : v = 0 := by have := h6 hfu; omega
      exact mj_writeCounts hj (by omega) e9 e10 e13 rfl h4 (Or.inl hv0) (fun _ => H _ _ s2 s3 s18 h8 h9 h10 h11 h12 (fun _ => h13) (fun z => absurd (hfu.symm.trans z) (by decide))) (fun t b3 z => absurd z (by omega))
    | true =>
      have hv0 := h5 hfu
      refine mj_writeCounts hj (by omega) e9 e10 e13 rfl h4 (Or.inr (hft hfu).1) (fun z => absurd z (by omega)) (fun t b3 _ ht o3 y0 y1 y7 => ?_)
      have h14' := h14 hfu
      refine H _ _ s2 b3 s18 h8 (mj_out_t h9 (mj_out_w o3 (by omega) (by omega))) h10 (fun x c x1 x2 hc => by rw [o3 _ (by omega)]; exact h11 x c x1 x2 hc) (fun r hr' => ?_) (fun z => absurd (hfu.symm.trans z) (by decide)) (fun _ => ⟨⟨fun q hq => ?_, ?_⟩, h14'.1⟩)
      · by_cases e : r = (A + RU + ro) % 14
        · rw [e, ← ht]; exact ⟨N, by omega, y1⟩
        · rw [o3 _ (by omega)]; exact h12 r hr'
      · have := h14'.2 q (by omega)
        unfold mj_lst at this ⊢
        obtain ⟨z1, z2, z3, z4, z5⟩ := this
        refine ⟨by rw [o3 _ (by omega)]; exact z1, by rw [o3 _ (by omega)]; exact z2, by rw [o3 _ (by omega)]; exact z3, by rw [o3 _ (by omega)]; exact z4, fun x hx => by rw [o3 _ (by omega)]; exact z5 x hx⟩
      · unfold mj_cnt
        rw [← g1, ← ht]
        exact ⟨y0, y1, y7⟩
  · intro m i s hi' hI' hw'
    obtain ⟨ro, gp, v, s2, s3, s18⟩ := s
    have hI2 : mj_WI j A RU I IU N B fu (mj_bs a7 j 41) a2 a3 a5 (mj_ct a7 j i) ro gp v s2 s3 s18 := hI'
    have hW := hI2
    obtain ⟨⟨h1, h2, h3⟩, ⟨h4, h5, h6⟩, hrest⟩ := hW
    show wX_writeSaving_13 post (nI j) (nI B) (m + 1) (nI (mj_ct a7 j i)) (nI ro) (nI i) (nI v) hf (nI gp) uk un wt wr sn sk a1 s2 s3 a4 a5 a6 a7 a8 a9 a10 a11 a12 a13 a14 a15 a16 a17 s18 a19 a20 a21 a22 a23 a24 a25 a26
    refine pk_le 41 i (fun z => absurd z (by omega)) (fun _ => ?_)
    rw [mj_g, nI_clamp (show 41 * j + i < 2 ^ 31 by omega)]
    refine ⟨vp_in_nI (by omega) (by decide), br_c (fun e => ?_) (fun e => ?_)⟩
    · unfold wX_writeSaving_67
      rw [mj_g, nI_clamp (show 41 * j + i < 2 ^ 31 by omega)]
      refine ⟨vp_in_nI (by omega) (by decide), br_t e (nm_r (nI_1 i) ?_)⟩
      have hh := hw' (ro, gp, v, s2, s3, s18) (by
        show mj_WI j A RU I IU N B fu (mj_bs a7 j 41) a2 a3 a5 (mj_ct a7 j (i + 1)) ro gp v s2 s3 s18
        rw [mj_ct_z e]; exact hI2)
      dsimp only at hh
      rw [mj_ct_z e] at hh
      exact hh
    · have hk : mj_ct a7 j i < B := by
        have k1 := mj_ct_s e
        have k2 := mj_ct_up (a7 := a7) (j := j) (show i + 1 ≤ 41 by omega)
        omega
      obtain ⟨g1, g2⟩ := h3 (by omega)
      have hbs := mj_bs_at e 41 hi'
      refine mj_writeImage (q := mj_ct a7 j i) hj hi' hI (by omega) (by omega) e11 e12 rfl h4 (fun b2 o2 c2 => ?_)
      have c2' : fu = true → ∀ c, c < 8 → b2 (8 * (48 * j + (I + IU + mj_ct a7 j i) % 48) + c) = a5 (8 * (41 * j + i) + c) := fun z => c2 (hft z).1 (by have := h5 z; omega)
      show vp_in (nI gp) 4 ∧ _
      rw [nI_clamp (show gp < 2 ^ 31 by omega)]
      refine ⟨vp_in_nI (by omega) (by decide), nm_e (nm_r (nI_1 gp) (nm_r (nI_1 _) ?_))⟩
      unfold wX_writeSaving_67
      rw [mj_g, nI_clamp (show 41 * j + i < 2 ^ 31 by omega)]
      refine ⟨vp_in_nI (by omega) (by decide), br_f e ?_⟩
      have flush : ∀ (t : Nat) (b3 : Nat → Int32), (gp + 1 = 4 ∨ mj_ct a7 j i + 1 = B) → t = 8 * (14 * j + (A + RU + ro) % 14) → mj_out t 8 s3 b3 → ((∀ i, b3 i = s3 i) ∨ (b3 t = 1 ∧ b3 (t + 1) = nI N)) → (hf = 0 → 0 < v - 1 → b3 t = 1 ∧ b3 (t + 1) = nI N ∧ b3 (t + 7) = nI N ∧ b3 (t + 2) = nI (gp + 1) ∧ ∀ x, x < 4 → b3 (t + (3 + x)) = upd s18 gp (nI i) x) →
          mj_WI j A RU I IU N B fu (mj_bs a7 j 41) a2 a3 a5 (mj_ct a7 j (i + 1)) (ro + 1) 0 (v - 1 - 1) b2 b3 (upd s18 gp (nI i)) := by
        intro t b3 hz ht o3 w3 f3
        rw [mj_ct_s e]
        exact mj_WI_b hI2 hB41 hi hr hk hbs hz o2 c2' ht o3 w3 (fun z => f3 (hft z).1 (by have := h5 z; omega))
      refine pk_eq (gp + 1) 4 (fun z => ?_) (fun z => pk_eq (mj_ct a7 j i + 1) B (fun z2 => ?_) (fun z2 => nm_r (nI_1 i) ?_))
      · refine mj_ws95 hj (by omega) e9 e10 e13 rfl (by omega) (fun t b3 ht o3 w3 f3 => ?_)
        have hh := hw' (ro + 1, 0, v - 1 - 1, b2, b3, upd s18 gp (nI i)) (flush t b3 (Or.inl z) ht o3 w3 f3)
        dsimp only at hh
        rw [mj_ct_s e] at hh
        exact hh
      · refine mj_ws95 hj (by omega) e9 e10 e13 rfl (by omega) (fun t b3 ht o3 w3 f3 => ?_)
        have hh := hw' (ro + 1, 0, v - 1 - 1, b2, b3, upd s18 gp (nI i)) (flush t b3 (Or.inr z2) ht o3 w3 f3)
        dsimp only at hh
        rw [mj_ct_s e] at hh
        exact hh
      · have hh := hw' (ro, gp + 1, v - 1, b2, s3, upd s18 gp (nI i)) (by
          show mj_WI j A RU I IU N B fu (mj_bs a7 j 41) a2 a3 a5 (mj_ct a7 j (i + 1)) ro (gp + 1) (v - 1) b2 s3 (upd s18 gp (nI i))
          rw [mj_ct_s e]
          exact mj_WI_a hI2 hB41 hi hk hbs z z2 o2 c2')
        dsimp only at hh
        rw [mj_ct_s e] at hh
        exact hh
end
section
theorem mj_sv43 {post : St2 → Prop} {w hf gd uk un wt wr sn sk : Int32} {a1 a2 a3 a4 a5 a6 a7 a8 a9 a10 a11 a12 a13 a14 a15 a16 a17 a18 a19 a20 a21 a22 a23 a24 a25 a26 : Nat → Int32} {j I IU RU N B : Nat} (hj : j < 4) (hI : I < 48) (hB : mj_ct a7 j 41 = B) (hIU : IU + B ≤ 48) (e10 : a10 j = nI RU) (e11 : a11 j = nI I) (e12 : a12 j = nI IU) (e13 : a13 j = nI N)
    (H : ∀ b7 b8 : Nat → Int32, (∀ b, b < 41 → b7 (41 * j + b) = 0) → (∀ b, b < 41 → b8 (41 * j + b) = if a7 (41 * j + b) = 0 then a8 (41 * j + b) else nI ((I + IU + mj_ct a7 j b) % 48)) → mj_out (41 * j) 41 a7 b7 → mj_out (41 * j) 41 a8 b8 →
      post (w, hf, gd, uk, un, wt, wr, sn, sk, a1, a2, a3, a4, a5, a6, b7, b8, a9, (upd a10 j (nI (RU + ((B + 3) / 4 + 1)))), a11, (upd a12 j (nI (IU + B))), (upd a13 j (nI (N + 1))), a14, a15, a16, a17, a18, a19, a20, a21, a22, a23, a24, a25, a26)) : ∃ n, wX_save_43 post (nI j) (nI B) w hf gd uk un wt wr sn sk n 0 (nI (41 * j + 0)) a1 a2 a3 a4 a5 a6 a7 a8 a9 a10 a11 a12 a13 a14 a15 a16 a17 a18 a19 a20 a21 a22 a23 a24 a25 a26 := by
  have hB41 : B ≤ 41 := by rw [← hB]; exact mj_ct_le 41
  have vj : vp_in (nI j) 4 := vp_in_nI hj (by decide)
  refine pk_loop (σ := (Nat → Int32) × (Nat → Int32)) (fun m i s => wX_save_43 post (nI j) (nI B) w hf gd uk un wt wr sn sk m (nI (mj_ct a7 j i)) (nI (41 * j + i)) a1 a2 a3 a4 a5 a6 s.1 s.2 a9 a10 a11 a12 a13 a14 a15 a16 a17 a18 a19 a20 a21 a22 a23 a24 a25 a26)
    (fun i s => (∀ b, b < i → s.1 (41 * j + b) = 0) ∧ (∀ b, i ≤ b → b < 41 → s.1 (41 * j + b) = a7 (41 * j + b) ∧ s.2 (41 * j + b) = a8 (41 * j + b)) ∧ (∀ b, b < i → s.2 (41 * j + b) = if a7 (41 * j + b) = 0 then a8 (41 * j + b) else nI ((I + IU + mj_ct a7 j b) % 48)) ∧ mj_out (41 * j) 41 a7 s.1 ∧ mj_out (41 * j) 41 a8 s.2)
    41 0 (a7, a8) (by omega) ⟨fun b hb => absurd hb (by omega), fun b _ _ => ⟨rfl, rfl⟩, fun b hb => absurd hb (by omega), mj_out_r, mj_out_r⟩ ?_ ?_
  · intro m s hI'
    obtain ⟨s7, s8⟩ := s
    obtain ⟨h1, h2, h3, o7, o8⟩ := hI'
    show wX_save_43 post (nI j) (nI B) w hf gd uk un wt wr sn sk (m + 1) (nI (mj_ct a7 j 41)) (nI (41 * j + 41)) a1 a2 a3 a4 a5 a6 s7 s8 a9 a10 a11 a12 a13 a14 a15 a16 a17 a18 a19 a20 a21 a22 a23 a24 a25 a26
    refine pk_le (41 * j + 41) (41 * j + 41) (fun _ => ?_) (fun z => absurd z (by omega)) (hx := mj_g j 41)
    rw [nI_clamp (show j < 2 ^ 31 by omega), e12, e10, e13, nI_add, nI_1]
    refine ⟨vj, vj, nm_e ⟨vj, mj_rowsFor (by omega) ⟨vj, nm_r (e' := upd a10 j (nI (RU + ((B + 3) / 4 + 1)))) (by rw [nI_add]) ⟨vj, vj, nm_e ?_⟩⟩⟩⟩
    exact H s7 s8 h1 h3 o7 o8
  · intro m i s hi hI' hw
    obtain ⟨s7, s8⟩ := s
    obtain ⟨h1, h2, h3, o7, o8⟩ := hI'
    dsimp only at h1 h2 h3 o7 o8
    have hki := mj_ct_le (a7 := a7) (j := j) i
    show wX_save_43 post (nI j) (nI B) w hf gd uk un wt wr sn sk (m + 1) (nI (mj_ct a7 j i)) (nI (41 * j + i)) a1 a2 a3 a4 a5 a6 s7 s8 a9 a10 a11 a12 a13 a14 a15 a16 a17 a18 a19 a20 a21 a22 a23 a24 a25 a26
    refine pk_le (41 * j + 41) (41 * j + i) (fun z => absurd z (by omega)) (fun _ => ⟨vp_in_nI (by omega) (by decide), ?_⟩) (hx := mj_g j 41)
    rw [nI_clamp (show 41 * j + i < 2 ^ 31 by omega), nI_clamp (show j < 2 ^ 31 by omega)]
    show (s7 (41 * j + i) = 0 → _) ∧ (¬ s7 (41 * j + i) = 0 → _)
    rw [(h2 i (by omega) hi).1]
    refine br_c (fun e => nm_r (nI_1 _) ?_) (fun e => ?_)
    · have hh := hw (s7, s8) ⟨fun b hb => ?_, fun b b1 b2 => h2 b (by omega) b2, fun b hb => ?_, o7, o8⟩
      · dsimp only at hh
        rw [mj_ct_z e] at hh
        exact hh
      · by_cases eb : b = i
        · rw [eb]; exact ((h2 i (by omega) hi).1).trans e
        · exact h1 b (by omega)
      · by_cases eb : b = i
        · rw [eb, if_pos e]; exact (h2 i (by omega) hi).2
        · exact h3 b (by omega)
    · rw [e11, e12, nI_add, nI_add, mj_rem48 (show I + IU + mj_ct a7 j i < 2 ^ 31 by omega)]
      refine ⟨vp_in_nI (by omega) (by decide), nm_e ⟨vj, vj, by decide, vp_in_nI (by omega) (by decide), nm_e (nm_r (nI_1 _) (nm_r (nI_1 _) ?_))⟩⟩
      have hh := hw (upd s7 (41 * j + i) 0, upd s8 (41 * j + i) (nI ((I + IU + mj_ct a7 j i) % 48))) ⟨fun b hb => ?_, fun b b1 b2 => ?_, fun b hb => ?_, mj_out_u o7 (by omega) (by omega), mj_out_u o8 (by omega) (by omega)⟩
      · dsimp only at hh
        rw [mj_ct_s e] at hh
        exact hh
      · show upd s7 (41 * j + i) 0 (41 * j + b) = 0
        by_cases eb : b = i
        · rw [eb, pk_us]
        · rw [pk_un (by omega)]; exact h1 b (by omega)
      · show upd s7 (41 * j + i) 0 (41 * j + b) = a7 (41 * j + b) ∧ upd s8 (41 * j + i) (nI ((I + IU + mj_ct a7 j i) % 48)) (41 * j + b) = a8 (41 * j + b)
        rw [pk_un (by omega), pk_un (by omega)]
        exact h2 b (by omega) b2
      · show upd s8 (41 * j + i) (nI ((I + IU + mj_ct a7 j i) % 48)) (41 * j + b) = _
        by_cases eb : b = i
        · rw [eb, pk_us, if_neg e]
        · rw [pk_un (by omega)]; exact h3 b (by omega)
theorem mj_cpy_0 {j b : Nat} {sv cu : Nat → Nat → Int32} {d : Prop} {a5 a6 a7 : Nat → Int32} (h : mj_cpy j b sv cu d a5 a6 a7) (e : a7 (41 * j + b) = 0) : ∀ c, c < 8 → cu b c = sv b c := by
  rcases h with ⟨_, _, h⟩ | ⟨_, _, ⟨_, h⟩ | ⟨h, _⟩⟩
  · exact h
  · exact h
  · exact absurd (e.symm.trans h) (by decide)
theorem mj_cpy_1 {j b : Nat} {sv cu : Nat → Nat → Int32} {d : Prop} {a5 a6 a7 : Nat → Int32} (h : mj_cpy j b sv cu d a5 a6 a7) (e : ¬ a7 (41 * j + b) = 0) : a6 (41 * j + b) = 1 ∧ ∀ c, c < 8 → a5 (8 * (41 * j + b) + c) = cu b c := by
  rcases h with ⟨_, h, _⟩ | ⟨h1, h2, _⟩
  · exact absurd h e
  · exact ⟨h1, h2⟩
theorem mj_cpy_c {j b : Nat} {sv cu : Nat → Nat → Int32} {d d' : Prop} {a5 a6 a7 b7 : Nat → Int32} (h : mj_cpy j b sv cu d a5 a6 a7) (e : b7 (41 * j + b) = 0) : mj_cpy j b cu cu d' a5 a6 b7 := by
  rcases h with ⟨h, _, _⟩ | ⟨h1, h2, _⟩
  · exact Or.inl ⟨h, e, fun _ _ => rfl⟩
  · exact Or.inr ⟨h1, h2, Or.inl ⟨e, fun _ _ => rfl⟩⟩
theorem mj_JR_sv {j : Nat} {sv sv' : Nat → Nat → Int32} {T : Nat} {a1 a2 a3 a4 a8 a9 a10 a11 a12 a13 a14 : Nat → Int32} (h : mj_JR j sv T a1 a2 a3 a4 a8 a9 a10 a11 a12 a13 a14) (e : ∀ b c, b < 41 → c < 8 → sv' b c = sv b c) : mj_JR j sv' T a1 a2 a3 a4 a8 a9 a10 a11 a12 a13 a14 := by
  obtain ⟨n, A, RU, I, IU, N0, N, num, hb, hv, ha, hp, hr, hi⟩ := h
  refine ⟨n, A, RU, I, IU, N0, N, num, hb, hv, ha, mj_path_cg n (fun _ _ _ _ _ => rfl) (fun _ _ _ _ _ => rfl) (fun _ _ _ _ => rfl) e hp, hr, fun b hb => ?_⟩
  rcases hi b hb with ⟨e8, h1⟩ | ⟨q, hq, e8, h1⟩
  · exact Or.inl ⟨e8, fun c hc => by rw [e b c hb hc]; exact h1 c hc⟩
  · exact Or.inr ⟨q, hq, e8, fun c hc => by rw [e b c hb hc]; exact h1 c hc⟩
def mj_uF (F : Nat → Nat → Nat → Int32) (j : Nat) (X : Nat → Nat → Int32) : Nat → Nat → Nat → Int32 := fun i => if i = j then X else F i
theorem mj_uFs {F : Nat → Nat → Nat → Int32} {j : Nat} {X : Nat → Nat → Int32} : mj_uF F j X j = X := if_pos rfl
theorem mj_uFn {F : Nat → Nat → Nat → Int32} {i j : Nat} {X : Nat → Nat → Int32} (h : i ≠ j) : mj_uF F j X i = F i := if_neg h
set_option maxHeartbeats 4000000 in
theorem mj_save {post : St2 → Prop} {w hf gd uk un wt wr sn sk : Int32} {a1 a2 a3 a4 a5 a6 a7 a8 a9 a10 a11 a12 a13 a14 a15 a16 a17 a18 a19 a20 a21 a22 a23 a24 a25 a26 : Nat → Int32} {F Cu : Nat → Nat → Nat → Int32} {d : Nat → Prop} {T j : Nat} (h : mj_AB F Cu d T a1 a2 a3 a4 a5 a6 a7 a8 a9 a10 a11 a12 a13 a14) (hT : T < 2 ^ 28) (hj : j < 4)
    (H : ∀ (w' hf' gd' : Int32) (b1 b2 b3 b4 b7 b8 b9 b10 b11 b12 b13 b14 b18 : Nat → Int32), mj_AB (mj_uF F j (Cu j)) Cu (fun i => i ≠ j ∧ d i) (T + 2) b1 b2 b3 b4 a5 a6 b7 b8 b9 b10 b11 b12 b13 b14 →
      post (w', hf', gd', uk, un, wt, wr, sn, sk, b1, b2, b3, b4, a5, a6, b7, b8, b9, b10, b11, b12, b13, b14, a15, a16, a17, b18, a19, a20, a21, a22, a23, a24, a25, a26)) : wpX_save post (w, hf, gd, uk, un, wt, wr, sn, sk, a1, a2, a3, a4, a5, a6, a7, a8, a9, a10, a11, a12, a13, a14, a15, a16, a17, a18, a19, a20, a21, a22, a23, a24, a25, a26) (nI j) := by
  unfold wpX_save
  refine mj_changedBlocks hj ?_
  obtain ⟨B, hB⟩ : ∃ B, mj_ct a7 j 41 = B := ⟨_, rfl⟩
  have hB41 : B ≤ 41 := by rw [← hB]; exact mj_ct_le 41
  rw [hB]
  refine pk_eq B 0 (fun z => ?_) (fun z => ?_)
  · have hz : ∀ b, b < 41 → a7 (41 * j + b) = 0 := fun b hb => mj_ct_nz hb (hB.trans z)
    refine H w hf gd a1 a2 a3 a4 a7 a8 a9 a10 a11 a12 a13 a14 a18 ⟨fun i hi => ?_, fun i b hi hb => ?_⟩
    · by_cases e : i = j
      · subst e
        rw [mj_uFs]
        exact mj_JR_sv (mj_JR_mono (by omega) (h.1 i hi)) (fun b c hb hc => mj_cpy_0 (h.2 i b hi hb) (hz b hb) c hc)
      · rw [mj_uFn e]
        exact mj_JR_mono (by omega) (h.1 i hi)
    · by_cases e : i = j
      · subst e
        rw [mj_uFs]
        exact mj_cpy_c (h.2 i b hi hb) (hz b hb)
      · rw [mj_uFn e]
        have h2 := h.2 i b hi hb
        rcases h2 with h2 | ⟨x1, x2, x3 | ⟨x3, x4⟩⟩
        · exact Or.inl h2
        · exact Or.inr ⟨x1, x2, Or.inl x3⟩
        · exact Or.inr ⟨x1, x2, Or.inr ⟨x3, e, x4⟩⟩
  · refine mj_makeRoom (h.1 j hj) (by omega) hj hB41 (fun w' hf' b1 b4 b8 b9 b10 b11 b12 b14 hJ hroom o1 o4 o8 o9 o10 o11 o12 o14 => ?_)
    obtain ⟨RU', IU', r10, r12, hru, hiu⟩ := hroom
    obtain ⟨n, A, RU, I, IU, N0, N, num, ⟨q1, q2, q3, q4, q5, q6, q7⟩, ⟨v9, v10, v11, v12, v13, v14⟩, ha, hp, hr, hi⟩ := hJ
    have eRU : RU' = RU := (nI_eq (by omega) (by omega)).mp (r10.symm.trans v10)
    have eIU : IU' = IU := (nI_eq (by omega) (by omega)).mp (r12.symm.trans v12)
    subst eRU eIU
    refine mj_writeSaving (fu := true) (wn := 1000) hj q1 q2 hB (by omega) hru hiu v9 v10 v11 v12 v13 (by omega) rfl (by omega) (fun _ => ⟨rfl, rfl⟩) (fun z => absurd z (by decide)) hr (fun w2 gd2 b2 b3 b18 o2 o3 im ro rn _ hfull => ?_)
    obtain ⟨hsec, hims⟩ := hfull rfl
    refine nm_r (e' := nI (41 * j + 0)) (by rw [show (41 : Int32) = nI 41 from rfl, pk_mul]; rfl) ?_
    refine mj_sv43 hj q2 hB hiu v10 v11 v12 v13 (fun b7 c8 z7 z8 o7 oc8 => ?_)
    have hims' : ∀ q c, q < B → c < 8 → b2 (8 * (48 * j + (I + IU' + q) % 48) + c) = Cu j (mj_bs a7 j 41 q) c := by
      intro q c hq hc
      have hbl := mj_bs_lt (a7 := a7) (j := j) 41 q (by omega)
      rw [hims q c hq hc]
      exact (mj_cpy_1 (h.2 j _ hj hbl.1) hbl.2.1).2 c hc
    have hun : ∀ b c, b < 41 → c < 8 → (∀ q, q < B → mj_bs a7 j 41 q ≠ b) → F j b c = Cu j b c := by
      intro b c hb hc hq
      by_cases e : a7 (41 * j + b) = 0
      · exact (mj_cpy_0 (h.2 j b hj hb) e c hc).symm
      · have k1 := mj_ct_s e
        have k2 := mj_ct_up (a7 := a7) (j := j) (show b + 1 ≤ 41 by omega)
        exact absurd (mj_bs_at e 41 hb) (hq (mj_ct a7 j b) (by omega))
    refine H w2 0 gd2 b1 b2 b3 b4 b7 c8 b9 _ b11 _ _ b14 b18 ⟨fun i hi' => ?_, fun i b hi' hb => ?_⟩
    · by_cases e : i = j
      · subst e
        rw [mj_uFs]
        refine ⟨n + 1, A, RU' + ((B + 3) / 4 + 1), I, IU' + B, N0, N + 1, num, ⟨q1, q2, by omega, by omega, by omega, q6, by omega⟩, ⟨v9, pk_us, v11, pk_us, pk_us, v14⟩, ha, ?_, fun r hr' => ?_, fun b hb => ?_⟩
        · refine mj_path_snoc n (mj_path_cg n ro im (fun _ _ _ _ => rfl) (fun _ _ _ _ => rfl) hp) ?_
          refine ⟨B, mj_bs a7 i 41, by omega, hB41, fun q hq => (mj_bs_lt (a7 := a7) (j := i) 41 q (by omega)).1, hsec, by omega, by omega, rfl, fun b c hb hc => ?_⟩
          exact mj_ov_val B hims' b c hc (hun b c hb hc)
        · obtain ⟨v, hv, e⟩ := rn r hr'
          exact ⟨v, by omega, e⟩
        · have z8b := z8 b hb
          by_cases e7 : a7 (41 * i + b) = 0
          · rw [if_pos e7] at z8b
            have ecu := mj_cpy_0 (h.2 i b hi' hb) e7
            rcases hi b hb with ⟨e8, h1⟩ | ⟨q, hq, e8, h1⟩
            · exact Or.inl ⟨z8b.trans e8, fun c hc => by rw [ecu c hc]; exact h1 c hc⟩
            · exact Or.inr ⟨q, by omega, z8b.trans e8, fun c hc => by rw [ecu c hc, im (I + q) c (by omega) (by omega) hc]; exact h1 c hc⟩
          · rw [if_neg e7] at z8b
            have k1 := mj_ct_s e7
            have k2 := mj_ct_up (a7 := a7) (j := i) (show b + 1 ≤ 41 by omega)
            refine Or.inr ⟨IU' + mj_ct a7 i b, by omega, by rw [z8b, Nat.add_assoc], fun c hc => ?_⟩
            rw [← Nat.add_assoc, hims' _ c (by omega) hc, mj_bs_at e7 41 hb]
      · rw [mj_uFn e]
        exact mj_JR_fr e (mj_JR_mono (by omega) (h.1 i hi')) o1 o2 o3 o4 (mj_out_t o8 oc8) o9 (mj_out_u o10 (by omega) (by omega)) o11 (mj_out_u o12 (by omega) (by omega)) (mj_out_u mj_out_r (by omega) (by omega)) o14
    · by_cases e : i = j
      · subst e
        rw [mj_uFs]
        exact mj_cpy_c (h.2 i b hi' hb) (z7 b hb)
      · rw [mj_uFn e]
        have h2 := mj_cpy_fr e hb (h.2 i b hi' hb) mj_out_r mj_out_r o7
        rcases h2 with h2 | ⟨x1, x2, x3 | ⟨x3, x4⟩⟩
        · exact Or.inl h2
        · exact Or.inr ⟨x1, x2, Or.inl x3⟩
        · exact Or.inr ⟨x1, x2, Or.inr ⟨x3, e, x4⟩⟩
set_option maxHeartbeats 4000000 in
theorem mj_saveSome {post : St2 → Prop} {w hf gd uk un wt wr sn sk : Int32} {a1 a2 a3 a4 a5 a6 a7 a8 a9 a10 a11 a12 a13 a14 a15 a16 a17 a18 a19 a20 a21 a22 a23 a24 a25 a26 : Nat → Int32} {F Cu : Nat → Nat → Nat → Int32} {d : Nat → Prop} {T j : Nat} {steps : Int32} (h : mj_AB F Cu d T a1 a2 a3 a4 a5 a6 a7 a8 a9 a10 a11 a12 a13 a14) (hT : T < 2 ^ 28) (hj : j < 4)
    (H : ∀ (w' hf' gd' : Int32) (b1 b2 b3 b4 b8 b9 b10 b11 b12 b14 b18 : Nat → Int32), (∀ i, i < 4 → mj_RK i (F i) (T + 1) b1 b2 b3 b4) →
      post (w', hf', gd', uk, un, wt, wr, sn, sk, b1, b2, b3, b4, a5, a6, a7, b8, b9, b10, b11, b12, a13, b14, a15, a16, a17, b18, a19, a20, a21, a22, a23, a24, a25, a26)) : wpX_saveSome post (w, hf, gd, uk, un, wt, wr, sn, sk, a1, a2, a3, a4, a5, a6, a7, a8, a9, a10, a11, a12, a13, a14, a15, a16, a17, a18, a19, a20, a21, a22, a23, a24, a25, a26) (nI j) steps := by
  unfold wpX_saveSome
  refine mj_changedBlocks hj ?_
  obtain ⟨B, hB⟩ : ∃ B, mj_ct a7 j 41 = B := ⟨_, rfl⟩
  have hB41 : B ≤ 41 := by rw [← hB]; exact mj_ct_le 41
  rw [hB]
  refine pk_eq B 0 (fun z => ?_) (fun z => ?_)
  · exact H w hf gd a1 a2 a3 a4 a8 a9 a10 a11 a12 a14 a18 (fun i hi => mj_RK_of (by omega) (mj_JR_mono (by omega) (h.1 i hi)))
  · refine mj_makeRoom (h.1 j hj) (by omega) hj hB41 (fun w' hf' b1 b4 b8 b9 b10 b11 b12 b14 hJ hroom o1 o4 o8 o9 o10 o11 o12 o14 => ?_)
    obtain ⟨RU', IU', r10, r12, hru, hiu⟩ := hroom
    obtain ⟨n, A, RU, I, IU, N0, N, num, ⟨q1, q2, q3, q4, q5, q6, q7⟩, ⟨v9, v10, v11, v12, v13, v14⟩, ha, hp, hr, hi⟩ := hJ
    have eRU : RU' = RU := (nI_eq (by omega) (by omega)).mp (r10.symm.trans v10)
    have eIU : IU' = IU := (nI_eq (by omega) (by omega)).mp (r12.symm.trans v12)
    subst eRU eIU
    have go : ∀ (z0 : Int32) (wn : Nat), wn ≤ B + (B + 3) / 4 → z0 = nI wn → wX_saveSome_48 post (nI j) steps (nI B) z0 w' hf' gd uk un wt wr sn sk b1 a2 a3 b4 a5 a6 a7 b8 b9 b10 b11 b12 a13 b14 a15 a16 a17 a18 a19 a20 a21 a22 a23 a24 a25 a26 := by
      intro z0 wn hwn ez
      have half : ∀ hz : Int32, (narrow .boolean (.int hz) = .int hz ∧ fits .boolean (.int hz) = true) → wX_saveSome_64 post (nI j) (nI B) hz z0 hf' gd uk un wt wr sn sk b1 a2 a3 b4 a5 a6 a7 b8 b9 b10 b11 b12 a13 b14 a15 a16 a17 a18 a19 a20 a21 a22 a23 a24 a25 a26 := by
        intro hz hnf
        unfold wX_saveSome_64
        refine ⟨hnf.1, hnf.2, ?_⟩
        refine mj_writeSaving (fu := false) (wn := wn) hj q1 q2 hB (by omega) hru hiu v9 v10 v11 v12 v13 (by omega) ez (by omega) (fun z => absurd z (by decide)) (fun _ => hwn) hr (fun w2 gd2 b2 b3 b18 o2 o3 im ro rn hcnt _ => ?_)
        refine H w2 hz gd2 b1 b2 b3 b4 b8 b9 b10 b11 b12 b14 b18 (fun i hi' => ?_)
        by_cases e : i = j
        · subst e
          exact ⟨n, A, RU', I, IU', N0, N, num, ⟨q1, q2, q3, q4, q5, q6, q7⟩, ha, mj_path_cg n ro im (fun _ _ _ _ => rfl) (fun _ _ _ _ => rfl) hp, fun r hr' => ⟨rn r hr', hcnt rfl r hr'⟩⟩
        · exact mj_RK_fr e (mj_RK_of (by omega) (mj_JR_mono (by omega) (h.1 i hi'))) o1 o2 o3 o4
      unfold wX_saveSome_48
      exact br_c (fun _ => half 1 ⟨rfl, rfl⟩) (fun _ => half 0 ⟨rfl, rfl⟩)
    refine mj_rowsFor (by omega) ?_
    refine nm_r (e' := nI (B + (B + 3) / 4)) (by rw [nI_add]; exact pk_sub (b := 1) (by omega)) ?_
    refine br_c (fun z0 => br_c (fun z1 => ?_) (fun z1 => go _ _ (by omega) rfl)) (fun z0 => go 0 0 (by omega) rfl)
    obtain ⟨m, hm, em⟩ := nI_of2 (n := B + (B + 3) / 4) (nI_toInt (by omega)) (show ¬ steps < 0 from fun z => by
      have := Int32.not_le.mpr z
      exact this z0) z1
    exact go steps m hm em
end
section
/-! coming up -/
theorem mj_fa65 {post : St2 → Prop} {w hf gd uk un wt wr sn sk : Int32} {a1 a2 a3 a4 a5 a6 a7 a8 a9 a10 a11 a12 a13 a14 a15 a16 a17 a18 a19 a20 a21 a22 a23 a24 a25 a26 : Nat → Int32} {j t num A I N0 : Nat} (hj : j < 4) (ht : t + 5 ≤ 40) (e0 : a4 t = nI num) (e1 : a4 (t + 1) = nI A) (e2 : a4 (t + 2) = nI I) (e3 : a4 (t + 3) = nI N0)
    (H : post (w, hf, gd, uk, un, wt, wr, sn, sk, a1, a2, a3, a4, a5, a6, a7, a8, (upd a9 j (nI A)), (upd a10 j 0), (upd a11 j (nI I)), (upd a12 j 0), (upd a13 j (nI N0)), (upd a14 j (nI num)), a15, a16, a17, a18, a19, a20, a21, a22, a23, a24, a25, a26)) : wX_findAnchor_65 post (nI j) (nI t) w hf gd uk un wt wr sn sk a1 a2 a3 a4 a5 a6 a7 a8 a9 a10 a11 a12 a13 a14 a15 a16 a17 a18 a19 a20 a21 a22 a23 a24 a25 a26 := by
  unfold wX_findAnchor_65
  have vj : vp_in (nI j) 4 := vp_in_nI hj (by decide)
  rw [nI_1, show nI t + 2 = nI (t + 2) from mj_p t 2 rfl, show nI t + 3 = nI (t + 3) from mj_p t 3 rfl, nI_clamp (show t < 2 ^ 31 by omega), nI_clamp (show t + 1 < 2 ^ 31 by omega), nI_clamp (show t + 2 < 2 ^ 31 by omega), nI_clamp (show t + 3 < 2 ^ 31 by omega), nI_clamp (show j < 2 ^ 31 by omega), e0, e1, e2, e3]
  exact ⟨vp_in_nI (by omega) (by decide), vj, nm_e ⟨vp_in_nI (by omega) (by decide), vj, nm_e ⟨vp_in_nI (by omega) (by decide), vj, nm_e ⟨vp_in_nI (by omega) (by decide), vj, nm_e ⟨vj, nm_e ⟨vj, nm_e H⟩⟩⟩⟩⟩⟩
theorem mj_findAnchor {post : St2 → Prop} {w hf gd uk un wt wr sn sk : Int32} {a1 a2 a3 a4 a5 a6 a7 a8 a9 a10 a11 a12 a13 a14 a15 a16 a17 a18 a19 a20 a21 a22 a23 a24 a25 a26 : Nat → Int32} {j num A I N0 : Nat} (hj : j < 4) (ha : mj_anc j num A I N0 a4) (hnum : num < 2 ^ 30)
    (H : ∀ b6 b7 b8 : Nat → Int32, (∀ b, b < 41 → b6 (41 * j + b) = 0 ∧ b7 (41 * j + b) = 0 ∧ b8 (41 * j + b) = -1) → mj_out (41 * j) 41 a6 b6 → mj_out (41 * j) 41 a7 b7 → mj_out (41 * j) 41 a8 b8 →
      post (w, hf, gd, uk, un, wt, wr, sn, sk, a1, a2, a3, a4, a5, b6, b7, b8, (upd a9 j (nI A)), (upd a10 j 0), (upd a11 j (nI I)), (upd a12 j 0), (upd a13 j (nI N0)), (upd a14 j (nI num)), a15, a16, a17, a18, a19, a20, a21, a22, a23, a24, a25, a26)) : wpX_findAnchor post (w, hf, gd, uk, un, wt, wr, sn, sk, a1, a2, a3, a4, a5, a6, a7, a8, a9, a10, a11, a12, a13, a14, a15, a16, a17, a18, a19, a20, a21, a22, a23, a24, a25, a26) (nI j) := by
  unfold wpX_findAnchor
  refine mj_forget hj (fun b6 b7 b8 hz o6 o7 o8 => ?_)
  have H' := H b6 b7 b8 hz o6 o7 o8
  refine nm_r (e' := nI (10 * j)) (by rw [show (10 : Int32) = nI 10 from rfl, pk_mul]) (nm_r (e' := nI (10 * j + 5)) (mj_p _ 5 rfl) ?_)
  rw [show nI (10 * j) + 4 = nI (10 * j + 4) from mj_p (10 * j) 4 rfl, show nI (10 * j + 5) + 4 = nI (10 * j + 5 + 4) from mj_p (10 * j + 5) 4 rfl, nI_clamp (show 10 * j < 2 ^ 31 by omega), nI_clamp (show 10 * j + 4 < 2 ^ 31 by omega), nI_clamp (show 10 * j + 5 < 2 ^ 31 by omega), nI_clamp (show 10 * j + 5 + 4 < 2 ^ 31 by omega)]
  refine ⟨vp_in_nI (by omega) (by decide), vp_in_nI (by omega) (by decide), ?_⟩
  obtain ⟨f0, f1, f2, f3, f4, v, hv, fv⟩ := ha
  rcases Nat.mod_two_eq_zero_or_one num with hm | hm
  · rw [show (num + 1) % 2 = 1 by omega] at f0 f1 f2 f3 f4
    rw [hm] at fv
    have g63 : wX_findAnchor_63 post (nI j) (nI (10 * j + 5)) w hf gd uk un wt wr sn sk a1 a2 a3 a4 a5 b6 b7 b8 a9 a10 a11 a12 a13 a14 a15 a16 a17 a18 a19 a20 a21 a22 a23 a24 a25 a26 := by
      unfold wX_findAnchor_63
      exact mj_fa65 hj (by omega) f0 f1 f2 f3 H'
    refine br_c (fun _ => ⟨vp_in_nI (by omega) (by decide), vp_in_nI (by omega) (by decide), br_t (f0.trans f4.symm) ⟨vp_in_nI (by omega) (by decide), vp_in_nI (by omega) (by decide), br_f ?_ g63⟩⟩) (fun _ => g63)
    rw [show a4 (10 * j + 5) = nI num from f0, show a4 (10 * j) = nI v from fv]
    exact nI_ge hv (by omega)
  · rw [show (num + 1) % 2 = 0 by omega] at f0 f1 f2 f3 f4
    rw [hm] at fv
    have g65 : wX_findAnchor_65 post (nI j) (nI (10 * j)) w hf gd uk un wt wr sn sk a1 a2 a3 a4 a5 b6 b7 b8 a9 a10 a11 a12 a13 a14 a15 a16 a17 a18 a19 a20 a21 a22 a23 a24 a25 a26 := mj_fa65 hj (by omega) f0 f1 f2 f3 H'
    refine br_t (f0.trans f4.symm) ⟨vp_in_nI (by omega) (by decide), vp_in_nI (by omega) (by decide), br_c (fun _ => ⟨vp_in_nI (by omega) (by decide), vp_in_nI (by omega) (by decide), br_t ?_ g65⟩) (fun _ => g65)⟩
    rw [show a4 (10 * j + 5) = nI v from fv, show a4 (10 * j) = nI num from f0]
    exact nI_le (by omega) (by omega)
theorem mj_isRow {post : Int32 → Prop} {w hf gd uk un wt wr sn sk : Int32} {a1 a2 a3 a4 a5 a6 a7 a8 a9 a10 a11 a12 a13 a14 a15 a16 a17 a18 a19 a20 a21 a22 a23 a24 a25 a26 : Nat → Int32} {j A k N t : Nat} {so : Int32} (hj : j < 4) (e9 : a9 j = nI A) (hk : A + k < 1000) (e13 : a13 j = nI N) (ht : 8 * (14 * j + (A + k) % 14) = t)
    (H1 : a3 t = so → a3 (t + 1) = nI N → a3 (t + 7) = nI N → post 1) (H0 : ¬ (a3 t = so ∧ a3 (t + 1) = nI N ∧ a3 (t + 7) = nI N) → post 0) : wpX_isRow post (w, hf, gd, uk, un, wt, wr, sn, sk, a1, a2, a3, a4, a5, a6, a7, a8, a9, a10, a11, a12, a13, a14, a15, a16, a17, a18, a19, a20, a21, a22, a23, a24, a25, a26) (nI j) (nI k) so := by
  unfold wpX_isRow
  refine mj_rowCell hj e9 (by omega) ?_
  rw [ht, nI_1, show nI t + 7 = nI (t + 7) from mj_p t 7 rfl, nI_clamp (show t < 2 ^ 31 by omega), nI_clamp (show t + 1 < 2 ^ 31 by omega), nI_clamp (show t + 7 < 2 ^ 31 by omega), nI_clamp (show j < 2 ^ 31 by omega), e13]
  have vj : vp_in (nI j) 4 := vp_in_nI hj (by decide)
  exact ⟨vp_in_nI (by omega) (by decide), br_c (fun x1 => ⟨vp_in_nI (by omega) (by decide), vj, br_c (fun x2 => ⟨vp_in_nI (by omega) (by decide), vj, br_c (fun x3 => H1 x1 x2 x3) (fun x3 => H0 (fun z => x3 z.2.2))⟩) (fun x2 => H0 (fun z => x2 z.2.1))⟩) (fun x1 => H0 (fun z => x1 z.1))⟩
theorem mj_replayList {post : St2 → Prop} {w hf gd uk un wt wr sn sk : Int32} {a1 a2 a3 a4 a5 a6 a7 a8 a9 a10 a11 a12 a13 a14 a15 a16 a17 a18 a19 a20 a21 a22 a23 a24 a25 a26 : Nat → Int32} {j A k I N n : Nat} {bs : Nat → Nat} (hj : j < 4) (e9 : a9 j = nI A) (hk : A + k < 1000) (e11 : a11 j = nI (I % 48)) (hl : mj_lst a3 j ((A + k) % 14) N n bs) (hn : n ≤ 4) (hb : ∀ i, i < n → bs i < 41)
    (H : ∀ b1 b11 : Nat → Int32, (∀ b c, b < 41 → c < 8 → b1 (8 * (41 * j + b) + c) = mj_ov a2 j I bs n (mj_dsk a1 j) b c) → mj_out (328 * j) 328 a1 b1 → b11 j = nI ((I + n) % 48) → mj_out j 1 a11 b11 → post (w, hf, gd, uk, un, wt, wr, sn, sk, b1, a2, a3, a4, a5, a6, a7, a8, a9, a10, b11, a12, a13, a14, a15, a16, a17, a18, a19, a20, a21, a22, a23, a24, a25, a26)) : wpX_replayList post (w, hf, gd, uk, un, wt, wr, sn, sk, a1, a2, a3, a4, a5, a6, a7, a8, a9, a10, a11, a12, a13, a14, a15, a16, a17, a18, a19, a20, a21, a22, a23, a24, a25, a26) (nI j) (nI k) := by
  unfold wpX_replayList
  refine mj_rowCell hj e9 (by omega) ?_
  obtain ⟨t, ht⟩ : ∃ t, t = 8 * (14 * j + (A + k) % 14) := ⟨_, rfl⟩
  obtain ⟨l1, l2, l3, l4, l5⟩ := hl
  rw [← ht] at l1 l2 l3 l4 l5 ⊢
  have vj : vp_in (nI j) 4 := vp_in_nI hj (by decide)
  rw [show nI t + 2 = nI (t + 2) from mj_p t 2 rfl, nI_clamp (show t + 2 < 2 ^ 31 by omega), l4]
  refine ⟨vp_in_nI (by omega) (by decide), nm_e ?_⟩
  refine pk_loop (σ := (Nat → Int32) × (Nat → Int32)) (fun m i s => wX_replayList_20 post (nI j) (nI t) (nI n) m (nI i) w hf gd uk un wt wr sn sk s.1 a2 a3 a4 a5 a6 a7 a8 a9 a10 s.2 a12 a13 a14 a15 a16 a17 a18 a19 a20 a21 a22 a23 a24 a25 a26)
    (fun i s => (∀ b c, b < 41 → c < 8 → s.1 (8 * (41 * j + b) + c) = mj_ov a2 j I bs i (mj_dsk a1 j) b c) ∧ mj_out (328 * j) 328 a1 s.1 ∧ s.2 j = nI ((I + i) % 48) ∧ mj_out j 1 a11 s.2) n 0 (a1, a11) (by omega) ⟨fun _ _ _ _ => rfl, mj_out_r, e11, mj_out_r⟩ ?_ ?_
  · intro m s hI
    exact pk_le n n (fun _ => H s.1 s.2 hI.1 hI.2.1 hI.2.2.1 hI.2.2.2) (fun z => absurd z (by omega))
  · intro m i s hi hI hw
    obtain ⟨s1, s11⟩ := s
    obtain ⟨h1, h2, h3, h4⟩ := hI
    dsimp only at h1 h2 h3 h4
    show wX_replayList_20 post (nI j) (nI t) (nI n) (m + 1) (nI i) w hf gd uk un wt wr sn sk s1 a2 a3 a4 a5 a6 a7 a8 a9 a10 s11 a12 a13 a14 a15 a16 a17 a18 a19 a20 a21 a22 a23 a24 a25 a26
    refine pk_le n i (fun z => absurd z (by omega)) (fun _ => pk_le 4 i (fun z => absurd z (by omega)) (fun _ => ?_))
    show vp_in (nI t + 3 + nI i) 448 ∧ (vp_in (nI j) 4 ∧ wpX_copyHome _ _ (nI j) (a3 (nI t + 3 + nI i).toNatClampNeg) (s11 (nI j).toNatClampNeg) 8)
    rw [show nI t + 3 = nI (t + 3) from mj_p t 3 rfl, nI_add, nI_clamp (show t + 3 + i < 2 ^ 31 by omega), nI_clamp (show j < 2 ^ 31 by omega), h3, show a3 (t + 3 + i) = nI (bs i) from by rw [Nat.add_assoc]; exact l5 i hi]
    refine ⟨vp_in_nI (by omega) (by decide), vj, mj_copyHome hj (hb i hi) (by omega) (fun b1 c1 o1 => ?_)⟩
    show vp_in (nI j) 4 ∧ (¬ (48 : Int32) = 0 ∧ (vp_in (nI j) 4 ∧ ∀ x : Nat → Int32, x = upd s11 j ((s11 j + 1) - (s11 j + 1) / 48 * 48) → _))
    rw [h3, nI_1, mj_rem48 (by omega)]
    refine ⟨vj, by decide, vj, nm_e (nm_r (nI_1 i) (hw (b1, upd s11 j (nI (((I + i) % 48 + 1) % 48))) ⟨fun b c hb' hc => ?_, mj_out_t h2 (mj_out_w o1 (by have := hb i hi; omega) (by have := hb i hi; omega)), ?_, mj_out_u h4 (by omega) (by omega)⟩))⟩
    · show b1 (8 * (41 * j + b) + c) = (if b = bs i then a2 (8 * (48 * j + (I + i) % 48) + c) else mj_ov a2 j I bs i (mj_dsk a1 j) b c)
      by_cases e : b = bs i
      · rw [if_pos e, e, c1 c hc]
      · have := hb i hi
        rw [if_neg e, o1 _ (by omega)]
        exact h1 b c hb' hc
    · show upd s11 j (nI (((I + i) % 48 + 1) % 48)) j = nI ((I + (i + 1)) % 48)
      rw [pk_us]
      congr 1
      omega
theorem mj_ov_add {a2 : Nat → Int32} {j I p : Nat} {bs : Nat → Nat} {D : Nat → Nat → Int32} : ∀ n, mj_ov a2 j (I + p) (fun i => bs (p + i)) n (mj_ov a2 j I bs p D) = mj_ov a2 j I bs (p + n) D
  | 0 => rfl
  | n + 1 => by
    funext b c
    show (if b = bs (p + n) then a2 (8 * (48 * j + (I + p + n) % 48) + c) else mj_ov a2 j (I + p) (fun i => bs (p + i)) n (mj_ov a2 j I bs p D) b c) = (if b = bs (p + n) then a2 (8 * (48 * j + (I + (p + n)) % 48) + c) else mj_ov a2 j I bs (p + n) D b c)
    rw [mj_ov_add n, Nat.add_assoc]
set_option maxHeartbeats 4000000 in
theorem mj_replay_go {post : Int32 → St2 → Prop} {w hf gd uk un wt wr sn sk : Int32} {a1 a2 a3 a4 a5 a6 a7 a8 a9 a10 a11 a12 a13 a14 a15 a16 a17 a18 a19 a20 a21 a22 a23 a24 a25 a26 : Nat → Int32} {j A I N l : Nat} {bs : Nat → Nat} (hj : j < 4) (hA : A < 1000) (hN : N < 2 ^ 30) (e9 : a9 j = nI (A % 14)) (e11 : a11 j = nI (I % 48)) (e13 : a13 j = nI N) (h0 : 0 < l) (h41 : l ≤ 41) (hb : ∀ q, q < l → bs q < 41) (hs : mj_sec a3 j A N l bs)
    (H : ∀ b1 b9 b11 b13 : Nat → Int32, (∀ b c, b < 41 → c < 8 → b1 (8 * (41 * j + b) + c) = mj_ov a2 j I bs l (mj_dsk a1 j) b c) → mj_out (328 * j) 328 a1 b1 → b9 j = nI ((A + (l + 3) / 4 + 1) % 14) → mj_out j 1 a9 b9 → b11 j = nI ((I + l) % 48) → mj_out j 1 a11 b11 → b13 j = nI (N + 1) → mj_out j 1 a13 b13 → post 1 (w, hf, gd, uk, un, wt, wr, sn, sk, b1, a2, a3, a4, a5, a6, a7, a8, b9, a10, b11, a12, b13, a14, a15, a16, a17, a18, a19, a20, a21, a22, a23, a24, a25, a26)) : wpX_replay post (w, hf, gd, uk, un, wt, wr, sn, sk, a1, a2, a3, a4, a5, a6, a7, a8, a9, a10, a11, a12, a13, a14, a15, a16, a17, a18, a19, a20, a21, a22, a23, a24, a25, a26) (nI j) := by
  have vj : vp_in (nI j) 4 := vp_in_nI hj (by decide)
  obtain ⟨L, hL⟩ : ∃ L, L = (l + 3) / 4 := ⟨_, rfl⟩
  have hs2 := hs.2
  rw [← hL] at hs2 H
  have go : wX_replay_24 post (nI j) (nI L) w hf gd uk un wt wr sn sk a1 a2 a3 a4 a5 a6 a7 a8 a9 a10 a11 a12 a13 a14 a15 a16 a17 a18 a19 a20 a21 a22 a23 a24 a25 a26 := by
    unfold wX_replay_24
    refine mj_isRow (t := 8 * (14 * j + (A + L) % 14)) hj e9 (by omega) e13 (by omega) (fun _ _ _ => br_f (by decide) ?_) (fun z => absurd hs2 z)
    refine pk_loop (σ := (Nat → Int32) × (Nat → Int32)) (fun m i s => wX_replay_38 post (nI j) (nI L) m (nI i) w hf gd uk un wt wr sn sk s.1 a2 a3 a4 a5 a6 a7 a8 a9 a10 s.2 a12 a13 a14 a15 a16 a17 a18 a19 a20 a21 a22 a23 a24 a25 a26)
      (fun i s => (∀ b c, b < 41 → c < 8 → s.1 (8 * (41 * j + b) + c) = mj_ov a2 j I bs (min (4 * i) l) (mj_dsk a1 j) b c) ∧ mj_out (328 * j) 328 a1 s.1 ∧ s.2 j = nI ((I + min (4 * i) l) % 48) ∧ mj_out j 1 a11 s.2) L 0 (a1, a11) (by omega) ⟨fun b c _ _ => by rw [show min (4 * 0) l = 0 by omega]; rfl, mj_out_r, by rw [show min (4 * 0) l = 0 by omega]; exact e11, mj_out_r⟩ ?_ ?_
    · intro m s hI
      obtain ⟨s1, s11⟩ := s
      obtain ⟨h1, h2, h3, h4⟩ := hI
      dsimp only at h1 h2 h3 h4
      rw [show min (4 * L) l = l by omega] at h1 h3
      show wX_replay_38 post (nI j) (nI L) (m + 1) (nI L) w hf gd uk un wt wr sn sk s1 a2 a3 a4 a5 a6 a7 a8 a9 a10 s11 a12 a13 a14 a15 a16 a17 a18 a19 a20 a21 a22 a23 a24 a25 a26
      refine pk_le L L (fun _ => ?_) (fun z => absurd z (by omega))
      rw [nI_clamp (show j < 2 ^ 31 by omega), e9, e13, nI_add, nI_1, nI_1, mj_rem14 (by omega)]
      refine ⟨vj, by decide, vj, nm_e ⟨vj, vj, nm_e (H s1 _ s11 _ h1 h2 ?_ (mj_out_u mj_out_r (by omega) (by omega)) h3 h4 pk_us (mj_out_u mj_out_r (by omega) (by omega)))⟩⟩
      rw [pk_us]
      congr 1
      omega
    · intro m i s hi hI hw
      obtain ⟨s1, s11⟩ := s
      obtain ⟨h1, h2, h3, h4⟩ := hI
      dsimp only at h1 h2 h3 h4
      rw [show min (4 * i) l = 4 * i by omega] at h1 h3
      show wX_replay_38 post (nI j) (nI L) (m + 1) (nI i) w hf gd uk un wt wr sn sk s1 a2 a3 a4 a5 a6 a7 a8 a9 a10 s11 a12 a13 a14 a15 a16 a17 a18 a19 a20 a21 a22 a23 a24 a25 a26
      refine pk_le L i (fun z => absurd z (by omega)) (fun _ => ?_)
      have hls := hs.1 i (by omega)
      rw [show (A + i) % 14 = (A % 14 + i) % 14 by omega] at hls
      refine mj_replayList (A := A % 14) (I := I + 4 * i) hj e9 (by omega) h3 hls (by omega) (fun x hx => hb _ (by omega)) (fun b1 b11 x1 x2 x3 x4 => nm_r (nI_1 i) (hw (b1, b11) ⟨fun b c hb' hc => ?_, mj_out_t h2 x2, ?_, mj_out_t h4 x4⟩))
      · show b1 (8 * (41 * j + b) + c) = mj_ov a2 j I bs (min (4 * (i + 1)) l) (mj_dsk a1 j) b c
        rw [x1 b c hb' hc, mj_ov_cg (a2 := a2) (b2 := a2) (j := j) (I := I + 4 * i) (bs := fun x => bs (4 * i + x)) (D := mj_ov a2 j I bs (4 * i) (mj_dsk a1 j)) (E := mj_dsk s1 j) (min 4 (l - 4 * i)) (fun _ _ _ _ _ => rfl) h1 b c hb' hc, mj_ov_add, show 4 * i + min 4 (l - 4 * i) = min (4 * (i + 1)) l by omega]
      · show b11 j = nI ((I + min (4 * (i + 1)) l) % 48)
        rw [x3]
        congr 1
        omega
  unfold wpX_replay
  refine pk_loop (σ := Unit) (fun m i _ => wX_replay_2 post (nI j) w hf gd uk un wt wr sn sk a1 a2 a3 a4 a5 a6 a7 a8 a9 a10 a11 a12 a13 a14 a15 a16 a17 a18 a19 a20 a21 a22 a23 a24 a25 a26 m (nI i)) (fun _ _ => True) L 0 () (by omega) trivial ?_ ?_
  · intro m _ _
    refine pk_le 14 L (fun _ => go) (fun _ => ?_)
    refine mj_isRow (t := 8 * (14 * j + (A + L) % 14)) hj e9 (by omega) e13 (by omega) (fun z _ _ => ?_) (fun _ => br_t rfl go)
    exact absurd (z.symm.trans hs2.1) (by decide)
  · intro m i _ hi _ hw
    refine pk_le 14 i (fun z => absurd z (by omega)) (fun _ => ?_)
    obtain ⟨l1, l2, l3, l4, l5⟩ := hs.1 i (by omega)
    exact mj_isRow (t := 8 * (14 * j + (A + i) % 14)) hj e9 (by omega) e13 (by omega) (fun _ _ _ => br_f (by decide) (nm_r (nI_1 i) (hw () trivial))) (fun z => absurd ⟨l1, l2, l3⟩ z)
theorem mj_replay_no {post : Int32 → St2 → Prop} {w hf gd uk un wt wr sn sk : Int32} {a1 a2 a3 a4 a5 a6 a7 a8 a9 a10 a11 a12 a13 a14 a15 a16 a17 a18 a19 a20 a21 a22 a23 a24 a25 a26 : Nat → Int32} {j A N : Nat} (hj : j < 4) (hA : A < 14) (e9 : a9 j = nI A) (e13 : a13 j = nI N) (hc : ∀ r, r < 14 → ¬ mj_cnt a3 j r N) (H : post 0 (w, hf, gd, uk, un, wt, wr, sn, sk, a1, a2, a3, a4, a5, a6, a7, a8, a9, a10, a11, a12, a13, a14, a15, a16, a17, a18, a19, a20, a21, a22, a23, a24, a25, a26)) : wpX_replay post (w, hf, gd, uk, un, wt, wr, sn, sk, a1, a2, a3, a4, a5, a6, a7, a8, a9, a10, a11, a12, a13, a14, a15, a16, a17, a18, a19, a20, a21, a22, a23, a24, a25, a26) (nI j) := by
  have go : ∀ i, i ≤ 14 → wX_replay_24 post (nI j) (nI i) w hf gd uk un wt wr sn sk a1 a2 a3 a4 a5 a6 a7 a8 a9 a10 a11 a12 a13 a14 a15 a16 a17 a18 a19 a20 a21 a22 a23 a24 a25 a26 := by
    intro i hi
    unfold wX_replay_24
    exact mj_isRow hj e9 (by omega) e13 rfl (fun x1 x2 x3 => absurd ⟨x1, x2, x3⟩ (hc _ (by omega))) (fun _ => br_t rfl H)
  unfold wpX_replay
  refine pk_loop (σ := Unit) (fun m i _ => wX_replay_2 post (nI j) w hf gd uk un wt wr sn sk a1 a2 a3 a4 a5 a6 a7 a8 a9 a10 a11 a12 a13 a14 a15 a16 a17 a18 a19 a20 a21 a22 a23 a24 a25 a26 m (nI i)) (fun _ _ => True) 14 0 () (by omega) trivial ?_ ?_
  · intro m _ _
    exact pk_le 14 14 (fun _ => go 14 (by omega)) (fun z => absurd z (by omega))
  · intro m i _ hi _ hw
    refine pk_le 14 i (fun z => absurd z (by omega)) (fun _ => ?_)
    exact mj_isRow hj e9 (by omega) e13 rfl (fun _ _ _ => br_f (by decide) (nm_r (nI_1 i) (hw () trivial))) (fun _ => br_t rfl (go i (by omega)))
theorem mj_cu31 {post : St2 → Prop} {w hf gd uk un wt wr sn sk : Int32} {a1 a2 a3 a4 a5 a6 a7 a8 a9 a10 a11 a12 a13 a14 a15 a16 a17 a18 a19 a20 a21 a22 a23 a24 a25 a26 : Nat → Int32} {j A I N num T : Nat} {sv : Nat → Nat → Int32} (hj : j < 4) (hT : T < 2 ^ 28) (hN : N ≤ T) (hnum : num ≤ T) (h1 : 1 ≤ num) (hA : A < 14) (hI : I < 48) (e9 : a9 j = nI A) (e11 : a11 j = nI I) (e13 : a13 j = nI N) (e14 : a14 j = nI num)
    (hcur : a4 (10 * j + 5 * ((num + 1) % 2)) = nI num) (hd : ∀ b c, b < 41 → c < 8 → a1 (8 * (41 * j + b) + c) = sv b c) (h8 : ∀ b, b < 41 → a8 (41 * j + b) = -1) (hr : ∀ r, r < 14 → ∃ v, v ≤ N ∧ a3 (8 * (14 * j + r) + 1) = nI v)
    (H : ∀ (w' hf' : Int32) (b4 b9 b10 b11 b12 b13 b14 : Nat → Int32), mj_JR j sv (T + 1) a1 a2 a3 b4 a8 b9 b10 b11 b12 b13 b14 → mj_out (10 * j) 10 a4 b4 → mj_out j 1 a9 b9 → mj_out j 1 a10 b10 → mj_out j 1 a11 b11 → mj_out j 1 a12 b12 → mj_out j 1 a13 b13 → mj_out j 1 a14 b14 → post (w', hf', gd, uk, un, wt, wr, sn, sk, a1, a2, a3, b4, a5, a6, a7, a8, b9, b10, b11, b12, b13, b14, a15, a16, a17, a18, a19, a20, a21, a22, a23, a24, a25, a26)) :
    wX_comeUp_31 post (nI j) w hf gd uk un wt wr sn sk a1 a2 a3 a4 a5 a6 a7 a8 a9 a10 a11 a12 a13 a14 a15 a16 a17 a18 a19 a20 a21 a22 a23 a24 a25 a26 := by
  have vj : vp_in (nI j) 4 := vp_in_nI hj (by decide)
  unfold wX_comeUp_31
  rw [nI_clamp (show j < 2 ^ 31 by omega), e13, nI_1, e9, e11]
  refine ⟨vj, vj, nm_e ⟨vj, vj, mj_writeAnchor (wn := 1) hj rfl (by omega) rfl e14 (by omega) (fun z => absurd z (by omega)) (fun t b4 ht _ f0 f1 f2 f3 f4 o4 => ?_)⟩⟩
  have hp2 : 10 * j + 5 * ((num + 1 + 1) % 2) = t := by omega
  refine H _ _ b4 _ _ _ _ _ _ ⟨0, A, 0, I, 0, N + 1, N + 1, num + 1, ⟨hA, hI, by omega, by omega, by omega, by omega, by omega⟩, ⟨pk_us, pk_us, pk_us, pk_us, pk_us, pk_us⟩, ?_, ⟨rfl, rfl, rfl, hd⟩, fun r hr' => ?_, fun b hb => Or.inl ⟨h8 b hb, fun c hc => hd b c hb hc⟩⟩ (mj_out_w o4 (by omega) (by omega)) (mj_out_u mj_out_r (by omega) (by omega)) (mj_out_u mj_out_r (by omega) (by omega)) (mj_out_u mj_out_r (by omega) (by omega)) (mj_out_u mj_out_r (by omega) (by omega)) (mj_out_u mj_out_r (by omega) (by omega)) (mj_out_u mj_out_r (by omega) (by omega))
  · unfold mj_anc
    rw [hp2, f0, f1, f2, f3, f4]
    exact ⟨rfl, rfl, rfl, pk_us, rfl, num, by omega, by rw [o4 _ (by omega)]; exact hcur⟩
  · obtain ⟨v, hv, e⟩ := hr r hr'
    exact ⟨v, by omega, e⟩
end
section
set_option maxHeartbeats 4000000 in
theorem mj_cu9 {post : St2 → Prop} {w hf gd uk un wt wr sn sk : Int32} {a2 a3 a4 a5 a6 a7 a8 a10 a12 a14 a15 a16 a17 a18 a19 a20 a21 a22 a23 a24 a25 a26 : Nat → Int32} {j num T A' I' N' : Nat} {sv : Nat → Nat → Int32} (hj : j < 4) (hT : T < 2 ^ 28) (hN : N' ≤ T) (hnum : num ≤ T) (h1 : 1 ≤ num) (hA' : A' < 1000) (e14 : a14 j = nI num)
    (hcur : a4 (10 * j + 5 * ((num + 1) % 2)) = nI num) (h8 : ∀ b, b < 41 → a8 (41 * j + b) = -1) (hr : ∀ r, r < 14 → (∃ v, v ≤ N' ∧ a3 (8 * (14 * j + r) + 1) = nI v) ∧ ¬ mj_cnt a3 j r N') :
    ∀ (m i A I N : Nat) (a1 a9 a11 a13 : Nat → Int32), mj_path a2 a3 j m A I N (mj_dsk a1 j) A' I' N' sv → i + m ≤ 13 → a9 j = nI (A % 14) → a11 j = nI (I % 48) → a13 j = nI N →
    (∀ (w' hf' : Int32) (b1 b4 b9 b10 b11 b12 b13 b14 : Nat → Int32), mj_JR j sv (T + 1) b1 a2 a3 b4 a8 b9 b10 b11 b12 b13 b14 → mj_out (328 * j) 328 a1 b1 → mj_out (10 * j) 10 a4 b4 → mj_out j 1 a9 b9 → mj_out j 1 a10 b10 → mj_out j 1 a11 b11 → mj_out j 1 a12 b12 → mj_out j 1 a13 b13 → mj_out j 1 a14 b14 → post (w', hf', gd, uk, un, wt, wr, sn, sk, b1, a2, a3, b4, a5, a6, a7, a8, b9, b10, b11, b12, b13, b14, a15, a16, a17, a18, a19, a20, a21, a22, a23, a24, a25, a26)) →
    wX_comeUp_9 post (nI j) (m + 2) 1 (nI i) w hf gd uk un wt wr sn sk a1 a2 a3 a4 a5 a6 a7 a8 a9 a10 a11 a12 a13 a14 a15 a16 a17 a18 a19 a20 a21 a22 a23 a24 a25 a26
  | 0, i, A, I, N, a1, a9, a11, a13, hp, hi, e9, e11, e13, H => by
    obtain ⟨q1, q2, q3, q4⟩ := hp
    subst q1 q2 q3
    have g31 : wX_comeUp_31 post (nI j) w hf gd uk un wt wr sn sk a1 a2 a3 a4 a5 a6 a7 a8 a9 a10 a11 a12 a13 a14 a15 a16 a17 a18 a19 a20 a21 a22 a23 a24 a25 a26 := mj_cu31 (sv := sv) hj hT hN hnum h1 (by omega) (by omega) e9 e11 e13 e14 hcur q4 h8 (fun r hr' => (hr r hr').1)
      (fun w' hf' b4 b9 b10 b11 b12 b13 b14 hJ o4 o9 o10 o11 o12 o13 o14 => H w' hf' a1 b4 b9 b10 b11 b12 b13 b14 hJ mj_out_r o4 o9 o10 o11 o12 o13 o14)
    refine pk_le 14 i (fun z => absurd z (by omega)) (fun _ => br_f (by decide) ?_)
    refine mj_replay_no hj (by omega) e9 e13 (fun r hr' => (hr r hr').2) (nm_r (nI_1 i) ?_)
    exact pk_le 14 (i + 1) (fun _ => g31) (fun _ => br_t rfl g31)
  | m + 1, i, A, I, N, a1, a9, a11, a13, hp, hi, e9, e11, e13, H => by
    have hle := mj_path_le (m + 1) hp
    obtain ⟨l, bs, h0, h41, hb, hs, hp'⟩ := hp
    refine pk_le 14 i (fun z => absurd z (by omega)) (fun _ => br_f (by decide) ?_)
    refine mj_replay_go hj (by omega) (by omega) e9 e11 e13 h0 h41 hb hs (fun b1 b9 b11 b13 x1 x2 x3 x4 x5 x6 x7 x8 => nm_r (nI_1 i) ?_)
    refine mj_cu9 hj hT hN hnum h1 hA' e14 hcur h8 hr m (i + 1) _ _ _ b1 b9 b11 b13 (mj_path_cg m (fun _ _ _ _ _ => rfl) (fun _ _ _ _ _ => rfl) x1 (fun _ _ _ _ => rfl) hp') (by omega) x3 x5 x7 ?_
    intro w' hf' c1 c4 c9 c10 c11 c12 c13 c14 hJ o1 o4 o9 o10 o11 o12 o13 o14
    exact H w' hf' c1 c4 c9 c10 c11 c12 c13 c14 hJ (mj_out_t x2 o1) o4 (mj_out_t x4 o9) o10 (mj_out_t x6 o11) o12 (mj_out_t x8 o13) o14
theorem mj_comeUp {post : St2 → Prop} {w hf gd uk un wt wr sn sk : Int32} {a1 a2 a3 a4 a5 a6 a7 a8 a9 a10 a11 a12 a13 a14 a15 a16 a17 a18 a19 a20 a21 a22 a23 a24 a25 a26 : Nat → Int32} {sv : Nat → Nat → Int32} {T j : Nat} (h : mj_RK j sv T a1 a2 a3 a4) (hT : T < 2 ^ 28) (hj : j < 4)
    (H : ∀ (w' hf' : Int32) (b1 b4 b6 b7 b8 b9 b10 b11 b12 b13 b14 : Nat → Int32), mj_JR j sv (T + 1) b1 a2 a3 b4 b8 b9 b10 b11 b12 b13 b14 → (∀ b, b < 41 → b6 (41 * j + b) = 0 ∧ b7 (41 * j + b) = 0) → mj_out (328 * j) 328 a1 b1 → mj_out (10 * j) 10 a4 b4 → mj_out (41 * j) 41 a6 b6 → mj_out (41 * j) 41 a7 b7 → mj_out (41 * j) 41 a8 b8 → mj_out j 1 a9 b9 → mj_out j 1 a10 b10 → mj_out j 1 a11 b11 → mj_out j 1 a12 b12 → mj_out j 1 a13 b13 → mj_out j 1 a14 b14 →
      post (w', hf', gd, uk, un, wt, wr, sn, sk, b1, a2, a3, b4, a5, b6, b7, b8, b9, b10, b11, b12, b13, b14, a15, a16, a17, a18, a19, a20, a21, a22, a23, a24, a25, a26)) : wpX_comeUp post (w, hf, gd, uk, un, wt, wr, sn, sk, a1, a2, a3, a4, a5, a6, a7, a8, a9, a10, a11, a12, a13, a14, a15, a16, a17, a18, a19, a20, a21, a22, a23, a24, a25, a26) (nI j) := by
  obtain ⟨n, A, RU, I, IU, N0, N, num, ⟨q1, q2, q3, q4, q5, q6, q7⟩, ha, hp, hr⟩ := h
  have hle := mj_path_le n hp
  unfold wpX_comeUp
  refine mj_findAnchor hj ha (by omega) (fun b6 b7 b8 hz o6 o7 o8 => ⟨n + 2, ?_⟩)
  refine mj_cu9 (num := num) (A' := A + RU) (I' := I + IU) (N' := N) (sv := sv) hj hT q5 q7 q6 (by omega) pk_us ha.1 (fun b hb => (hz b hb).2.2) hr n 0 A I N0 a1 _ _ _ hp (by omega) (by rw [pk_us, Nat.mod_eq_of_lt q1]) (by rw [pk_us, Nat.mod_eq_of_lt q2]) pk_us ?_
  intro w' hf' c1 c4 c9 c10 c11 c12 c13 c14 hJ o1 o4 o9 o10 o11 o12 o13 o14
  exact H w' hf' c1 c4 b6 b7 b8 c9 c10 c11 c12 c13 c14 hJ (fun b hb => ⟨(hz b hb).1, (hz b hb).2.1⟩) o1 o4 o6 o7 o8 (mj_out_t (mj_out_u mj_out_r (by omega) (by omega)) o9) (mj_out_t (mj_out_u mj_out_r (by omega) (by omega)) o10) (mj_out_t (mj_out_u mj_out_r (by omega) (by omega)) o11) (mj_out_t (mj_out_u mj_out_r (by omega) (by omega)) o12) (mj_out_t (mj_out_u mj_out_r (by omega) (by omega)) o13) (mj_out_t (mj_out_u mj_out_r (by omega) (by omega)) o14)
theorem mj_cr41 {post : Int32 → St2 → Prop} {w hf gd uk un wt wr sn sk : Int32} {a1 a2 a3 a4 a5 a6 a7 a8 a9 a10 a11 a12 a13 a14 a15 a16 a17 a18 a19 a20 a21 a22 a23 a24 a25 a26 : Nat → Int32} {F : Nat → Nat → Nat → Int32} {T : Nat} {r : Int32} (h : ∀ i, i < 4 → mj_RK i (F i) T a1 a2 a3 a4) (hT : T < 2 ^ 28)
    (H : ∀ (w' hf' : Int32) (b1 b4 b6 b7 b8 b9 b10 b11 b12 b13 b14 : Nat → Int32), mj_AB F F (fun _ => False) (T + 1) b1 a2 a3 b4 a5 b6 b7 b8 b9 b10 b11 b12 b13 b14 → post r (w', hf', gd, uk, un, wt, wr, sn, sk, b1, a2, a3, b4, a5, b6, b7, b8, b9, b10, b11, b12, b13, b14, a15, a16, a17, a18, a19, a20, a21, a22, a23, a24, a25, a26)) :
    ∃ n, wX_crash_41 post r n 0 w hf gd uk un wt wr sn sk a1 a2 a3 a4 a5 a6 a7 a8 a9 a10 a11 a12 a13 a14 a15 a16 a17 a18 a19 a20 a21 a22 a23 a24 a25 a26 := by
  refine pk_loop (σ := Int32 × Int32 × (Nat → Int32) × (Nat → Int32) × (Nat → Int32) × (Nat → Int32) × (Nat → Int32) × (Nat → Int32) × (Nat → Int32) × (Nat → Int32) × (Nat → Int32) × (Nat → Int32) × (Nat → Int32))
    (fun m i s => wX_crash_41 post r m (nI i) s.1 s.2.1 gd uk un wt wr sn sk s.2.2.1 a2 a3 s.2.2.2.1 a5 s.2.2.2.2.1 s.2.2.2.2.2.1 s.2.2.2.2.2.2.1 s.2.2.2.2.2.2.2.1 s.2.2.2.2.2.2.2.2.1 s.2.2.2.2.2.2.2.2.2.1 s.2.2.2.2.2.2.2.2.2.2.1 s.2.2.2.2.2.2.2.2.2.2.2.1 s.2.2.2.2.2.2.2.2.2.2.2.2 a15 a16 a17 a18 a19 a20 a21 a22 a23 a24 a25 a26)
    (fun i s => (∀ k, k < 4 → i ≤ k → mj_RK k (F k) T s.2.2.1 a2 a3 s.2.2.2.1) ∧ (∀ k, k < i → mj_JR k (F k) (T + 1) s.2.2.1 a2 a3 s.2.2.2.1 s.2.2.2.2.2.2.1 s.2.2.2.2.2.2.2.1 s.2.2.2.2.2.2.2.2.1 s.2.2.2.2.2.2.2.2.2.1 s.2.2.2.2.2.2.2.2.2.2.1 s.2.2.2.2.2.2.2.2.2.2.2.1 s.2.2.2.2.2.2.2.2.2.2.2.2 ∧ ∀ b, b < 41 → s.2.2.2.2.1 (41 * k + b) = 0 ∧ s.2.2.2.2.2.1 (41 * k + b) = 0))
    4 0 (w, hf, a1, a4, a6, a7, a8, a9, a10, a11, a12, a13, a14) (by omega) ⟨fun k hk _ => h k hk, fun k hk => absurd hk (by omega)⟩ ?_ ?_
  · intro m s hI
    refine pk_le 4 4 (fun _ => H _ _ _ _ _ _ _ _ _ _ _ _ _ ⟨fun i hi => (hI.2 i hi).1, fun i b hi hb => Or.inl ⟨((hI.2 i hi).2 b hb).1, ((hI.2 i hi).2 b hb).2, fun _ _ => rfl⟩⟩) (fun z => absurd z (by omega))
  · intro m i s hi hI hw
    obtain ⟨w1, hf1, s1, s4, s6, s7, s8, s9, s10, s11, s12, s13, s14⟩ := s
    obtain ⟨hI1, hI2⟩ := hI
    dsimp only at hI1 hI2
    show wX_crash_41 post r (m + 1) (nI i) w1 hf1 gd uk un wt wr sn sk s1 a2 a3 s4 a5 s6 s7 s8 s9 s10 s11 s12 s13 s14 a15 a16 a17 a18 a19 a20 a21 a22 a23 a24 a25 a26
    refine pk_le 4 i (fun z => absurd z (by omega)) (fun _ => ?_)
    refine mj_forget hi (fun c6 c7 c8 hz p6 p7 p8 => ?_)
    refine mj_comeUp (hI1 i hi (by omega)) hT hi (fun w' hf' b1 b4 b6 b7 b8 b9 b10 b11 b12 b13 b14 hJ hz2 o1 o4 o6 o7 o8 o9 o10 o11 o12 o13 o14 => nm_r (nI_1 i) (hw (w', hf', b1, b4, b6, b7, b8, b9, b10, b11, b12, b13, b14) ⟨fun k hk hk2 => ?_, fun k hk => ?_⟩))
    · exact mj_RK_fr (j := i) (by omega) (hI1 k hk (by omega)) o1 mj_out_r mj_out_r o4
    · by_cases e : k = i
      · subst e
        exact ⟨hJ, hz2⟩
      · refine ⟨mj_JR_fr e (hI2 k (by omega)).1 o1 mj_out_r mj_out_r o4 (mj_out_t p8 o8) o9 o10 o11 o12 o13 o14, fun b hb => ?_⟩
        have h2 := (hI2 k (by omega)).2 b hb
        show b6 (41 * k + b) = 0 ∧ b7 (41 * k + b) = 0
        rw [o6 _ (by omega), o7 _ (by omega), p6 _ (by omega), p7 _ (by omega)]
        exact h2
theorem mj_crash {post : Int32 → St2 → Prop} {w hf gd uk un wt wr sn sk : Int32} {a1 a2 a3 a4 a5 a6 a7 a8 a9 a10 a11 a12 a13 a14 a15 a16 a17 a18 a19 a20 a21 a22 a23 a24 a25 a26 : Nat → Int32} {F : Nat → Nat → Nat → Int32} {T : Nat} (h : ∀ i, i < 4 → mj_RK i (F i) T a1 a2 a3 a4) (hT : T < 2 ^ 28)
    (H : ∀ (r w' hf' : Int32) (b1 b4 b6 b7 b8 b9 b10 b11 b12 b13 b14 b15 : Nat → Int32), mj_AB F F (fun _ => False) (T + 1) b1 a2 a3 b4 a5 b6 b7 b8 b9 b10 b11 b12 b13 b14 → (∀ i, i < 3 → b15 i = 0) → ((∀ i, i < 3 → a15 i = 0) → r = 0) →
      post r (w', hf', gd, uk, un, wt, wr, sn, sk, b1, a2, a3, b4, a5, b6, b7, b8, b9, b10, b11, b12, b13, b14, b15, a16, a17, a18, a19, a20, a21, a22, a23, a24, a25, a26)) : wpX_crash post (w, hf, gd, uk, un, wt, wr, sn, sk, a1, a2, a3, a4, a5, a6, a7, a8, a9, a10, a11, a12, a13, a14, a15, a16, a17, a18, a19, a20, a21, a22, a23, a24, a25, a26) := by
  unfold wpX_crash
  refine pk_loop (σ := Int32 × (Nat → Int32)) (fun m i s => wX_crash_4 post w hf gd uk un wt wr sn sk m s.1 (nI i) a1 a2 a3 a4 a5 a6 a7 a8 a9 a10 a11 a12 a13 a14 s.2 a16 a17 a18 a19 a20 a21 a22 a23 a24 a25 a26) (fun i s => (∀ k, k < i → s.2 k = 0) ∧ (∀ k, i ≤ k → s.2 k = a15 k) ∧ ((∀ k, k < 3 → a15 k = 0) → s.1 = 0)) 3 0 (0, a15) (by omega) ⟨fun k hk => absurd hk (by omega), fun _ _ => rfl, fun _ => rfl⟩ ?_ ?_
  · intro m s hI
    obtain ⟨r, s15⟩ := s
    obtain ⟨h1, h2, h3⟩ := hI
    show wX_crash_4 post w hf gd uk un wt wr sn sk (m + 1) r (nI 3) a1 a2 a3 a4 a5 a6 a7 a8 a9 a10 a11 a12 a13 a14 s15 a16 a17 a18 a19 a20 a21 a22 a23 a24 a25 a26
    refine pk_le 3 3 (fun _ => ?_) (fun z => absurd z (by omega))
    exact mj_cr41 h hT (fun w' hf' b1 b4 b6 b7 b8 b9 b10 b11 b12 b13 b14 hA => H r w' hf' b1 b4 b6 b7 b8 b9 b10 b11 b12 b13 b14 s15 hA h1 h3)
  · intro m i s hi hI hw
    obtain ⟨r, s15⟩ := s
    obtain ⟨h1, h2, h3⟩ := hI
    dsimp only at h1 h2 h3
    show wX_crash_4 post w hf gd uk un wt wr sn sk (m + 1) r (nI i) a1 a2 a3 a4 a5 a6 a7 a8 a9 a10 a11 a12 a13 a14 s15 a16 a17 a18 a19 a20 a21 a22 a23 a24 a25 a26
    refine pk_le 3 i (fun z => absurd z (by omega)) (fun _ => ⟨vp_in_nI hi (by decide), ?_⟩)
    rw [nI_clamp (show i < 2 ^ 31 by omega)]
    have next : ∀ z0 : Int32, (¬ s15 i ≤ 0 ∨ z0 = 0) → wX_crash_24 post (wX_crash_4 post w hf gd uk un wt wr sn sk m) (nI i) z0 r w hf gd uk un wt wr sn sk a1 a2 a3 a4 a5 a6 a7 a8 a9 a10 a11 a12 a13 a14 s15 a16 a17 a18 a19 a20 a21 a22 a23 a24 a25 a26 := by
      intro z0 hz
      unfold wX_crash_24
      rw [nI_clamp (show i < 2 ^ 31 by omega)]
      refine nm_e ⟨vp_in_nI hi (by decide), nm_e (nm_r (nI_1 i) (hw (r + z0, upd s15 i 0) ⟨fun k hk => ?_, fun k hk => ?_, fun hk => ?_⟩))⟩
      · show upd s15 i 0 k = 0
        by_cases e : k = i
        · rw [e, pk_us]
        · rw [pk_un e]; exact h1 k (by omega)
      · show upd s15 i 0 k = a15 k
        rw [pk_un (by omega)]; exact h2 k (by omega)
      · show r + z0 = 0
        rcases hz with hz | hz
        · exact absurd (by rw [h2 i (by omega), hk i hi]; decide) hz
        · rw [h3 hk, hz]; rfl
    exact br_c (fun _ => next 0 (Or.inr rfl)) (fun z => next 1 (Or.inl z))
end
section
theorem mj_isBox {post : Int32 → Prop} {u : St0} {p0 : Int32} (H0 : (∀ j, j < 4 → ¬ p0 = nI j) → post 0) (H1 : ∀ j, j < 4 → p0 = nI j → post 1) : wpX_isBox post u p0 := by
  unfold wpX_isBox
  refine br_c (fun z => H0 (fun j hj e => ?_)) (fun z => br_c (fun z1 => H0 (fun j hj e => ?_)) (fun z1 => ?_))
  · rw [e] at z; exact nI_pos (by omega) z
  · rw [e] at z1; exact nI_ge (b := 4) hj (by omega) z1
  · rcases pk_ix p0 (n := 4) (by decide) with h | h | ⟨j, hj, e⟩
    · exact absurd h z
    · exact absurd h z1
    · exact H1 j hj e
theorem mj_il49 {post : St2 → Prop} {w hf gd uk un wt wr sn sk : Int32} {a1 a2 a3 a4 a5 a6 a7 a8 a9 a10 a11 a12 a13 a14 a15 a16 a17 a18 a19 a20 a21 a22 a23 a24 a25 a26 : Nat → Int32} {F Cu : Nat → Nat → Nat → Int32} {d : Nat → Prop} {T j : Nat} (h : mj_AB F Cu d T a1 a2 a3 a4 a5 a6 a7 a8 a9 a10 a11 a12 a13 a14) (hj : j < 4) (H : ∀ b6 : Nat → Int32, mj_AB F Cu d T a1 a2 a3 a4 a5 b6 a7 a8 a9 a10 a11 a12 a13 a14 → post (w, hf, gd, uk, un, wt, wr, sn, sk, a1, a2, a3, a4, a5, b6, a7, a8, a9, a10, a11, a12, a13, a14, a15, a16, a17, a18, a19, a20, a21, a22, a23, a24, a25, a26)) : ∃ n, wX_idle_49 post (nI j) w hf gd uk un wt wr sn sk n (nI (41 * j + 0)) a1 a2 a3 a4 a5 a6 a7 a8 a9 a10 a11 a12 a13 a14 a15 a16 a17 a18 a19 a20 a21 a22 a23 a24 a25 a26 := by
  refine pk_loop (fun m i s => wX_idle_49 post (nI j) w hf gd uk un wt wr sn sk m (nI (41 * j + i)) a1 a2 a3 a4 a5 s a7 a8 a9 a10 a11 a12 a13 a14 a15 a16 a17 a18 a19 a20 a21 a22 a23 a24 a25 a26) (fun i s => mj_AB F Cu d T a1 a2 a3 a4 a5 s a7 a8 a9 a10 a11 a12 a13 a14) 41 0 a6 (by omega) h ?_ ?_
  · intro m s hI
    exact pk_le (41 * j + 41) (41 * j + 41) (fun _ => H s hI) (fun z => absurd z (by omega)) (hx := mj_g j 41)
  · intro m i s hi hI hw
    refine pk_le (41 * j + 41) (41 * j + i) (fun z => absurd z (by omega)) (fun _ => ⟨vp_in_nI (by omega) (by decide), ?_⟩) (hx := mj_g j 41)
    rw [nI_clamp (show 41 * j + i < 2 ^ 31 by omega)]
    have zero : a7 (41 * j + i) = 0 → mj_AB F Cu d T a1 a2 a3 a4 a5 (upd s (41 * j + i) 0) a7 a8 a9 a10 a11 a12 a13 a14 := by
      intro e
      refine ⟨hI.1, fun k b hk hb => ?_⟩
      by_cases q : k = j ∧ b = i
      · obtain ⟨rfl, rfl⟩ := q
        exact Or.inl ⟨pk_us, e, mj_cpy_0 (hI.2 k b hk hb) e⟩
      · have h2 := hI.2 k b hk hb
        unfold mj_cpy at h2 ⊢
        rw [pk_un (by omega)]
        exact h2
    have hh := hI.2 j i hj hi
    refine br_c (fun e => ⟨vp_in_nI (by omega) (by decide), nm_e (nm_r (nI_1 _) (hw _ (zero ?_)))⟩) (fun e => ⟨vp_in_nI (by omega) (by decide), br_c (fun e7 => ⟨vp_in_nI (by omega) (by decide), nm_e (nm_r (nI_1 _) (hw _ (zero e7)))⟩) (fun e7 => ⟨vp_in_nI (by omega) (by decide), nm_e (nm_r (nI_1 _) (hw _ ?_))⟩)⟩)
    · rcases hh with ⟨_, h2, _⟩ | ⟨h1, _⟩
      · exact h2
      · exact absurd (e.symm.trans h1) (by decide)
    · have h6 := (mj_cpy_1 hh e7).1
      refine ⟨hI.1, fun k b hk hb => ?_⟩
      have h2 := hI.2 k b hk hb
      unfold mj_cpy at h2 ⊢
      by_cases q : k = j ∧ b = i
      · obtain ⟨rfl, rfl⟩ := q
        rw [pk_us]
        rw [h6] at h2
        exact h2
      · rw [pk_un (by omega)]
        exact h2
theorem mj_idle {post : St2 → Prop} {w hf gd uk un wt wr sn sk : Int32} {a1 a2 a3 a4 a5 a6 a7 a8 a9 a10 a11 a12 a13 a14 a15 a16 a17 a18 a19 a20 a21 a22 a23 a24 a25 a26 : Nat → Int32} {F Cu : Nat → Nat → Nat → Int32} {d : Nat → Prop} {T : Nat} {p0 p1 : Int32} (h : mj_AB F Cu d T a1 a2 a3 a4 a5 a6 a7 a8 a9 a10 a11 a12 a13 a14) (hT : T < 2 ^ 28)
    (H : ∀ (w' hf' : Int32) (b1 b4 b6 b8 b9 b10 b11 b12 b14 : Nat → Int32), mj_AB F Cu d (T + 1) b1 a2 a3 b4 a5 b6 a7 b8 b9 b10 b11 b12 a13 b14 → post (w', hf', gd, uk, un, wt, wr, sn, sk, b1, a2, a3, b4, a5, b6, a7, b8, b9, b10, b11, b12, a13, b14, a15, a16, a17, a18, a19, a20, a21, a22, a23, a24, a25, a26)) : wpX_idle post (w, hf, gd, uk, un, wt, wr, sn, sk, a1, a2, a3, a4, a5, a6, a7, a8, a9, a10, a11, a12, a13, a14, a15, a16, a17, a18, a19, a20, a21, a22, a23, a24, a25, a26) p0 p1 := by
  unfold wpX_idle
  refine mj_isBox (fun _ => br_t rfl (H w hf a1 a4 a6 a8 a9 a10 a11 a12 a14 ⟨fun i hi => mj_JR_mono (by omega) (h.1 i hi), h.2⟩)) (fun j hj e => br_f (by decide) ?_)
  subst e
  have go : ∀ (z0 : Int32) (wn : Nat), wn ≤ 1000 → z0 = nI wn → wX_idle_31 post (nI j) z0 w hf gd uk un wt wr sn sk a1 a2 a3 a4 a5 a6 a7 a8 a9 a10 a11 a12 a13 a14 a15 a16 a17 a18 a19 a20 a21 a22 a23 a24 a25 a26 := by
    intro z0 wn hwn ez
    unfold wX_idle_31
    refine mj_writeHomes (h.1 j hj) (by omega) hj ez hwn rfl (fun w' b1 b4 b8 b9 b10 b11 b12 b14 hJ _ o1 o4 o8 o9 o10 o11 o12 o14 => ?_)
    refine nm_r (e' := nI (41 * j + 0)) (by rw [show (41 : Int32) = nI 41 from rfl, pk_mul]; rfl) ?_
    refine mj_il49 (F := F) (Cu := Cu) (d := d) (T := T + 1) ⟨fun i hi => ?_, h.2⟩ hj (fun b6 h6 => H w' 0 b1 b4 b6 b8 b9 b10 b11 b12 b14 h6)
    by_cases e : i = j
    · subst e; exact hJ
    · exact mj_JR_fr e (mj_JR_mono (by omega) (h.1 i hi)) o1 mj_out_r mj_out_r o4 o8 o9 o10 o11 o12 mj_out_r o14
  refine br_c (fun z0 => br_c (fun z1 => ?_) (fun z1 => go _ 1000 (by omega) rfl)) (fun z0 => go 0 0 (by omega) rfl)
  obtain ⟨m, hm, em⟩ := nI_of2 (n := 1000) (M := 1000) (by decide) (show ¬ p1 < 0 from fun z => Int32.not_le.mpr z z0) z1
  exact go p1 m hm em
def mj_uB (Cu : Nat → Nat → Nat → Int32) (j b : Nat) (X : Nat → Int32) : Nat → Nat → Nat → Int32 := fun j' b' c' => if j' = j ∧ b' = b then X c' else Cu j' b' c'
theorem mj_uBs {Cu : Nat → Nat → Nat → Int32} {j b : Nat} {X : Nat → Int32} {c : Nat} : mj_uB Cu j b X j b c = X c := if_pos ⟨rfl, rfl⟩
theorem mj_uBn {Cu : Nat → Nat → Nat → Int32} {j b j' b' c : Nat} {X : Nat → Int32} (h : ¬ (j' = j ∧ b' = b)) : mj_uB Cu j b X j' b' c = Cu j' b' c := if_neg h
theorem mj_giveNode {post : St2 → Prop} {w hf gd uk un wt wr sn sk : Int32} {a1 a2 a3 a4 a5 a6 a7 a8 a9 a10 a11 a12 a13 a14 a15 a16 a17 a18 a19 a20 a21 a22 a23 a24 a25 a26 : Nat → Int32} {F Cu : Nat → Nat → Nat → Int32} {d : Nat → Prop} {T j b : Nat} (h : mj_AB F Cu d T a1 a2 a3 a4 a5 a6 a7 a8 a9 a10 a11 a12 a13 a14) (hj : j < 4) (hb : b < 41) (hd : d j)
    (H : ∀ b5 b6 b7 : Nat → Int32, mj_AB F (mj_uB (mj_u3 Cu j 0 6 (Cu j 0 6 &&& (((1 : Int32) <<< ((nI b - 9) &&& 31)) ^^^ (-1)))) j b (F j b)) d T a1 a2 a3 a4 b5 b6 b7 a8 a9 a10 a11 a12 a13 a14 → post (w, hf, gd, uk, un, wt, wr, sn, sk, a1, a2, a3, a4, b5, b6, b7, a8, a9, a10, a11, a12, a13, a14, a15, a16, a17, a18, a19, a20, a21, a22, a23, a24, a25, a26)) : wpX_giveNode post (w, hf, gd, uk, un, wt, wr, sn, sk, a1, a2, a3, a4, a5, a6, a7, a8, a9, a10, a11, a12, a13, a14, a15, a16, a17, a18, a19, a20, a21, a22, a23, a24, a25, a26) (nI j) (nI b) := by
  unfold wpX_giveNode
  refine mj_cell (b := 0) (c := 6) h hj (by omega) (by omega) (fun b5 b6 h1 => ?_)
  refine mj_setCell (b := 0) (c := 6) h1 hj (by omega) (by omega) hd (fun c5 c6 c7 h2 => ?_)
  show vp_in (41 * nI j + nI b) 164 ∧ _
  rw [mj_g, nI_clamp (show 41 * j + b < 2 ^ 31 by omega)]
  refine ⟨vp_in_nI (by omega) (by decide), nm_e ⟨vp_in_nI (by omega) (by decide), nm_e (H _ _ _ ⟨h2.1, fun k b' hk hb' => ?_⟩)⟩⟩
  by_cases q : k = j ∧ b' = b
  · obtain ⟨rfl, rfl⟩ := q
    exact Or.inl ⟨pk_us, pk_us, fun c _ => mj_uBs⟩
  · have h3 := h2.2 k b' hk hb'
    have eu : ∀ c, mj_uB (mj_u3 Cu j 0 6 (Cu j 0 6 &&& (((1 : Int32) <<< ((nI b - 9) &&& 31)) ^^^ (-1)))) j b (F j b) k b' c = mj_u3 Cu j 0 6 (Cu j 0 6 &&& (((1 : Int32) <<< ((nI b - 9) &&& 31)) ^^^ (-1))) k b' c := fun c => mj_uBn q
    unfold mj_cpy at h3 ⊢
    rw [pk_un (by omega), pk_un (by omega)]
    rcases h3 with ⟨x1, x2, x3⟩ | ⟨x1, x2, x3⟩
    · exact Or.inl ⟨x1, x2, fun c hc => by rw [eu]; exact x3 c hc⟩
    · refine Or.inr ⟨x1, fun c hc => by rw [eu]; exact x2 c hc, ?_⟩
      rcases x3 with ⟨x3, x4⟩ | x3
      · exact Or.inl ⟨x3, fun c hc => by rw [eu]; exact x4 c hc⟩
      · exact Or.inr x3
def mj_Z : Nat → Nat → Nat → Int32 := fun _ _ _ => 0
set_option maxHeartbeats 4000000 in
theorem mj_init {post : St2 → Prop} {mc ms : Nat} (hm : 26 ≤ mc) (hs : 5408 ≤ ms)
    (H : ∀ a4 a6 a7 a8 a9 a10 a11 a12 a13 a14 : Nat → Int32, mj_AB mj_Z mj_Z (fun _ => False) 1 (fun _ => 0) (fun _ => 0) (fun _ => 0) a4 (fun _ => 0) a6 a7 a8 a9 a10 a11 a12 a13 a14 → post (0, 0, 0, 0, 0, 0, 0, 0, 0, (fun _ => 0), (fun _ => 0), (fun _ => 0), a4, (fun _ => 0), a6, a7, a8, a9, a10, a11, a12, a13, a14, (fun _ => 0), (fun _ => 0), (fun _ => 0), (fun _ => 0), (fun _ => 0), (fun _ => 0), (fun _ => 0), (fun _ => 0), (fun _ => 0), (fun _ => 0), (fun _ => 0), (fun _ => 0))) : wpX_init post mc ms (0, 0, 0, 0, 0, 0, 0, 0, 0) := by
  unfold wpX_init
  refine ⟨by omega, by omega, by omega, by omega, by omega, by omega, by omega, by omega, by omega, by omega, by omega, by omega, by omega, by omega, by omega, by omega, by omega, by omega, by omega, by omega, by omega, by omega, by omega, by omega, by omega, by omega, by omega, by omega, by omega, by omega, by omega, by omega, by omega, by omega, by omega, by omega, by omega, by omega, by omega, by omega, by omega, by omega, by omega, by omega, by omega, by omega, by omega, by omega, by omega, by omega, by omega, by omega, ?_⟩
  refine pk_loop (σ := (Nat → Int32) × (Nat → Int32) × (Nat → Int32) × (Nat → Int32) × (Nat → Int32) × (Nat → Int32) × (Nat → Int32) × (Nat → Int32) × (Nat → Int32) × (Nat → Int32))
    (fun m i s => wX_init_210 post mc ms 26 5408 m (nI i) 0 0 0 0 0 0 0 0 0 (fun _ => 0) (fun _ => 0) (fun _ => 0) s.1 (fun _ => 0) s.2.1 s.2.2.1 s.2.2.2.1 s.2.2.2.2.1 s.2.2.2.2.2.1 s.2.2.2.2.2.2.1 s.2.2.2.2.2.2.2.1 s.2.2.2.2.2.2.2.2.1 s.2.2.2.2.2.2.2.2.2 (fun _ => 0) (fun _ => 0) (fun _ => 0) (fun _ => 0) (fun _ => 0) (fun _ => 0) (fun _ => 0) (fun _ => 0) (fun _ => 0) (fun _ => 0) (fun _ => 0) (fun _ => 0))
    (fun i s => (∀ x, 10 * i ≤ x → s.1 x = 0) ∧ ∀ k, k < i → mj_JR k (mj_Z k) 1 (fun _ => 0) (fun _ => 0) (fun _ => 0) s.1 s.2.2.2.1 s.2.2.2.2.1 s.2.2.2.2.2.1 s.2.2.2.2.2.2.1 s.2.2.2.2.2.2.2.1 s.2.2.2.2.2.2.2.2.1 s.2.2.2.2.2.2.2.2.2 ∧ ∀ b, b < 41 → s.2.1 (41 * k + b) = 0 ∧ s.2.2.1 (41 * k + b) = 0)
    4 0 ((fun _ => 0), (fun _ => 0), (fun _ => 0), (fun _ => 0), (fun _ => 0), (fun _ => 0), (fun _ => 0), (fun _ => 0), (fun _ => 0), (fun _ => 0)) (by omega) ⟨fun _ _ => rfl, fun k hk => absurd hk (by omega)⟩ ?_ ?_
  · intro m s hI
    exact pk_le 4 4 (fun _ => H s.1 s.2.1 s.2.2.1 s.2.2.2.1 s.2.2.2.2.1 s.2.2.2.2.2.1 s.2.2.2.2.2.2.1 s.2.2.2.2.2.2.2.1 s.2.2.2.2.2.2.2.2.1 s.2.2.2.2.2.2.2.2.2 ⟨fun i hi => (hI.2 i hi).1, fun i b hi hb => Or.inl ⟨((hI.2 i hi).2 b hb).1, ((hI.2 i hi).2 b hb).2, fun _ _ => rfl⟩⟩) (fun z => absurd z (by omega))
  · intro m i s hi hI hw
    obtain ⟨s4, s6, s7, s8, s9, s10, s11, s12, s13, s14⟩ := s
    obtain ⟨hI1, hI2⟩ := hI
    dsimp only at hI1 hI2
    show wX_init_210 post mc ms 26 5408 (m + 1) (nI i) 0 0 0 0 0 0 0 0 0 (fun _ => 0) (fun _ => 0) (fun _ => 0) s4 (fun _ => 0) s6 s7 s8 s9 s10 s11 s12 s13 s14 (fun _ => 0) (fun _ => 0) (fun _ => 0) (fun _ => 0) (fun _ => 0) (fun _ => 0) (fun _ => 0) (fun _ => 0) (fun _ => 0) (fun _ => 0) (fun _ => 0) (fun _ => 0)
    refine pk_le 4 i (fun z => absurd z (by omega)) (fun _ => ?_)
    rw [show (10 : Int32) * nI i = nI (10 * i) from by rw [show (10 : Int32) = nI 10 from rfl, pk_mul], show nI (10 * i) + 3 = nI (10 * i + 3) from mj_p (10 * i) 3 rfl, show nI (10 * i) + 4 = nI (10 * i + 4) from mj_p (10 * i) 4 rfl, nI_clamp (show 10 * i < 2 ^ 31 by omega), nI_clamp (show 10 * i + 3 < 2 ^ 31 by omega), nI_clamp (show 10 * i + 4 < 2 ^ 31 by omega)]
    refine ⟨vp_in_nI (by omega) (by decide), nm_e ⟨vp_in_nI (by omega) (by decide), nm_e ⟨vp_in_nI (by omega) (by decide), nm_e ?_⟩⟩⟩
    have ha : mj_anc i 1 0 0 1 (upd (upd (upd s4 (10 * i) 1) (10 * i + 3) 1) (10 * i + 4) 1) := by
      refine ⟨?_, ?_, ?_, ?_, ?_, 0, by omega, ?_⟩
      · show upd (upd (upd s4 (10 * i) 1) (10 * i + 3) 1) (10 * i + 4) 1 (10 * i) = 1
        rw [pk_un (by omega), pk_un (by omega), pk_us]
      · show upd (upd (upd s4 (10 * i) 1) (10 * i + 3) 1) (10 * i + 4) 1 (10 * i + 1) = 0
        rw [pk_un (by omega), pk_un (by omega), pk_un (by omega)]; exact hI1 _ (by omega)
      · show upd (upd (upd s4 (10 * i) 1) (10 * i + 3) 1) (10 * i + 4) 1 (10 * i + 2) = 0
        rw [pk_un (by omega), pk_un (by omega), pk_un (by omega)]; exact hI1 _ (by omega)
      · show upd (upd (upd s4 (10 * i) 1) (10 * i + 3) 1) (10 * i + 4) 1 (10 * i + 3) = 1
        rw [pk_un (by omega), pk_us]
      · show upd (upd (upd s4 (10 * i) 1) (10 * i + 3) 1) (10 * i + 4) 1 (10 * i + 4) = 1
        rw [pk_us]
      · show upd (upd (upd s4 (10 * i) 1) (10 * i + 3) 1) (10 * i + 4) 1 (10 * i + 5) = 0
        rw [pk_un (by omega), pk_un (by omega), pk_un (by omega)]; exact hI1 _ (by omega)
    refine mj_findAnchor hi ha (by omega) (fun b6 b7 b8 hz o6 o7 o8 => nm_r (nI_1 i) (hw (_, b6, b7, b8, _, _, _, _, _, _) ⟨fun x hx => ?_, fun k hk => ?_⟩))
    · show upd (upd (upd s4 (10 * i) 1) (10 * i + 3) 1) (10 * i + 4) 1 x = 0
      rw [pk_un (by omega), pk_un (by omega), pk_un (by omega)]; exact hI1 _ (by omega)
    · by_cases e : k = i
      · subst e
        exact ⟨⟨0, 0, 0, 0, 0, 1, 1, 1, ⟨by omega, by omega, by omega, by omega, by omega, by omega, by omega⟩, ⟨pk_us, pk_us, pk_us, pk_us, pk_us, pk_us⟩, ha, ⟨rfl, rfl, rfl, fun _ _ _ _ => rfl⟩, fun r _ => ⟨0, by omega, rfl⟩, fun b hb => Or.inl ⟨(hz b hb).2.2, fun _ _ => rfl⟩⟩, fun b hb => ⟨(hz b hb).1, (hz b hb).2.1⟩⟩
      · have o4 : mj_out (10 * i) 10 s4 (upd (upd (upd s4 (10 * i) 1) (10 * i + 3) 1) (10 * i + 4) 1) := mj_out_u (mj_out_u (mj_out_u mj_out_r (by omega) (by omega)) (by omega) (by omega)) (by omega) (by omega)
        refine ⟨mj_JR_fr (j := i) e (hI2 k (by omega)).1 mj_out_r mj_out_r mj_out_r o4 o8 (mj_out_u mj_out_r (by omega) (by omega)) (mj_out_u mj_out_r (by omega) (by omega)) (mj_out_u mj_out_r (by omega) (by omega)) (mj_out_u mj_out_r (by omega) (by omega)) (mj_out_u mj_out_r (by omega) (by omega)) (mj_out_u mj_out_r (by omega) (by omega)), fun b hb => ?_⟩
        have h2 := (hI2 k (by omega)).2 b hb
        show b6 (41 * k + b) = 0 ∧ b7 (41 * k + b) = 0
        rw [o6 _ (by omega), o7 _ (by omega)]
        exact h2
end
section
/-! tokens: what a box holds, as lists -/
/-- what the tokens stand for, and what the other boxes hold -/
abbrev mt_R : Type := (Nat → Int32) × (Nat → Nat → Nat → Int32)
def mt_den (ρ : mt_R) (v : Nat) : Int32 := if v < 16777216 then nI v else ρ.1 (v - 16777216)
theorem mt_den_c {ρ : mt_R} {v : Nat} (h : v < 16777216) : mt_den ρ v = nI v := if_pos h
def mt_nth (l : List (List Nat)) (b : Nat) : List Nat := l.getD b []
def mt_gt (C : List (List Nat)) (b c : Nat) : Nat := (C.getD b []).getD c 0
def mt_st (C : List (List Nat)) (b c v : Nat) : List (List Nat) := C.set b ((C.getD b []).set c v)
def mt_shp (C : List (List Nat)) : Prop := C.length = 41 ∧ ∀ b, b < 41 → (C.getD b []).length = 8
theorem mt_getD_set {α : Type} {l : List α} {i j : Nat} {a d : α} (h : i < l.length) : (l.set i a).getD j d = if j = i then a else l.getD j d := by
  rw [List.getD_eq_getElem?_getD, List.getD_eq_getElem?_getD, List.getElem?_set]
  by_cases e : j = i
  · rw [if_pos e, if_pos e.symm, if_pos (by omega)]; rfl
  · rw [if_neg e, if_neg (fun z => e z.symm)]
theorem mt_gt_st {C : List (List Nat)} {b c v b' c' : Nat} (h : mt_shp C) (hb : b < 41) (hc : c < 8) : mt_gt (mt_st C b c v) b' c' = if b' = b ∧ c' = c then v else mt_gt C b' c' := by
  unfold mt_gt mt_st
  rw [mt_getD_set (by rw [h.1]; exact hb)]
  by_cases e : b' = b
  · rw [if_pos e, mt_getD_set (by rw [h.2 b hb]; exact hc)]
    by_cases ec : c' = c
    · rw [if_pos ec, if_pos ⟨e, ec⟩]
    · rw [if_neg ec, if_neg (fun z => ec z.2), e]
  · rw [if_neg e, if_neg (fun z => e z.1)]
theorem mt_shp_set {C : List (List Nat)} {b : Nat} {r : List Nat} (h : mt_shp C) (hb : b < 41) (hr : r.length = 8) : mt_shp (C.set b r) := by
  refine ⟨by rw [List.length_set]; exact h.1, fun b' hb' => ?_⟩
  rw [mt_getD_set (by rw [h.1]; exact hb)]
  by_cases e : b' = b
  · rw [if_pos e]; exact hr
  · rw [if_neg e]; exact h.2 b' hb'
theorem mt_shp_st {C : List (List Nat)} {b c v : Nat} (h : mt_shp C) (hb : b < 41) : mt_shp (mt_st C b c v) := mt_shp_set h hb (by rw [List.length_set]; exact h.2 b hb)
def mt_fn (ρ : mt_R) (k : Nat) (C : List (List Nat)) : Nat → Nat → Nat → Int32 := fun j b c => if j = k then mt_den ρ (mt_gt C b c) else ρ.2 j b c
theorem mt_fn_k {ρ : mt_R} {k : Nat} {C : List (List Nat)} {b c : Nat} : mt_fn ρ k C k b c = mt_den ρ (mt_gt C b c) := if_pos rfl
theorem mt_fn_o {ρ : mt_R} {k j : Nat} {C : List (List Nat)} {b c : Nat} (h : j ≠ k) : mt_fn ρ k C j b c = ρ.2 j b c := if_neg h
theorem mt_fn_st {ρ : mt_R} {k : Nat} {C : List (List Nat)} {b c x : Nat} (h : mt_shp C) (hb : b < 41) (hc : c < 8) : mj_u3 (mt_fn ρ k C) k b c (mt_den ρ x) = mt_fn ρ k (mt_st C b c x) := by
  funext j' b' c'
  unfold mj_u3 mt_fn
  rw [mt_gt_st h hb hc]
  by_cases ej : j' = k
  · rw [if_pos ej, if_pos ej]
    by_cases e : b' = b ∧ c' = c
    · rw [if_pos ⟨ej, e⟩, if_pos e]
    · rw [if_neg (fun z => e z.2), if_neg e]
  · rw [if_neg (fun z => ej z.1), if_neg ej, if_neg ej]
def mt_TB (ρ : mt_R) (k : Nat) (C S : List (List Nat)) (dd : Prop) (T : Nat) (a1 a2 a3 a4 a5 a6 a7 a8 a9 a10 a11 a12 a13 a14 : Nat → Int32) : Prop :=
  k < 4 ∧ mt_shp C ∧ mt_shp S ∧ mj_AB (mt_fn ρ k S) (mt_fn ρ k C) (fun j => j = k ∧ dd) T a1 a2 a3 a4 a5 a6 a7 a8 a9 a10 a11 a12 a13 a14
theorem mt_dirty {ρ : mt_R} {k : Nat} {C S : List (List Nat)} {dd : Prop} {T : Nat} {a1 a2 a3 a4 a5 a6 a7 a8 a9 a10 a11 a12 a13 a14 : Nat → Int32} (h : mt_TB ρ k C S dd T a1 a2 a3 a4 a5 a6 a7 a8 a9 a10 a11 a12 a13 a14) : mt_TB ρ k C S True T a1 a2 a3 a4 a5 a6 a7 a8 a9 a10 a11 a12 a13 a14 := by
  obtain ⟨h1, h2, h3, h4, h5⟩ := h
  refine ⟨h1, h2, h3, h4, fun j b hj hb => ?_⟩
  rcases h5 j b hj hb with x | ⟨x1, x2, x3 | ⟨x3, x4⟩⟩
  · exact Or.inl x
  · exact Or.inr ⟨x1, x2, Or.inl x3⟩
  · exact Or.inr ⟨x1, x2, Or.inr ⟨x3, x4.1, trivial⟩⟩
def mt_gc (C : List (List Nat)) (b c : Nat) : Option Nat := if b < 41 ∧ c < 8 ∧ mt_gt C b c < 16777216 then some (mt_gt C b c) else none
theorem mt_gc_s {C : List (List Nat)} {b c v : Nat} (h : mt_gc C b c = some v) : b < 41 ∧ c < 8 ∧ v < 16777216 ∧ mt_gt C b c = v := by
  unfold mt_gc at h
  by_cases e : b < 41 ∧ c < 8 ∧ mt_gt C b c < 16777216
  · rw [if_pos e] at h
    have := Option.some.inj h
    exact ⟨e.1, e.2.1, by rw [← this]; exact e.2.2, this⟩
  · rw [if_neg e] at h
    exact absurd h (by simp)
theorem mt_ob {α β : Type} {o : Option α} {f : α → Option β} {r : β} (h : o.bind f = some r) : ∃ a, o = some a ∧ f a = some r := by
  cases o with
  | none => exact absurd h (by simp)
  | some a => exact ⟨a, rfl, h⟩
theorem mt_og {α : Type} {c : Prop} {dc : Decidable c} {x : Option α} {r : α} (h : (@ite _ c dc x none) = some r) : c ∧ x = some r := by
  by_cases e : c
  · rw [if_pos e] at h; exact ⟨e, h⟩
  · rw [if_neg e] at h; exact absurd h (by simp)
theorem mt_cell {post : Int32 → St2 → Prop} {w hf gd uk un wt wr sn sk : Int32} {a1 a2 a3 a4 a5 a6 a7 a8 a9 a10 a11 a12 a13 a14 a15 a16 a17 a18 a19 a20 a21 a22 a23 a24 a25 a26 : Nat → Int32} {ρ : mt_R} {k : Nat} {C S : List (List Nat)} {dd : Prop} {T b c v : Nat} {p1 p2 : Int32} (h : mt_TB ρ k C S dd T a1 a2 a3 a4 a5 a6 a7 a8 a9 a10 a11 a12 a13 a14) (e : mt_gc C b c = some v) (h1 : p1 = nI b) (h2 : p2 = nI c)
    (H : ∀ b5 b6 : Nat → Int32, mt_TB ρ k C S dd T a1 a2 a3 a4 b5 b6 a7 a8 a9 a10 a11 a12 a13 a14 → post (nI v) (w, hf, gd, uk, un, wt, wr, sn, sk, a1, a2, a3, a4, b5, b6, a7, a8, a9, a10, a11, a12, a13, a14, a15, a16, a17, a18, a19, a20, a21, a22, a23, a24, a25, a26)) : wpX_cell post (w, hf, gd, uk, un, wt, wr, sn, sk, a1, a2, a3, a4, a5, a6, a7, a8, a9, a10, a11, a12, a13, a14, a15, a16, a17, a18, a19, a20, a21, a22, a23, a24, a25, a26) (nI k) p1 p2 := by
  obtain ⟨hk, hC, hS, hA⟩ := h
  obtain ⟨x1, x2, x3, x4⟩ := mt_gc_s e
  subst h1 h2
  refine mj_cell hA hk x1 x2 (fun b5 b6 h' => ?_)
  rw [mt_fn_k, x4, mt_den_c x3]
  exact H b5 b6 ⟨hk, hC, hS, h'⟩
theorem mt_cellb {post : Int32 → St2 → Prop} {w hf gd uk un wt wr sn sk : Int32} {a1 a2 a3 a4 a5 a6 a7 a8 a9 a10 a11 a12 a13 a14 a15 a16 a17 a18 a19 a20 a21 a22 a23 a24 a25 a26 : Nat → Int32} {ρ : mt_R} {k : Nat} {C S : List (List Nat)} {dd : Prop} {T b c v : Nat} {p1 p2 : Int32} (h : mt_TB ρ k C S dd T a1 a2 a3 a4 a5 a6 a7 a8 a9 a10 a11 a12 a13 a14) (e : mt_gc C b c = some v) (h1 : p1 = nI b) (h2 : p2 = nI c)
    (H : ∀ b5 b6 : Nat → Int32, mt_TB ρ k C S dd T a1 a2 a3 a4 b5 b6 a7 a8 a9 a10 a11 a12 a13 a14 → post (nI v) (w, hf, gd, uk, un, wt, wr, sn, sk, a1, a2, a3, a4, b5, b6, a7, a8, a9, a10, a11, a12, a13, a14, a15, a16, a17, a18, a19, a20, a21, a22, a23, a24, a25, a26)) : wpX_cell_2 post (w, hf, gd, uk, un, wt, wr, sn, sk, a1, a2, a3, a4, a5, a6, a7, a8, a9, a10, a11, a12, a13, a14, a15, a16, a17, a18, a19, a20, a21, a22, a23, a24, a25, a26) (nI k) p1 p2 := by
  obtain ⟨hk, hC, hS, hA⟩ := h
  obtain ⟨x1, x2, x3, x4⟩ := mt_gc_s e
  subst h1 h2
  refine mj_cellb hA hk x1 x2 (fun b5 b6 h' => ?_)
  rw [mt_fn_k, x4, mt_den_c x3]
  exact H b5 b6 ⟨hk, hC, hS, h'⟩
theorem mt_cellc {post : Int32 → St2 → Prop} {w hf gd uk un wt wr sn sk : Int32} {a1 a2 a3 a4 a5 a6 a7 a8 a9 a10 a11 a12 a13 a14 a15 a16 a17 a18 a19 a20 a21 a22 a23 a24 a25 a26 : Nat → Int32} {ρ : mt_R} {k : Nat} {C S : List (List Nat)} {dd : Prop} {T b c v : Nat} {p1 p2 : Int32} (h : mt_TB ρ k C S dd T a1 a2 a3 a4 a5 a6 a7 a8 a9 a10 a11 a12 a13 a14) (e : mt_gc C b c = some v) (h1 : p1 = nI b) (h2 : p2 = nI c)
    (H : ∀ b5 b6 : Nat → Int32, mt_TB ρ k C S dd T a1 a2 a3 a4 b5 b6 a7 a8 a9 a10 a11 a12 a13 a14 → post (nI v) (w, hf, gd, uk, un, wt, wr, sn, sk, a1, a2, a3, a4, b5, b6, a7, a8, a9, a10, a11, a12, a13, a14, a15, a16, a17, a18, a19, a20, a21, a22, a23, a24, a25, a26)) : wpX_cell_3 post (w, hf, gd, uk, un, wt, wr, sn, sk, a1, a2, a3, a4, a5, a6, a7, a8, a9, a10, a11, a12, a13, a14, a15, a16, a17, a18, a19, a20, a21, a22, a23, a24, a25, a26) (nI k) p1 p2 := by
  obtain ⟨hk, hC, hS, hA⟩ := h
  obtain ⟨x1, x2, x3, x4⟩ := mt_gc_s e
  subst h1 h2
  refine mj_cellc hA hk x1 x2 (fun b5 b6 h' => ?_)
  rw [mt_fn_k, x4, mt_den_c x3]
  exact H b5 b6 ⟨hk, hC, hS, h'⟩
theorem mt_cellT {post : Int32 → St2 → Prop} {w hf gd uk un wt wr sn sk : Int32} {a1 a2 a3 a4 a5 a6 a7 a8 a9 a10 a11 a12 a13 a14 a15 a16 a17 a18 a19 a20 a21 a22 a23 a24 a25 a26 : Nat → Int32} {ρ : mt_R} {k : Nat} {C S : List (List Nat)} {dd : Prop} {T b c v : Nat} {p1 p2 : Int32} (h : mt_TB ρ k C S dd T a1 a2 a3 a4 a5 a6 a7 a8 a9 a10 a11 a12 a13 a14) (hb : b < 41) (hc : c < 8) (ev : mt_gt C b c = v) (h1 : p1 = nI b) (h2 : p2 = nI c)
    (H : ∀ b5 b6 : Nat → Int32, mt_TB ρ k C S dd T a1 a2 a3 a4 b5 b6 a7 a8 a9 a10 a11 a12 a13 a14 → post (mt_den ρ v) (w, hf, gd, uk, un, wt, wr, sn, sk, a1, a2, a3, a4, b5, b6, a7, a8, a9, a10, a11, a12, a13, a14, a15, a16, a17, a18, a19, a20, a21, a22, a23, a24, a25, a26)) : wpX_cell post (w, hf, gd, uk, un, wt, wr, sn, sk, a1, a2, a3, a4, a5, a6, a7, a8, a9, a10, a11, a12, a13, a14, a15, a16, a17, a18, a19, a20, a21, a22, a23, a24, a25, a26) (nI k) p1 p2 := by
  obtain ⟨hk, hC, hS, hA⟩ := h
  subst h1 h2
  refine mj_cell hA hk hb hc (fun b5 b6 h' => ?_)
  rw [mt_fn_k, ev]
  exact H b5 b6 ⟨hk, hC, hS, h'⟩
theorem mt_cellO {post : Int32 → St2 → Prop} {w hf gd uk un wt wr sn sk : Int32} {a1 a2 a3 a4 a5 a6 a7 a8 a9 a10 a11 a12 a13 a14 a15 a16 a17 a18 a19 a20 a21 a22 a23 a24 a25 a26 : Nat → Int32} {ρ : mt_R} {k j : Nat} {C S : List (List Nat)} {dd : Prop} {T b c : Nat} {p1 p2 : Int32} (h : mt_TB ρ k C S dd T a1 a2 a3 a4 a5 a6 a7 a8 a9 a10 a11 a12 a13 a14) (hj : j < 4) (hjk : j ≠ k) (hb : b < 41) (hc : c < 8) (h1 : p1 = nI b) (h2 : p2 = nI c)
    (H : ∀ b5 b6 : Nat → Int32, mt_TB ρ k C S dd T a1 a2 a3 a4 b5 b6 a7 a8 a9 a10 a11 a12 a13 a14 → post (ρ.2 j b c) (w, hf, gd, uk, un, wt, wr, sn, sk, a1, a2, a3, a4, b5, b6, a7, a8, a9, a10, a11, a12, a13, a14, a15, a16, a17, a18, a19, a20, a21, a22, a23, a24, a25, a26)) : wpX_cell post (w, hf, gd, uk, un, wt, wr, sn, sk, a1, a2, a3, a4, a5, a6, a7, a8, a9, a10, a11, a12, a13, a14, a15, a16, a17, a18, a19, a20, a21, a22, a23, a24, a25, a26) (nI j) p1 p2 := by
  obtain ⟨hk, hC, hS, hA⟩ := h
  subst h1 h2
  refine mj_cell hA hj hb hc (fun b5 b6 h' => ?_)
  rw [mt_fn_o hjk]
  exact H b5 b6 ⟨hk, hC, hS, h'⟩
theorem mt_set {post : St2 → Prop} {w hf gd uk un wt wr sn sk : Int32} {a1 a2 a3 a4 a5 a6 a7 a8 a9 a10 a11 a12 a13 a14 a15 a16 a17 a18 a19 a20 a21 a22 a23 a24 a25 a26 : Nat → Int32} {ρ : mt_R} {k : Nat} {C S : List (List Nat)} {T b c x : Nat} {p1 p2 v : Int32} (h : mt_TB ρ k C S True T a1 a2 a3 a4 a5 a6 a7 a8 a9 a10 a11 a12 a13 a14) (hb : b < 41) (hc : c < 8) (h1 : p1 = nI b) (h2 : p2 = nI c) (hv : v = mt_den ρ x)
    (H : ∀ b5 b6 b7 : Nat → Int32, mt_TB ρ k (mt_st C b c x) S True T a1 a2 a3 a4 b5 b6 b7 a8 a9 a10 a11 a12 a13 a14 → post (w, hf, gd, uk, un, wt, wr, sn, sk, a1, a2, a3, a4, b5, b6, b7, a8, a9, a10, a11, a12, a13, a14, a15, a16, a17, a18, a19, a20, a21, a22, a23, a24, a25, a26)) : wpX_setCell post (w, hf, gd, uk, un, wt, wr, sn, sk, a1, a2, a3, a4, a5, a6, a7, a8, a9, a10, a11, a12, a13, a14, a15, a16, a17, a18, a19, a20, a21, a22, a23, a24, a25, a26) (nI k) p1 p2 v := by
  obtain ⟨hk, hC, hS, hA⟩ := h
  subst h1 h2 hv
  refine mj_setCell hA hk hb hc ⟨rfl, trivial⟩ (fun b5 b6 b7 h' => H b5 b6 b7 ⟨hk, mt_shp_st hC hb, hS, ?_⟩)
  rw [mt_fn_st hC hb hc] at h'
  exact h'
theorem mt_setN {post : St2 → Prop} {w hf gd uk un wt wr sn sk : Int32} {a1 a2 a3 a4 a5 a6 a7 a8 a9 a10 a11 a12 a13 a14 a15 a16 a17 a18 a19 a20 a21 a22 a23 a24 a25 a26 : Nat → Int32} {ρ : mt_R} {k : Nat} {C S : List (List Nat)} {T b c x : Nat} {p1 p2 v : Int32} (h : mt_TB ρ k C S True T a1 a2 a3 a4 a5 a6 a7 a8 a9 a10 a11 a12 a13 a14) (hb : b < 41) (hc : c < 8) (h1 : p1 = nI b) (h2 : p2 = nI c) (hv : v = nI x) (hx : x < 16777216)
    (H : ∀ b5 b6 b7 : Nat → Int32, mt_TB ρ k (mt_st C b c x) S True T a1 a2 a3 a4 b5 b6 b7 a8 a9 a10 a11 a12 a13 a14 → post (w, hf, gd, uk, un, wt, wr, sn, sk, a1, a2, a3, a4, b5, b6, b7, a8, a9, a10, a11, a12, a13, a14, a15, a16, a17, a18, a19, a20, a21, a22, a23, a24, a25, a26)) : wpX_setCell post (w, hf, gd, uk, un, wt, wr, sn, sk, a1, a2, a3, a4, a5, a6, a7, a8, a9, a10, a11, a12, a13, a14, a15, a16, a17, a18, a19, a20, a21, a22, a23, a24, a25, a26) (nI k) p1 p2 v :=
  mt_set h hb hc h1 h2 (by rw [mt_den_c hx]; exact hv) H
/-! clear -/
def mt_clr (C : List (List Nat)) (b : Nat) : Nat → List (List Nat)
  | 0 => C
  | i + 1 => mt_st (mt_clr C b i) b i 0
theorem mt_clear {post : St2 → Prop} {w hf gd uk un wt wr sn sk : Int32} {a1 a2 a3 a4 a5 a6 a7 a8 a9 a10 a11 a12 a13 a14 a15 a16 a17 a18 a19 a20 a21 a22 a23 a24 a25 a26 : Nat → Int32} {ρ : mt_R} {k : Nat} {C S : List (List Nat)} {T b : Nat} {p1 : Int32} (h : mt_TB ρ k C S True T a1 a2 a3 a4 a5 a6 a7 a8 a9 a10 a11 a12 a13 a14) (hb : b < 41) (h1 : p1 = nI b)
    (H : ∀ b5 b6 b7 : Nat → Int32, mt_TB ρ k (mt_clr C b 8) S True T a1 a2 a3 a4 b5 b6 b7 a8 a9 a10 a11 a12 a13 a14 → post (w, hf, gd, uk, un, wt, wr, sn, sk, a1, a2, a3, a4, b5, b6, b7, a8, a9, a10, a11, a12, a13, a14, a15, a16, a17, a18, a19, a20, a21, a22, a23, a24, a25, a26)) : wpX_clear post (w, hf, gd, uk, un, wt, wr, sn, sk, a1, a2, a3, a4, a5, a6, a7, a8, a9, a10, a11, a12, a13, a14, a15, a16, a17, a18, a19, a20, a21, a22, a23, a24, a25, a26) (nI k) p1 := by
  unfold wpX_clear
  refine pk_loop (σ := (Nat → Int32) × (Nat → Int32) × (Nat → Int32)) (fun m i s => wX_clear_2 post (nI k) p1 m (nI i) w hf gd uk un wt wr sn sk a1 a2 a3 a4 s.1 s.2.1 s.2.2 a8 a9 a10 a11 a12 a13 a14 a15 a16 a17 a18 a19 a20 a21 a22 a23 a24 a25 a26) (fun i s => mt_TB ρ k (mt_clr C b i) S True T a1 a2 a3 a4 s.1 s.2.1 s.2.2 a8 a9 a10 a11 a12 a13 a14) 8 0 (a5, a6, a7) (by omega) h ?_ ?_
  · intro m s hI
    exact pk_le 8 8 (fun _ => H s.1 s.2.1 s.2.2 hI) (fun z => absurd z (by omega))
  · intro m i s hi hI hw
    refine pk_le 8 i (fun z => absurd z (by omega)) (fun _ => ?_)
    exact mt_setN (x := 0) hI hb hi h1 rfl rfl (by decide) (fun b5 b6 b7 h' => nm_r (nI_1 i) (hw (b5, b6, b7) h'))
/-! bits -/
theorem mt_sh : ∀ n, n < 32 → ((nI n &&& 31).toBitVec.smod 32).toNat = n := by decide +kernel
theorem mt_bit {m i : Nat} (hm : m < 2 ^ 31) (hi : i < 32) : (nI m >>> (nI i &&& 31)) &&& 1 = nI (m / 2 ^ i % 2) := by
  have h1 : m / 2 ^ i < 2 ^ 32 := Nat.lt_of_le_of_lt (Nat.div_le_self _ _) (by omega)
  rw [pk_shrN hm _ i (mt_sh i hi), pk_andN h1 1 (by decide)]
theorem mt_one {i : Nat} (hi : i < 31) : (1 : Int32) <<< (nI i &&& 31) = nI (2 ^ i) := by
  have h1 : 2 ^ i < 2 ^ 32 := Nat.pow_lt_pow_right (by decide) (by omega)
  rw [show (1 : Int32) = nI 1 from rfl, pk_shlN _ i (mt_sh i (by omega)) (by omega), Nat.one_mul]
theorem mt_or (a b : Nat) : nI a ||| nI b = nI (a ||| b) := by
  apply Int32.toBitVec_inj.mp
  show BitVec.ofNat 32 a ||| BitVec.ofNat 32 b = BitVec.ofNat 32 (a ||| b)
  apply BitVec.eq_of_toNat_eq
  rw [BitVec.toNat_or, BitVec.toNat_ofNat, BitVec.toNat_ofNat, BitVec.toNat_ofNat, Nat.or_mod_two_pow]
end
section
section
variable {w hf gd uk un wt wr sn sk : Int32} {a1 a2 a3 a4 a5 a6 a7 a8 a9 a10 a11 a12 a13 a14 a15 a16 a17 a18 a19 a20 a21 a22 a23 a24 a25 a26 : Nat → Int32} {ρ : mt_R} {k T : Nat} {C S : List (List Nat)} {dd : Prop}
/-! keys and items -/
theorem mt_keyOf {post : Int32 → St2 → Prop} {b i v : Nat} {p1 p2 : Int32} (h : mt_TB ρ k C S dd T a1 a2 a3 a4 a5 a6 a7 a8 a9 a10 a11 a12 a13 a14) (e : mt_gc C b (1 + i) = some v) (h1 : p1 = nI b) (h2 : p2 = nI i)
    (H : ∀ b5 b6 : Nat → Int32, mt_TB ρ k C S dd T a1 a2 a3 a4 b5 b6 a7 a8 a9 a10 a11 a12 a13 a14 → post (nI v) (w, hf, gd, uk, un, wt, wr, sn, sk, a1, a2, a3, a4, b5, b6, a7, a8, a9, a10, a11, a12, a13, a14, a15, a16, a17, a18, a19, a20, a21, a22, a23, a24, a25, a26)) : wpX_keyOf post (w, hf, gd, uk, un, wt, wr, sn, sk, a1, a2, a3, a4, a5, a6, a7, a8, a9, a10, a11, a12, a13, a14, a15, a16, a17, a18, a19, a20, a21, a22, a23, a24, a25, a26) (nI k) p1 p2 := by
  unfold wpX_keyOf
  exact mt_cell h e h1 (by rw [h2]; exact mj_q i 1 rfl) H
theorem mt_keyOfc {post : Int32 → St2 → Prop} {b i v : Nat} {p1 p2 : Int32} (h : mt_TB ρ k C S dd T a1 a2 a3 a4 a5 a6 a7 a8 a9 a10 a11 a12 a13 a14) (e : mt_gc C b (1 + i) = some v) (h1 : p1 = nI b) (h2 : p2 = nI i)
    (H : ∀ b5 b6 : Nat → Int32, mt_TB ρ k C S dd T a1 a2 a3 a4 b5 b6 a7 a8 a9 a10 a11 a12 a13 a14 → post (nI v) (w, hf, gd, uk, un, wt, wr, sn, sk, a1, a2, a3, a4, b5, b6, a7, a8, a9, a10, a11, a12, a13, a14, a15, a16, a17, a18, a19, a20, a21, a22, a23, a24, a25, a26)) : wpX_keyOf_2 post (w, hf, gd, uk, un, wt, wr, sn, sk, a1, a2, a3, a4, a5, a6, a7, a8, a9, a10, a11, a12, a13, a14, a15, a16, a17, a18, a19, a20, a21, a22, a23, a24, a25, a26) (nI k) p1 p2 := by
  unfold wpX_keyOf_2
  exact mt_cellc h e h1 (by rw [h2]; exact mj_q i 1 rfl) H
theorem mt_itemOf {post : Int32 → St2 → Prop} {b i v : Nat} {p1 p2 : Int32} (h : mt_TB ρ k C S dd T a1 a2 a3 a4 a5 a6 a7 a8 a9 a10 a11 a12 a13 a14) (e : mt_gc C b (4 + i) = some v) (h1 : p1 = nI b) (h2 : p2 = nI i)
    (H : ∀ b5 b6 : Nat → Int32, mt_TB ρ k C S dd T a1 a2 a3 a4 b5 b6 a7 a8 a9 a10 a11 a12 a13 a14 → post (nI v) (w, hf, gd, uk, un, wt, wr, sn, sk, a1, a2, a3, a4, b5, b6, a7, a8, a9, a10, a11, a12, a13, a14, a15, a16, a17, a18, a19, a20, a21, a22, a23, a24, a25, a26)) : wpX_itemOf post (w, hf, gd, uk, un, wt, wr, sn, sk, a1, a2, a3, a4, a5, a6, a7, a8, a9, a10, a11, a12, a13, a14, a15, a16, a17, a18, a19, a20, a21, a22, a23, a24, a25, a26) (nI k) p1 p2 := by
  unfold wpX_itemOf
  exact mt_cell h e h1 (by rw [h2]; exact mj_q i 4 rfl) H
theorem mt_itemOfb {post : Int32 → St2 → Prop} {b i v : Nat} {p1 p2 : Int32} (h : mt_TB ρ k C S dd T a1 a2 a3 a4 a5 a6 a7 a8 a9 a10 a11 a12 a13 a14) (e : mt_gc C b (4 + i) = some v) (h1 : p1 = nI b) (h2 : p2 = nI i)
    (H : ∀ b5 b6 : Nat → Int32, mt_TB ρ k C S dd T a1 a2 a3 a4 b5 b6 a7 a8 a9 a10 a11 a12 a13 a14 → post (nI v) (w, hf, gd, uk, un, wt, wr, sn, sk, a1, a2, a3, a4, b5, b6, a7, a8, a9, a10, a11, a12, a13, a14, a15, a16, a17, a18, a19, a20, a21, a22, a23, a24, a25, a26)) : wpX_itemOf_2 post (w, hf, gd, uk, un, wt, wr, sn, sk, a1, a2, a3, a4, a5, a6, a7, a8, a9, a10, a11, a12, a13, a14, a15, a16, a17, a18, a19, a20, a21, a22, a23, a24, a25, a26) (nI k) p1 p2 := by
  unfold wpX_itemOf_2
  exact mt_cellb h e h1 (by rw [h2]; exact mj_q i 4 rfl) H
/-! the way down -/
def mt_slL (C : List (List Nat)) (nd key : Nat) : Nat → Nat → Option Nat
  | 0, i => some i
  | r + 1, i => (mt_gc C nd (1 + i)).bind fun kv => if key < kv then some i else mt_slL C nd key r (i + 1)
def mt_slot (C : List (List Nat)) (nd key : Nat) : Option Nat := (mt_gc C nd 0).bind fun n => if 0 < n then mt_slL C nd key (n - 1) 0 else none
theorem mt_sl12 {post : Int32 → St2 → Prop} {nd key n v : Nat} (hkey : key < 16777216) (hn : n < 16777216) : ∀ (r i : Nat) (a5 a6 : Nat → Int32), mt_TB ρ k C S dd T a1 a2 a3 a4 a5 a6 a7 a8 a9 a10 a11 a12 a13 a14 → mt_slL C nd key r i = some v → i + r + 1 = n →
    (∀ b5 b6 : Nat → Int32, mt_TB ρ k C S dd T a1 a2 a3 a4 b5 b6 a7 a8 a9 a10 a11 a12 a13 a14 → v ≤ i + r → post (nI v) (w, hf, gd, uk, un, wt, wr, sn, sk, a1, a2, a3, a4, b5, b6, a7, a8, a9, a10, a11, a12, a13, a14, a15, a16, a17, a18, a19, a20, a21, a22, a23, a24, a25, a26)) → wX_slotFor_12 post (nI k) (nI nd) (nI key) (nI n) (r + 1) (nI i) w hf gd uk un wt wr sn sk a1 a2 a3 a4 a5 a6 a7 a8 a9 a10 a11 a12 a13 a14 a15 a16 a17 a18 a19 a20 a21 a22 a23 a24 a25 a26
  | 0, i, a5, a6, h, e, hi, H => by
    have ev : i = v := Option.some.inj e
    subst ev
    exact pk_le (n - 1) i (fun _ => H a5 a6 h (by omega)) (fun z => absurd z (by omega)) (hx := pk_sub (b := 1) (by omega))
  | r + 1, i, a5, a6, h, e, hi, H => by
    obtain ⟨kv, e1, e2⟩ := mt_ob e
    have hkv := mt_gc_s e1
    refine pk_le (n - 1) i (fun z => absurd z (by omega)) (fun _ => ?_) (hx := pk_sub (b := 1) (by omega))
    refine mt_keyOf h e1 rfl rfl (fun b5 b6 h' => ?_)
    refine pk_lt key kv (fun z => ?_) (fun z => nm_r (nI_1 i) ?_)
    · rw [if_pos z] at e2
      have ev : i = v := Option.some.inj e2
      subst ev
      exact H b5 b6 h' (by omega)
    · rw [if_neg (by omega)] at e2
      exact mt_sl12 hkey hn r (i + 1) b5 b6 h' e2 (by omega) (fun c5 c6 hc hv => H c5 c6 hc (by omega))
theorem mt_slotFor {post : Int32 → St2 → Prop} {nd key i : Nat} (h : mt_TB ρ k C S dd T a1 a2 a3 a4 a5 a6 a7 a8 a9 a10 a11 a12 a13 a14) (hkey : key < 16777216) (e : mt_slot C nd key = some i)
    (H : ∀ b5 b6 : Nat → Int32, mt_TB ρ k C S dd T a1 a2 a3 a4 b5 b6 a7 a8 a9 a10 a11 a12 a13 a14 → i < 16777216 → post (nI i) (w, hf, gd, uk, un, wt, wr, sn, sk, a1, a2, a3, a4, b5, b6, a7, a8, a9, a10, a11, a12, a13, a14, a15, a16, a17, a18, a19, a20, a21, a22, a23, a24, a25, a26)) : wpX_slotFor post (w, hf, gd, uk, un, wt, wr, sn, sk, a1, a2, a3, a4, a5, a6, a7, a8, a9, a10, a11, a12, a13, a14, a15, a16, a17, a18, a19, a20, a21, a22, a23, a24, a25, a26) (nI k) (nI nd) (nI key) := by
  obtain ⟨n, e1, e2⟩ := mt_ob e
  obtain ⟨n0, e2⟩ := mt_og e2
  have hn := mt_gc_s e1
  unfold wpX_slotFor
  refine mt_cell h e1 rfl rfl (fun b5 b6 h' => ⟨n - 1 + 1, ?_⟩)
  exact mt_sl12 hkey (by omega) (n - 1) 0 b5 b6 h' e2 (by omega) (fun c5 c6 hc hv => H c5 c6 hc (by omega))
def mt_dsL (C : List (List Nat)) (key : Nat) : Nat → Nat → List (Nat × Nat) → Option (Nat × List (Nat × Nat))
  | 0, nd, acc => some (nd, acc)
  | l + 1, nd, acc => (mt_slot C nd key).bind fun s => (mt_gc C nd (4 + s)).bind fun nx => mt_dsL C key l nx ((nd, s) :: acc)
def mt_desc (C : List (List Nat)) (t key : Nat) : Option (Nat × List (Nat × Nat)) := (mt_gc C 0 (3 * t)).bind fun nd => (mt_gc C 0 (3 * t + 1)).bind fun lv => if lv < 8 then mt_dsL C key (lv - 1) nd [] else none
def mt_way (l : Nat) (way : List (Nat × Nat)) (a19 a20 : Nat → Int32) : Prop := ∀ i, i < way.length → a19 (l + 1 + i) = nI (way.getD i (0, 0)).1 ∧ a20 (l + 1 + i) = nI (way.getD i (0, 0)).2
theorem mt_ds30 {post : Int32 → St2 → Prop} {key r : Nat} {way : List (Nat × Nat)} (hkey : key < 16777216) : ∀ (l nd : Nat) (acc : List (Nat × Nat)) (a5 a6 a19 a20 : Nat → Int32), mt_TB ρ k C S dd T a1 a2 a3 a4 a5 a6 a7 a8 a9 a10 a11 a12 a13 a14 → l ≤ 7 → nd < 16777216 → mt_dsL C key l nd acc = some (r, way) → mt_way l acc a19 a20 →
    (∀ b5 b6 b19 b20 : Nat → Int32, mt_TB ρ k C S dd T a1 a2 a3 a4 b5 b6 a7 a8 a9 a10 a11 a12 a13 a14 → r < 16777216 → mt_way 0 way b19 b20 → post (nI r) (w, hf, gd, uk, un, wt, wr, sn, sk, a1, a2, a3, a4, b5, b6, a7, a8, a9, a10, a11, a12, a13, a14, a15, a16, a17, a18, b19, b20, a21, a22, a23, a24, a25, a26)) → wX_descend_30 post (nI k) (nI key) (l + 1) (nI nd) (nI l) w hf gd uk un wt wr sn sk a1 a2 a3 a4 a5 a6 a7 a8 a9 a10 a11 a12 a13 a14 a15 a16 a17 a18 a19 a20 a21 a22 a23 a24 a25 a26
  | 0, nd, acc, a5, a6, a19, a20, h, _, hnd, e, hw, H => by
    have e' : (nd, acc) = (r, way) := Option.some.inj e
    injection e' with q1 q2
    subst q1 q2
    exact pk_le 0 0 (fun _ => H a5 a6 a19 a20 h hnd hw) (fun z => absurd z (by omega))
  | l + 1, nd, acc, a5, a6, a19, a20, h, hl, hnd, e, hw, H => by
    obtain ⟨s, e1, e2⟩ := mt_ob e
    obtain ⟨nx, e3, e4⟩ := mt_ob e2
    have hnx := mt_gc_s e3
    refine pk_le (l + 1) 0 (fun z => absurd z (by omega)) (fun _ => ?_)
    refine mt_slotFor h hkey e1 (fun b5 b6 h' hs => ?_)
    show vp_in (nI (l + 1)) 8 ∧ _
    rw [nI_clamp (show l + 1 < 2 ^ 31 by omega)]
    refine ⟨vp_in_nI (by omega) (by decide), nm_e ⟨vp_in_nI (by omega) (by decide), nm_e ?_⟩⟩
    refine mt_itemOf h' e3 rfl rfl (fun c5 c6 h'' => nm_r (pk_m1 l) ?_)
    refine mt_ds30 hkey l nx ((nd, s) :: acc) c5 c6 _ _ h'' (by omega) (by omega) e4 (fun i hi => ?_) H
    cases i with
    | zero => exact ⟨pk_us, pk_us⟩
    | succ i =>
      have hh := hw i (by simpa using hi)
      rw [show l + 1 + (i + 1) = l + 1 + 1 + i by omega, pk_un (by omega), pk_un (by omega)]
      exact hh
theorem mt_descend {post : Int32 → St2 → Prop} {t key r : Nat} {way : List (Nat × Nat)} {p1 : Int32} (h : mt_TB ρ k C S dd T a1 a2 a3 a4 a5 a6 a7 a8 a9 a10 a11 a12 a13 a14) (ht : t < 2) (h1 : p1 = nI t) (hkey : key < 16777216) (e : mt_desc C t key = some (r, way))
    (H : ∀ b5 b6 b19 b20 : Nat → Int32, mt_TB ρ k C S dd T a1 a2 a3 a4 b5 b6 a7 a8 a9 a10 a11 a12 a13 a14 → r < 16777216 → mt_way 0 way b19 b20 → post (nI r) (w, hf, gd, uk, un, wt, wr, sn, sk, a1, a2, a3, a4, b5, b6, a7, a8, a9, a10, a11, a12, a13, a14, a15, a16, a17, a18, b19, b20, a21, a22, a23, a24, a25, a26)) : wpX_descend post (w, hf, gd, uk, un, wt, wr, sn, sk, a1, a2, a3, a4, a5, a6, a7, a8, a9, a10, a11, a12, a13, a14, a15, a16, a17, a18, a19, a20, a21, a22, a23, a24, a25, a26) (nI k) p1 (nI key) := by
  subst h1
  obtain ⟨nd, e1, e2⟩ := mt_ob e
  obtain ⟨lv, e3, e4⟩ := mt_ob e2
  obtain ⟨hlv, e4⟩ := mt_og e4
  have hnd := mt_gc_s e1
  have h3 : (3 : Int32) * nI t = nI (3 * t) := by rw [show (3 : Int32) = nI 3 from rfl, pk_mul]
  unfold wpX_descend
  refine mt_cell h e1 rfl h3 (fun b5 b6 h' => ?_)
  refine mt_cell h' e3 rfl (by rw [h3, nI_1]) (fun c5 c6 h'' => ?_)
  by_cases z : lv = 0
  · subst z
    have e' : (nd, []) = (r, way) := Option.some.inj e4
    injection e' with q1 q2
    subst q1 q2
    refine nm_e ⟨1, ?_⟩
    exact br_t (by decide) (H c5 c6 a19 a20 h'' (by omega) (fun i hi => absurd hi (by simp)))
  · refine nm_r (e' := nI (lv - 1)) (pk_sub (b := 1) (by omega)) ⟨lv - 1 + 1, ?_⟩
    exact mt_ds30 hkey (lv - 1) nd [] c5 c6 a19 a20 h'' (by omega) (by omega) e4 (fun i hi => absurd hi (by simp)) H
/-- one leaf at most: any bound -/
theorem mt_descend0 {post : Int32 → St2 → Prop} {t nd lv : Nat} {p1 key : Int32} (h : mt_TB ρ k C S dd T a1 a2 a3 a4 a5 a6 a7 a8 a9 a10 a11 a12 a13 a14) (ht : t < 2) (h1 : p1 = nI t) (e1 : mt_gc C 0 (3 * t) = some nd) (e3 : mt_gc C 0 (3 * t + 1) = some lv) (hlv : lv ≤ 1)
    (H : ∀ b5 b6 : Nat → Int32, mt_TB ρ k C S dd T a1 a2 a3 a4 b5 b6 a7 a8 a9 a10 a11 a12 a13 a14 → post (nI nd) (w, hf, gd, uk, un, wt, wr, sn, sk, a1, a2, a3, a4, b5, b6, a7, a8, a9, a10, a11, a12, a13, a14, a15, a16, a17, a18, a19, a20, a21, a22, a23, a24, a25, a26)) : wpX_descend post (w, hf, gd, uk, un, wt, wr, sn, sk, a1, a2, a3, a4, a5, a6, a7, a8, a9, a10, a11, a12, a13, a14, a15, a16, a17, a18, a19, a20, a21, a22, a23, a24, a25, a26) (nI k) p1 key := by
  subst h1
  have h3 : (3 : Int32) * nI t = nI (3 * t) := by rw [show (3 : Int32) = nI 3 from rfl, pk_mul]
  unfold wpX_descend
  refine mt_cell h e1 rfl h3 (fun b5 b6 h' => ?_)
  refine mt_cell h' e3 rfl (by rw [h3, nI_1]) (fun c5 c6 h'' => nm_e ⟨1, ?_⟩)
  refine br_t ?_ (H c5 c6 h'')
  rcases (show lv = 0 ∨ lv = 1 by omega) with z | z
  · rw [z]; decide
  · rw [z]; decide
def mt_plL (C : List (List Nat)) (leaf key : Nat) : Nat → Nat → Option (Option Nat)
  | 0, _ => some none
  | r + 1, i => (mt_gc C leaf (1 + i)).bind fun kv => if kv = key then some (some i) else mt_plL C leaf key r (i + 1)
def mt_place (C : List (List Nat)) (leaf key : Nat) : Option (Option Nat) := (mt_gc C leaf 0).bind fun n => mt_plL C leaf key n 0
def mt_oi : Option Nat → Int32
  | none => -1
  | some i => nI i
theorem mt_pl12 {post : Int32 → St2 → Prop} {leaf key n : Nat} {o : Option Nat} (hkey : key < 16777216) (hn : n < 16777216) : ∀ (r i : Nat) (a5 a6 : Nat → Int32), mt_TB ρ k C S dd T a1 a2 a3 a4 a5 a6 a7 a8 a9 a10 a11 a12 a13 a14 → mt_plL C leaf key r i = some o → i + r = n →
    (∀ b5 b6 : Nat → Int32, mt_TB ρ k C S dd T a1 a2 a3 a4 b5 b6 a7 a8 a9 a10 a11 a12 a13 a14 → post (mt_oi o) (w, hf, gd, uk, un, wt, wr, sn, sk, a1, a2, a3, a4, b5, b6, a7, a8, a9, a10, a11, a12, a13, a14, a15, a16, a17, a18, a19, a20, a21, a22, a23, a24, a25, a26)) → wX_placeIn_12 post (nI k) (nI leaf) (nI key) (nI n) (r + 1) (nI i) w hf gd uk un wt wr sn sk a1 a2 a3 a4 a5 a6 a7 a8 a9 a10 a11 a12 a13 a14 a15 a16 a17 a18 a19 a20 a21 a22 a23 a24 a25 a26
  | 0, i, a5, a6, h, e, hi, H => by
    have ev : none = o := Option.some.inj e
    subst ev
    exact pk_le n i (fun _ => H a5 a6 h) (fun z => absurd z (by omega))
  | r + 1, i, a5, a6, h, e, hi, H => by
    obtain ⟨kv, e1, e2⟩ := mt_ob e
    have hkv := mt_gc_s e1
    refine pk_le n i (fun z => absurd z (by omega)) (fun _ => ?_)
    refine mt_keyOf h e1 rfl rfl (fun b5 b6 h' => ?_)
    refine pk_eq kv key (fun z => ?_) (fun z => nm_r (nI_1 i) ?_)
    · rw [if_pos z] at e2
      have ev : some i = o := Option.some.inj e2
      subst ev
      exact H b5 b6 h'
    · rw [if_neg z] at e2
      exact mt_pl12 hkey hn r (i + 1) b5 b6 h' e2 (by omega) H
theorem mt_placeIn {post : Int32 → St2 → Prop} {leaf key : Nat} {o : Option Nat} (h : mt_TB ρ k C S dd T a1 a2 a3 a4 a5 a6 a7 a8 a9 a10 a11 a12 a13 a14) (hkey : key < 16777216) (e : mt_place C leaf key = some o)
    (H : ∀ b5 b6 : Nat → Int32, mt_TB ρ k C S dd T a1 a2 a3 a4 b5 b6 a7 a8 a9 a10 a11 a12 a13 a14 → post (mt_oi o) (w, hf, gd, uk, un, wt, wr, sn, sk, a1, a2, a3, a4, b5, b6, a7, a8, a9, a10, a11, a12, a13, a14, a15, a16, a17, a18, a19, a20, a21, a22, a23, a24, a25, a26)) : wpX_placeIn post (w, hf, gd, uk, un, wt, wr, sn, sk, a1, a2, a3, a4, a5, a6, a7, a8, a9, a10, a11, a12, a13, a14, a15, a16, a17, a18, a19, a20, a21, a22, a23, a24, a25, a26) (nI k) (nI leaf) (nI key) := by
  obtain ⟨n, e1, e2⟩ := mt_ob e
  have hn := mt_gc_s e1
  unfold wpX_placeIn
  refine mt_cell h e1 rfl rfl (fun b5 b6 h' => ⟨n + 1, ?_⟩)
  exact mt_pl12 hkey (by omega) n 0 b5 b6 h' e2 (by omega) H
/-! taking a node -/
def mt_frL (m : Nat) : Nat → Nat → Nat
  | 0, i => i
  | r + 1, i => if m / 2 ^ i % 2 = 1 then mt_frL m r (i + 1) else i
def mt_take (C : List (List Nat)) : Option (Nat × List (List Nat)) := (mt_gc C 0 6).bind fun m => if mt_frL m 31 0 < 24 ∧ (m ||| 2 ^ mt_frL m 31 0) < 16777216 then some (9 + mt_frL m 31 0, mt_clr (mt_st C 0 6 (m ||| 2 ^ mt_frL m 31 0)) (9 + mt_frL m 31 0) 8) else none
theorem mt_tk11 {post : Int32 → St2 → Prop} {m : Nat} (hm : m < 16777216) : ∀ r i, i + r = 31 → wX_takeNode_32 post (nI k) (nI m) (nI (mt_frL m r i)) w hf gd uk un wt wr sn sk a1 a2 a3 a4 a5 a6 a7 a8 a9 a10 a11 a12 a13 a14 a15 a16 a17 a18 a19 a20 a21 a22 a23 a24 a25 a26 → wX_takeNode_11 post (nI k) (nI m) w hf gd uk un wt wr sn sk a1 a2 a3 a4 a5 a6 a7 a8 a9 a10 a11 a12 a13 a14 a15 a16 a17 a18 a19 a20 a21 a22 a23 a24 a25 a26 (r + 1) (nI i)
  | 0, i, hi, H => pk_le 31 i (fun _ => H) (fun z => absurd z (by omega))
  | r + 1, i, hi, H => by
    refine pk_le 31 i (fun z => absurd z (by omega)) (fun _ => ?_)
    rw [mt_bit (by omega) (by omega)]
    have hb : m / 2 ^ i % 2 < 2 := by omega
    refine pk_eq (m / 2 ^ i % 2) 1 (fun z => nm_r (nI_1 i) (mt_tk11 hm r (i + 1) (by omega) ?_)) (fun z => ?_)
    · have e : mt_frL m (r + 1) i = mt_frL m r (i + 1) := if_pos z
      rwa [e] at H
    · have e : mt_frL m (r + 1) i = i := if_neg z
      rwa [e] at H
theorem mt_takeNode {post : Int32 → St2 → Prop} {nd : Nat} {C' : List (List Nat)} (h : mt_TB ρ k C S True T a1 a2 a3 a4 a5 a6 a7 a8 a9 a10 a11 a12 a13 a14) (e : mt_take C = some (nd, C'))
    (H : ∀ b5 b6 b7 : Nat → Int32, mt_TB ρ k C' S True T a1 a2 a3 a4 b5 b6 b7 a8 a9 a10 a11 a12 a13 a14 → nd < 41 → 9 ≤ nd → post (nI nd) (w, hf, gd, uk, un, wt, wr, sn, sk, a1, a2, a3, a4, b5, b6, b7, a8, a9, a10, a11, a12, a13, a14, a15, a16, a17, a18, a19, a20, a21, a22, a23, a24, a25, a26)) : wpX_takeNode post (w, hf, gd, uk, un, wt, wr, sn, sk, a1, a2, a3, a4, a5, a6, a7, a8, a9, a10, a11, a12, a13, a14, a15, a16, a17, a18, a19, a20, a21, a22, a23, a24, a25, a26) (nI k) := by
  obtain ⟨m, e1, e2⟩ := mt_ob e
  obtain ⟨⟨hf, hv⟩, e2⟩ := mt_og e2
  have hm := mt_gc_s e1
  have e' := Option.some.inj e2
  injection e' with q1 q2
  subst q1 q2
  unfold wpX_takeNode
  refine mt_cell h e1 rfl rfl (fun b5 b6 h' => ⟨31 + 1, ?_⟩)
  refine mt_tk11 (by omega) 31 0 (by omega) ?_
  unfold wX_takeNode_32
  rw [mt_one (by omega), mt_or]
  refine mt_setN (b := 0) (c := 6) h' (by omega) (by omega) rfl rfl rfl hv (fun c5 c6 c7 h2 => ?_)
  refine mt_clear (b := 9 + mt_frL m 31 0) h2 (by omega) (mj_q _ 9 rfl) (fun d5 d6 d7 h3 => ?_)
  rw [show 9 + nI (mt_frL m 31 0) = nI (9 + (mt_frL m 31 0)) from mj_q (mt_frL m 31 0) 9 rfl]
  exact H d5 d6 d7 h3 (by omega) (by omega)
end
end
section
section
variable {w hf gd uk un wt wr sn sk : Int32} {a1 a2 a3 a4 a5 a6 a7 a8 a9 a10 a11 a12 a13 a14 a15 a16 a17 a18 a19 a20 a21 a22 a23 a24 a25 a26 : Nat → Int32} {ρ : mt_R} {k T : Nat} {C S : List (List Nat)} {dd : Prop}
/-! growing: keys only ever come at the right end -/
def mt_insAt (C : List (List Nat)) (leaf key value : Nat) : Option (List (List Nat)) := (mt_gc C leaf 0).bind fun n =>
  if n < 3 ∧ value < 16777216 ∧ (n = 0 ∨ (mt_gc C leaf (1 + (n - 1))).any (fun kv => decide (kv ≤ key)) = true) then some (mt_st (mt_st (mt_st C leaf (1 + n) key) leaf (4 + n) value) leaf 0 (n + 1)) else none
theorem mt_ins86 {post : St2 → Prop} {leaf key value n : Nat} (h : mt_TB ρ k C S True T a1 a2 a3 a4 a5 a6 a7 a8 a9 a10 a11 a12 a13 a14) (hl : leaf < 41) (hn : n < 3) (hkey : key < 16777216) (hval : value < 16777216)
    (H : ∀ b5 b6 b7 : Nat → Int32, mt_TB ρ k (mt_st (mt_st (mt_st C leaf (1 + n) key) leaf (4 + n) value) leaf 0 (n + 1)) S True T a1 a2 a3 a4 b5 b6 b7 a8 a9 a10 a11 a12 a13 a14 → post (w, hf, gd, uk, un, wt, wr, sn, sk, a1, a2, a3, a4, b5, b6, b7, a8, a9, a10, a11, a12, a13, a14, a15, a16, a17, a18, a19, a20, a21, a22, a23, a24, a25, a26)) : wX_insertAt_86 post (nI k) (nI leaf) (nI key) (nI value) (nI n) (nI n) w hf gd uk un wt wr sn sk a1 a2 a3 a4 a5 a6 a7 a8 a9 a10 a11 a12 a13 a14 a15 a16 a17 a18 a19 a20 a21 a22 a23 a24 a25 a26 := by
  unfold wX_insertAt_86
  refine mt_setN (c := 1 + n) h hl (by omega) rfl (mj_q n 1 rfl) rfl hkey (fun b5 b6 b7 h1 => ?_)
  refine mt_setN (c := 4 + n) h1 hl (by omega) rfl (mj_q n 4 rfl) rfl hval (fun c5 c6 c7 h2 => ?_)
  exact mt_setN (c := 0) h2 hl (by omega) rfl rfl (nI_1 n) (by omega) H
theorem mt_insertAt {post : St2 → Prop} {leaf key value : Nat} {C' : List (List Nat)} (h : mt_TB ρ k C S True T a1 a2 a3 a4 a5 a6 a7 a8 a9 a10 a11 a12 a13 a14) (hkey : key < 16777216) (e : mt_insAt C leaf key value = some C')
    (H : ∀ b5 b6 b7 : Nat → Int32, mt_TB ρ k C' S True T a1 a2 a3 a4 b5 b6 b7 a8 a9 a10 a11 a12 a13 a14 → post (w, hf, gd, uk, un, wt, wr, sn, sk, a1, a2, a3, a4, b5, b6, b7, a8, a9, a10, a11, a12, a13, a14, a15, a16, a17, a18, a19, a20, a21, a22, a23, a24, a25, a26)) : wpX_insertAt post (w, hf, gd, uk, un, wt, wr, sn, sk, a1, a2, a3, a4, a5, a6, a7, a8, a9, a10, a11, a12, a13, a14, a15, a16, a17, a18, a19, a20, a21, a22, a23, a24, a25, a26) (nI k) (nI leaf) (nI key) (nI value) := by
  obtain ⟨n, e1, e2⟩ := mt_ob e
  obtain ⟨⟨h3, hv, hor⟩, e2⟩ := mt_og e2
  have hn := mt_gc_s e1
  have e' := Option.some.inj e2
  subst e'
  unfold wpX_insertAt
  refine mt_cell h e1 rfl rfl (fun b5 b6 h' => ⟨1, ?_⟩)
  refine pk_le n 0 (fun z => mt_ins86 h' hn.1 h3 hkey hv H) (fun z => ?_)
  rcases hor with hz | hz
  · exact absurd hz (by omega)
  · cases hg : mt_gc C leaf (1 + (n - 1)) with
    | none => rw [hg] at hz; exact absurd hz (by simp)
    | some kv =>
      rw [hg] at hz
      have hle : kv ≤ key := by simpa using hz
      have hkv := mt_gc_s hg
      refine mt_keyOf h' hg rfl (pk_sub (b := 1) (by omega)) (fun c5 c6 h2 => ?_)
      exact pk_le kv key (fun _ => mt_ins86 h2 hn.1 h3 hkey hv H) (fun z => absurd z (by omega))
def mt_fill (C : List (List Nat)) (leaf k0 k1 v0 v1 : Nat) : List (List Nat) := mt_st (mt_st (mt_st (mt_st (mt_st (mt_clr C leaf 8) leaf 0 2) leaf 1 k0) leaf 4 v0) leaf 2 k1) leaf 5 v1
theorem mt_fillLeaf {post : St2 → Prop} {leaf f k0 k1 v0 v1 : Nat} {p2 : Int32} (h : mt_TB ρ k C S True T a1 a2 a3 a4 a5 a6 a7 a8 a9 a10 a11 a12 a13 a14) (hl : leaf < 41) (hf4 : f < 4) (h2 : p2 = nI f) (g0 : a21 f = nI k0) (g1 : a21 (f + 1) = nI k1) (g2 : a22 f = nI v0) (g3 : a22 (f + 1) = nI v1) (l0 : k0 < 16777216) (l1 : k1 < 16777216) (l2 : v0 < 16777216) (l3 : v1 < 16777216)
    (H : ∀ b5 b6 b7 : Nat → Int32, mt_TB ρ k (mt_fill C leaf k0 k1 v0 v1) S True T a1 a2 a3 a4 b5 b6 b7 a8 a9 a10 a11 a12 a13 a14 → post (w, hf, gd, uk, un, wt, wr, sn, sk, a1, a2, a3, a4, b5, b6, b7, a8, a9, a10, a11, a12, a13, a14, a15, a16, a17, a18, a19, a20, a21, a22, a23, a24, a25, a26)) : wpX_fillLeaf post (w, hf, gd, uk, un, wt, wr, sn, sk, a1, a2, a3, a4, a5, a6, a7, a8, a9, a10, a11, a12, a13, a14, a15, a16, a17, a18, a19, a20, a21, a22, a23, a24, a25, a26) (nI k) (nI leaf) p2 := by
  subst h2
  unfold wpX_fillLeaf
  refine mt_clear h hl rfl (fun b5 b6 b7 h1 => ?_)
  refine mt_setN (c := 0) (x := 2) h1 hl (by omega) rfl rfl rfl (by omega) (fun c5 c6 c7 h2 => ⟨3, ?_⟩)
  refine br_f (by decide) ?_
  rw [show nI f + 0 = nI f from mj_p f 0 rfl, nI_clamp (show f < 2 ^ 31 by omega), g0]
  refine ⟨vp_in_nI (by omega) (by decide), mt_setN (c := 1) h2 hl (by omega) rfl rfl rfl l0 (fun d5 d6 d7 h3 => ?_)⟩
  show vp_in (nI f) 5 ∧ wpX_setCell _ _ (nI k) (nI leaf) (4 + 0) (a22 f)
  rw [g2]
  refine ⟨vp_in_nI (by omega) (by decide), mt_setN (c := 4) h3 hl (by omega) rfl rfl rfl l2 (fun e5 e6 e7 h4 => nm_r (e' := (1 : Int32)) (by decide) ?_)⟩
  refine br_f (by decide) ?_
  rw [show nI f + 1 = nI (f + 1) from nI_1 f, nI_clamp (show f + 1 < 2 ^ 31 by omega), g1]
  refine ⟨vp_in_nI (by omega) (by decide), mt_setN (c := 2) h4 hl (by omega) rfl rfl rfl l1 (fun i5 i6 i7 h5 => ?_)⟩
  show vp_in (nI (f + 1)) 5 ∧ wpX_setCell _ _ (nI k) (nI leaf) (4 + 1) (a22 (f + 1))
  rw [g3]
  refine ⟨vp_in_nI (by omega) (by decide), mt_setN (c := 5) h5 hl (by omega) rfl rfl rfl l3 (fun j5 j6 j7 h6 => nm_r (e' := (2 : Int32)) (by decide) ?_)⟩
  exact br_t (by decide) (H j5 j6 j7 h6)
def mt_split (C : List (List Nat)) (leaf key value : Nat) : Option (Nat × Nat × List (List Nat)) :=
  (mt_gc C leaf (1 + 0)).bind fun k0 => (mt_gc C leaf (1 + 1)).bind fun k1 => (mt_gc C leaf (1 + 2)).bind fun k2 => (mt_gc C leaf (4 + 0)).bind fun v0 => (mt_gc C leaf (4 + 1)).bind fun v1 => (mt_gc C leaf (4 + 2)).bind fun v2 =>
  if k0 ≤ key ∧ k1 ≤ key ∧ k2 ≤ key ∧ value < 16777216 then (mt_take C).bind fun p => some (k2, p.1, mt_fill (mt_fill p.2 leaf k0 k1 v0 v1) p.1 k2 key v2 value) else none
theorem mt_sp9 {post : St2 → Prop} {leaf key kv vv i n : Nat} {x4 : Int32} (h : mt_TB ρ k C S dd T a1 a2 a3 a4 a5 a6 a7 a8 a9 a10 a11 a12 a13 a14) (hi : i < 3) (e1 : mt_gc C leaf (1 + i) = some kv) (e2 : mt_gc C leaf (4 + i) = some vv) (hkey : key < 16777216) (hle : kv ≤ key)
    (H : ∀ b5 b6 : Nat → Int32, mt_TB ρ k C S dd T a1 a2 a3 a4 b5 b6 a7 a8 a9 a10 a11 a12 a13 a14 → wX_splitLeaf_9 post (nI k) (nI leaf) (nI key) x4 n (nI (i + 1)) 0 (nI (i + 1)) w hf gd uk un wt wr sn sk a1 a2 a3 a4 b5 b6 a7 a8 a9 a10 a11 a12 a13 a14 a15 a16 a17 a18 a19 a20 (upd a21 i (nI kv)) (upd a22 i (nI vv)) a23 a24 a25 a26) :
    wX_splitLeaf_9 post (nI k) (nI leaf) (nI key) x4 (n + 1) (nI i) 0 (nI i) w hf gd uk un wt wr sn sk a1 a2 a3 a4 a5 a6 a7 a8 a9 a10 a11 a12 a13 a14 a15 a16 a17 a18 a19 a20 a21 a22 a23 a24 a25 a26 := by
  have hkv := mt_gc_s e1
  refine pk_le 3 i (fun z => absurd z (by omega)) (fun _ => ?_)
  refine mt_keyOf h e1 rfl rfl (fun b5 b6 h1 => br_t rfl (pk_le kv key (fun _ => ?_) (fun z => absurd z (by omega))))
  unfold wX_splitLeaf_59
  rw [nI_clamp (show i < 2 ^ 31 by omega)]
  refine ⟨vp_in_nI (by omega) (by decide), nm_e ?_⟩
  refine mt_itemOfb h1 e2 rfl rfl (fun c5 c6 h2 => ⟨vp_in_nI (by omega) (by decide), nm_e (nm_r (nI_1 i) (nm_r (nI_1 i) (H c5 c6 h2)))⟩)
theorem mt_splitLeaf {post : St2 → Prop} {leaf key value uk' un' : Nat} {C' : List (List Nat)} (h : mt_TB ρ k C S True T a1 a2 a3 a4 a5 a6 a7 a8 a9 a10 a11 a12 a13 a14) (hkey : key < 16777216) (e : mt_split C leaf key value = some (uk', un', C'))
    (H : ∀ b5 b6 b7 b21 b22 : Nat → Int32, mt_TB ρ k C' S True T a1 a2 a3 a4 b5 b6 b7 a8 a9 a10 a11 a12 a13 a14 → uk' < 16777216 → un' < 41 → post (w, hf, gd, (nI uk'), (nI un'), wt, wr, sn, sk, a1, a2, a3, a4, b5, b6, b7, a8, a9, a10, a11, a12, a13, a14, a15, a16, a17, a18, a19, a20, b21, b22, a23, a24, a25, a26)) : wpX_splitLeaf post (w, hf, gd, uk, un, wt, wr, sn, sk, a1, a2, a3, a4, a5, a6, a7, a8, a9, a10, a11, a12, a13, a14, a15, a16, a17, a18, a19, a20, a21, a22, a23, a24, a25, a26) (nI k) (nI leaf) (nI key) (nI value) := by
  replace e := mt_ob e
  obtain ⟨k0, e0, e⟩ := e
  replace e := mt_ob e
  obtain ⟨k1, e1, e⟩ := e
  replace e := mt_ob e
  obtain ⟨k2, e2, e⟩ := e
  replace e := mt_ob e
  obtain ⟨v0, e3, e⟩ := e
  replace e := mt_ob e
  obtain ⟨v1, e4, e⟩ := e
  replace e := mt_ob e
  obtain ⟨v2, e5, e⟩ := e
  replace e := mt_og e
  obtain ⟨⟨q0, q1, q2, hv⟩, e⟩ := e
  replace e := mt_ob e
  obtain ⟨⟨nd, C1⟩, et, e⟩ := e
  have e' := Option.some.inj e
  injection e' with x1 x2
  injection x2 with x2 x3
  subst x1 x2 x3
  have m0 := mt_gc_s e0
  have m1 := mt_gc_s e1
  have m2 := mt_gc_s e2
  have m3 := mt_gc_s e3
  have m4 := mt_gc_s e4
  have m5 := mt_gc_s e5
  unfold wpX_splitLeaf
  refine ⟨4, ?_⟩
  refine mt_sp9 (n := 3) (i := 0) h (by omega) e0 e3 hkey q0 (fun b5 b6 h1 => ?_)
  refine mt_sp9 (n := 2) (i := 1) h1 (by omega) e1 e4 hkey q1 (fun c5 c6 h2 => ?_)
  refine mt_sp9 (n := 1) (i := 2) h2 (by omega) e2 e5 hkey q2 (fun d5 d6 h3 => ?_)
  refine br_t (by decide) (br_t rfl (nm_e (nm_e ?_)))
  unfold wX_splitLeaf_112
  refine mt_takeNode h3 et (fun f5 f6 f7 h4 hn1 hn2 => ?_)
  refine mt_fillLeaf (f := 0) (k0 := k0) (k1 := k1) (v0 := v0) (v1 := v1) h4 m0.1 (by omega) rfl rfl rfl rfl rfl (by omega) (by omega) (by omega) (by omega) (fun g5 g6 g7 h5 => ?_)
  refine mt_fillLeaf (f := 2) (k0 := k2) (k1 := key) (v0 := v2) (v1 := value) h5 hn1 (by omega) rfl rfl rfl rfl rfl (by omega) (by omega) (by omega) (by omega) (fun i5 i6 i7 h6 => ?_)
  exact nm_r (e' := nI k2) rfl (H i5 i6 i7 _ _ h6 (by omega) hn1)
def mt_spIn (C : List (List Nat)) (nd uk un : Nat) : Option (Nat × Nat × List (List Nat)) :=
  (mt_gc C nd (4 + 0)).bind fun i0 => (mt_gc C nd (4 + 1)).bind fun i1 => (mt_gc C nd (4 + 2)).bind fun i2 => (mt_gc C nd (4 + 3)).bind fun i3 => (mt_gc C nd (1 + 0)).bind fun k0 => (mt_gc C nd (1 + 1)).bind fun k1 => (mt_gc C nd (1 + 2)).bind fun k2 =>
  (mt_take C).bind fun p => some (k2, p.1, mt_st (mt_st (mt_st (mt_st (mt_st (mt_st (mt_st (mt_st (mt_st (mt_st (mt_clr p.2 nd 8) nd 0 3) p.1 0 2) nd 4 i0) nd 5 i1) nd 6 i2) nd 1 k0) nd 2 k1) p.1 1 uk) p.1 4 i3) p.1 5 un)
theorem mt_in6 {post : St2 → Prop} {nd i kv iv n : Nat} (h : mt_TB ρ k C S dd T a1 a2 a3 a4 a5 a6 a7 a8 a9 a10 a11 a12 a13 a14) (hi : i < 3) (e1 : mt_gc C nd (4 + i) = some iv) (e2 : mt_gc C nd (1 + i) = some kv)
    (H : ∀ b5 b6 : Nat → Int32, mt_TB ρ k C S dd T a1 a2 a3 a4 b5 b6 a7 a8 a9 a10 a11 a12 a13 a14 → wX_splitInner_6 post (nI k) (nI nd) 3 n (nI (i + 1)) (nI (i + 1)) w hf gd uk un wt wr sn sk a1 a2 a3 a4 b5 b6 a7 a8 a9 a10 a11 a12 a13 a14 a15 a16 a17 a18 a19 a20 (upd a21 i (nI kv)) (upd a22 i (nI iv)) a23 a24 a25 a26) :
    wX_splitInner_6 post (nI k) (nI nd) 3 (n + 1) (nI i) (nI i) w hf gd uk un wt wr sn sk a1 a2 a3 a4 a5 a6 a7 a8 a9 a10 a11 a12 a13 a14 a15 a16 a17 a18 a19 a20 a21 a22 a23 a24 a25 a26 := by
  refine pk_le 4 i (fun z => absurd z (by omega)) (fun _ => ?_)
  refine mt_itemOfb h e1 rfl rfl (fun b5 b6 h1 => ?_)
  show vp_in (nI i) 5 ∧ _
  rw [nI_clamp (show i < 2 ^ 31 by omega)]
  refine ⟨vp_in_nI (by omega) (by decide), nm_e (pk_le 3 i (fun z => absurd z (by omega)) (fun _ => ?_))⟩
  refine mt_keyOfc h1 e2 rfl rfl (fun c5 c6 h2 => ?_)
  unfold wX_splitInner_51
  rw [nI_clamp (show i < 2 ^ 31 by omega)]
  refine ⟨vp_in_nI (by omega) (by decide), nm_e (nm_r (nI_1 i) (pk_eq i 3 (fun z => absurd z (by omega)) (fun _ => nm_r (nI_1 i) (H c5 c6 h2))))⟩
theorem mt_splitInner {post : St2 → Prop} {nd ukn unn uk' un' : Nat} {C' : List (List Nat)} (h : mt_TB ρ k C S True T a1 a2 a3 a4 a5 a6 a7 a8 a9 a10 a11 a12 a13 a14) (hu : uk = nI ukn) (hn : un = nI unn) (lu : ukn < 16777216) (ln : unn < 16777216) (e : mt_spIn C nd ukn unn = some (uk', un', C'))
    (H : ∀ b5 b6 b7 b21 b22 : Nat → Int32, mt_TB ρ k C' S True T a1 a2 a3 a4 b5 b6 b7 a8 a9 a10 a11 a12 a13 a14 → uk' < 16777216 → un' < 41 → post (w, hf, gd, (nI uk'), (nI un'), wt, wr, sn, sk, a1, a2, a3, a4, b5, b6, b7, a8, a9, a10, a11, a12, a13, a14, a15, a16, a17, a18, a19, a20, b21, b22, a23, a24, a25, a26)) : wpX_splitInner post (w, hf, gd, uk, un, wt, wr, sn, sk, a1, a2, a3, a4, a5, a6, a7, a8, a9, a10, a11, a12, a13, a14, a15, a16, a17, a18, a19, a20, a21, a22, a23, a24, a25, a26) (nI k) (nI nd) 3 := by
  replace e := mt_ob e
  obtain ⟨i0, e0, e⟩ := e
  replace e := mt_ob e
  obtain ⟨i1, e1, e⟩ := e
  replace e := mt_ob e
  obtain ⟨i2, e2, e⟩ := e
  replace e := mt_ob e
  obtain ⟨i3, e3, e⟩ := e
  replace e := mt_ob e
  obtain ⟨k0, e4, e⟩ := e
  replace e := mt_ob e
  obtain ⟨k1, e5, e⟩ := e
  replace e := mt_ob e
  obtain ⟨k2, e6, e⟩ := e
  replace e := mt_ob e
  obtain ⟨⟨ot, C1⟩, et, e⟩ := e
  have e' := Option.some.inj e
  injection e' with x1 x2
  injection x2 with x2 x3
  subst x1 x2 x3 hu hn
  have m0 := mt_gc_s e0
  have m1 := mt_gc_s e1
  have m2 := mt_gc_s e2
  have m3 := mt_gc_s e3
  have m4 := mt_gc_s e4
  have m5 := mt_gc_s e5
  have m6 := mt_gc_s e6
  unfold wpX_splitInner
  refine ⟨5, ?_⟩
  refine mt_in6 (n := 4) (i := 0) h (by omega) e0 e4 (fun b5 b6 h1 => ?_)
  refine mt_in6 (n := 3) (i := 1) h1 (by omega) e1 e5 (fun c5 c6 h2 => ?_)
  refine mt_in6 (n := 2) (i := 2) h2 (by omega) e2 e6 (fun d5 d6 h3 => ?_)
  refine br_f (by decide) ?_
  refine mt_itemOfb (i := 3) h3 e3 rfl rfl (fun f5 f6 h4 => ?_)
  refine ⟨vp_in_nI (n := 3) (by omega) (by decide), nm_e (br_t (by decide) ?_)⟩
  unfold wX_splitInner_51
  refine ⟨vp_in_nI (n := 3) (by omega) (by decide), nm_e (nm_r (e' := (4 : Int32)) (by decide) (br_t rfl ⟨vp_in_nI (n := 4) (by omega) (by decide), nm_e ⟨vp_in_iff.mpr (by decide), vp_in_nI (n := 4) (by omega) (by decide), nm_e ⟨vp_in_iff.mpr (by decide), nm_e (nm_r (e' := (5 : Int32)) (by decide) (nm_r (e' := (4 : Int32)) (by decide) ?_))⟩⟩⟩))⟩
  refine br_t (by decide) ?_
  refine mt_takeNode h4 et (fun g5 g6 g7 h5 hn1 hn2 => ?_)
  refine mt_clear (b := nd) h5 m0.1 rfl (fun i5 i6 i7 h6 => ?_)
  refine mt_setN (c := 0) (x := 3) h6 m0.1 (by omega) rfl rfl rfl (by omega) (fun j5 j6 j7 h7 => ?_)
  refine mt_setN (c := 0) (x := 2) h7 hn1 (by omega) rfl rfl rfl (by omega) (fun l5 l6 l7 h8 => ⟨4, ?_⟩)
  refine br_f (by decide) ⟨vp_in_nI (n := 0) (by omega) (by decide), mt_setN (c := 4) (x := i0) h8 m0.1 (by omega) rfl rfl rfl (by omega) (fun p5 p6 p7 h9 => nm_r (e' := (1 : Int32)) (by decide) ?_)⟩
  refine br_f (by decide) ⟨vp_in_nI (n := 1) (by omega) (by decide), mt_setN (c := 5) (x := i1) h9 m0.1 (by omega) rfl rfl rfl (by omega) (fun r5 r6 r7 h10 => nm_r (e' := (2 : Int32)) (by decide) ?_)⟩
  refine br_f (by decide) ⟨vp_in_nI (n := 2) (by omega) (by decide), mt_setN (c := 6) (x := i2) h10 m0.1 (by omega) rfl rfl rfl (by omega) (fun s5 s6 s7 h11 => nm_r (e' := (3 : Int32)) (by decide) ?_)⟩
  refine br_t (by decide) ?_
  refine mt_setN (c := 1) (x := k0) h11 m0.1 (by omega) rfl rfl rfl (by omega) (fun t5 t6 t7 h12 => ?_)
  refine mt_setN (c := 2) (x := k1) h12 m0.1 (by omega) rfl rfl rfl (by omega) (fun u5 u6 u7 h13 => ?_)
  refine mt_setN (c := 1) (x := ukn) h13 hn1 (by omega) rfl rfl rfl lu (fun v5 v6 v7 h14 => ?_)
  refine mt_setN (c := 4) (x := i3) h14 hn1 (by omega) rfl rfl rfl (by omega) (fun w5 w6 w7 h15 => ?_)
  refine mt_setN (c := 5) (x := unn) h15 hn1 (by omega) rfl rfl rfl ln (fun x5 x6 x7 h16 => ?_)
  exact nm_r (e' := nI k2) rfl (H x5 x6 x7 _ _ h16 (by omega) hn1)
def mt_grow (t lv : Nat) : List (Nat × Nat) → Nat → Nat → List (List Nat) → Option (List (List Nat))
  | [], uk, un, C => (mt_gc C 0 (3 * t)).bind fun old => (mt_take C).bind fun p => if lv < 1000 then some (mt_st (mt_st (mt_st (mt_st (mt_st (mt_st p.2 p.1 0 2) p.1 1 uk) p.1 4 old) p.1 5 un) 0 (3 * t) p.1) 0 (3 * t + 1) (lv + 1)) else none
  | ns :: way, uk, un, C => (mt_gc C ns.1 0).bind fun n => if n < 4 then (if ns.2 + 1 = n then some (mt_st (mt_st (mt_st C ns.1 (1 + ns.2) uk) ns.1 (5 + ns.2) un) ns.1 0 (n + 1)) else none) else (if ns.2 = 3 then (mt_spIn C ns.1 uk un).bind fun q => mt_grow t lv way q.1 q.2.1 q.2.2 else none)
theorem mt_insertItem {post : St2 → Prop} {nd s n ukn unn : Nat} (h : mt_TB ρ k C S True T a1 a2 a3 a4 a5 a6 a7 a8 a9 a10 a11 a12 a13 a14) (hu : uk = nI ukn) (hn : un = nI unn) (lu : ukn < 16777216) (ln : unn < 16777216) (e1 : mt_gc C nd 0 = some n) (hs : s + 1 = n) (hn4 : n < 4)
    (H : ∀ b5 b6 b7 : Nat → Int32, mt_TB ρ k (mt_st (mt_st (mt_st C nd (1 + s) ukn) nd (5 + s) unn) nd 0 (n + 1)) S True T a1 a2 a3 a4 b5 b6 b7 a8 a9 a10 a11 a12 a13 a14 → post (w, hf, gd, uk, un, wt, wr, sn, sk, a1, a2, a3, a4, b5, b6, b7, a8, a9, a10, a11, a12, a13, a14, a15, a16, a17, a18, a19, a20, a21, a22, a23, a24, a25, a26)) : wpX_insertItem post (w, hf, gd, uk, un, wt, wr, sn, sk, a1, a2, a3, a4, a5, a6, a7, a8, a9, a10, a11, a12, a13, a14, a15, a16, a17, a18, a19, a20, a21, a22, a23, a24, a25, a26) (nI k) (nI nd) (nI s) := by
  subst hu hn
  have m0 := mt_gc_s e1
  unfold wpX_insertItem
  refine mt_cell h e1 rfl rfl (fun b5 b6 h1 => nm_r (e' := nI (n - 1)) (pk_sub (b := 1) (by omega)) ⟨1, ?_⟩)
  refine pk_le (n - 1) s (fun _ => ?_) (fun z => absurd z (by omega))
  refine mt_setN (c := 1 + s) (x := ukn) h1 m0.1 (by omega) rfl (mj_q s 1 rfl) rfl lu (fun c5 c6 c7 h2 => ?_)
  refine mt_setN (c := 5 + s) (x := unn) h2 m0.1 (by omega) rfl (mj_q s 5 rfl) rfl ln (fun d5 d6 d7 h3 => ?_)
  exact mt_setN (c := 0) (x := n + 1) h3 m0.1 (by omega) rfl rfl (nI_1 n) (by omega) H
theorem mt_gr15 {post : St2 → Prop} {t lv : Nat} {C' : List (List Nat)} (ht : t < 2) (hlv : lv < 8) : ∀ (way : List (Nat × Nat)) (l ukn unn : Nat) (C : List (List Nat)) (uk un : Int32) (a5 a6 a7 a21 a22 : Nat → Int32), mt_TB ρ k C S True T a1 a2 a3 a4 a5 a6 a7 a8 a9 a10 a11 a12 a13 a14 → uk = nI ukn → un = nI unn → ukn < 16777216 → unn < 16777216 → l + way.length + 1 = lv → mt_way l way a19 a20 → mt_grow t lv way ukn unn C = some C' →
    (∀ (uk un : Int32) (b5 b6 b7 b21 b22 : Nat → Int32), mt_TB ρ k C' S True T a1 a2 a3 a4 b5 b6 b7 a8 a9 a10 a11 a12 a13 a14 → post (w, hf, gd, uk, un, wt, wr, sn, sk, a1, a2, a3, a4, b5, b6, b7, a8, a9, a10, a11, a12, a13, a14, a15, a16, a17, a18, a19, a20, b21, b22, a23, a24, a25, a26)) → wX_growUp_15 post (nI k) (nI t) (nI lv) (way.length + 1) (nI (l + 1)) w hf gd uk un wt wr sn sk a1 a2 a3 a4 a5 a6 a7 a8 a9 a10 a11 a12 a13 a14 a15 a16 a17 a18 a19 a20 a21 a22 a23 a24 a25 a26
  | [], l, ukn, unn, C, uk, un, a5, a6, a7, a21, a22, h, hu, hn, lu, ln, hl, hw, e, H => by
    replace e := mt_ob e
    obtain ⟨old, e1, e⟩ := e
    replace e := mt_ob e
    obtain ⟨⟨nd, C1⟩, et, e⟩ := e
    replace e := mt_og e
    obtain ⟨hlt, e⟩ := e
    have e' := Option.some.inj e
    subst e' hu hn
    have m0 := mt_gc_s e1
    have h3 : (3 : Int32) * nI t = nI (3 * t) := by rw [show (3 : Int32) = nI 3 from rfl, pk_mul]
    have hl' : l + 1 = lv := by simpa using hl
    refine pk_le lv (l + 1) (fun _ => ?_) (fun z => absurd z (by omega))
    refine mt_cell h e1 rfl h3 (fun b5 b6 h1 => ?_)
    refine mt_takeNode h1 et (fun c5 c6 c7 h2 hn1 hn2 => ?_)
    refine mt_setN (c := 0) (x := 2) h2 hn1 (by omega) rfl rfl rfl (by omega) (fun d5 d6 d7 h3' => ?_)
    refine mt_setN (c := 1) (x := ukn) h3' hn1 (by omega) rfl rfl rfl lu (fun f5 f6 f7 h4 => ?_)
    refine mt_setN (c := 4) (x := old) h4 hn1 (by omega) rfl rfl rfl (by omega) (fun g5 g6 g7 h5 => ?_)
    refine mt_setN (c := 5) (x := unn) h5 hn1 (by omega) rfl rfl rfl ln (fun i5 i6 i7 h6 => ?_)
    refine mt_setN (b := 0) (c := 3 * t) (x := nd) h6 (by omega) (by omega) rfl h3 rfl (by omega) (fun j5 j6 j7 h7 => ?_)
    exact mt_setN (b := 0) (c := 3 * t + 1) (x := lv + 1) h7 (by omega) (by omega) rfl (by rw [h3, nI_1]) (nI_1 lv) (by omega) (H _ _ · · · _ _)
  | ns :: way, l, ukn, unn, C, uk, un, a5, a6, a7, a21, a22, h, hu, hn, lu, ln, hl, hw, e, H => by
    replace e := mt_ob e
    obtain ⟨n, e1, e⟩ := e
    have m0 := mt_gc_s e1
    have hl' : l + (way.length + 1) + 1 = lv := by simpa using hl
    have hw0 := hw 0 (by simp)
    have x19 : a19 (l + 1) = nI ns.1 := hw0.1
    have x20 : a20 (l + 1) = nI ns.2 := hw0.2
    refine pk_le lv (l + 1) (fun z => absurd z (by omega)) (fun _ => ?_)
    rw [nI_clamp (show l + 1 < 2 ^ 31 by omega), x19, x20]
    refine ⟨vp_in_nI (by omega) (by decide), nm_e ⟨vp_in_nI (by omega) (by decide), nm_e ?_⟩⟩
    refine mt_cell h e1 rfl rfl (fun b5 b6 h1 => ?_)
    refine pk_le 4 n (fun z => ?_) (fun z => ?_)
    · rw [if_neg (by omega)] at e
      replace e := mt_og e
      obtain ⟨hs, e⟩ := e
      replace e := mt_ob e
      obtain ⟨⟨u1, u2, C2⟩, e2, e⟩ := e
      rw [hs]
      refine mt_splitInner h1 hu hn lu ln e2 (fun c5 c6 c7 c21 c22 h2 y1 y2 => nm_r (nI_1 _) ?_)
      refine mt_gr15 ht hlv way (l + 1) u1 u2 C2 _ _ c5 c6 c7 c21 c22 h2 rfl rfl y1 (by omega) (by omega) (fun i hi => ?_) e H
      have := hw (i + 1) (by simpa using hi)
      rw [show l + 1 + (i + 1) = l + 1 + 1 + i by omega] at this
      exact this
    · rw [if_pos z] at e
      replace e := mt_og e
      obtain ⟨hs, e⟩ := e
      have e' := Option.some.inj e
      subst e'
      exact mt_insertItem h1 hu hn lu ln e1 hs z (H _ _ · · · _ _)
end
end
section
section
variable {w hf gd uk un wt wr sn sk : Int32} {a1 a2 a3 a4 a5 a6 a7 a8 a9 a10 a11 a12 a13 a14 a15 a16 a17 a18 a19 a20 a21 a22 a23 a24 a25 a26 : Nat → Int32} {ρ : mt_R} {k T : Nat} {C S : List (List Nat)} {dd : Prop}
theorem mt_t3 (t : Nat) : (3 : Int32) * nI t = nI (3 * t) := by rw [show (3 : Int32) = nI 3 from rfl, pk_mul]
theorem mt_t3p (t c : Nat) {x : Int32} (hx : x = nI c) : (3 : Int32) * nI t + x = nI (3 * t + c) := by rw [mt_t3, hx, nI_add]
theorem mt_growUp {post : St2 → Prop} {t lv ukn unn : Nat} {way : List (Nat × Nat)} {C' : List (List Nat)} (h : mt_TB ρ k C S True T a1 a2 a3 a4 a5 a6 a7 a8 a9 a10 a11 a12 a13 a14) (ht : t < 2) (hu : uk = nI ukn) (hn : un = nI unn) (lu : ukn < 16777216) (ln : unn < 16777216) (e1 : mt_gc C 0 (3 * t + 1) = some lv) (hl : lv = way.length + 1) (hlv : lv < 8) (hw : mt_way 0 way a19 a20) (e : mt_grow t lv way ukn unn C = some C')
    (H : ∀ (uk un : Int32) (b5 b6 b7 b21 b22 : Nat → Int32), mt_TB ρ k C' S True T a1 a2 a3 a4 b5 b6 b7 a8 a9 a10 a11 a12 a13 a14 → post (w, hf, gd, uk, un, wt, wr, sn, sk, a1, a2, a3, a4, b5, b6, b7, a8, a9, a10, a11, a12, a13, a14, a15, a16, a17, a18, a19, a20, b21, b22, a23, a24, a25, a26)) : wpX_growUp post (w, hf, gd, uk, un, wt, wr, sn, sk, a1, a2, a3, a4, a5, a6, a7, a8, a9, a10, a11, a12, a13, a14, a15, a16, a17, a18, a19, a20, a21, a22, a23, a24, a25, a26) (nI k) (nI t) := by
  unfold wpX_growUp
  refine mt_cell h e1 rfl (mt_t3p t 1 rfl) (fun b5 b6 h1 => ⟨way.length + 1, ?_⟩)
  exact mt_gr15 ht hlv way 0 ukn unn C uk un b5 b6 a7 a21 a22 h1 hu hn lu ln (by omega) hw e H
def mt_setK3 (t key value leaf : Nat) (way : List (Nat × Nat)) (C : List (List Nat)) : Option (List (List Nat)) :=
  (mt_gc C leaf 0).bind fun n => if n < 3 then mt_insAt C leaf key value else (mt_split C leaf key value).bind fun q => (mt_gc q.2.2 0 (3 * t + 1)).bind fun lv => if lv = way.length + 1 then mt_grow t lv way q.1 q.2.1 q.2.2 else none
def mt_setK2 (t key value leaf : Nat) (way : List (Nat × Nat)) (C : List (List Nat)) : Option (List (List Nat)) :=
  (mt_place C leaf key).bind fun o => if o = none ∧ way.length < 7 then (mt_gc C 0 (3 * t + 2)).bind fun cnt => if cnt < 1000 then mt_setK3 t key value leaf way (mt_st C 0 (3 * t + 2) (cnt + 1)) else none else none
def mt_setK (t key value : Nat) (C : List (List Nat)) : Option (List (List Nat)) :=
  (mt_desc C t key).bind fun p => if p.1 = 0 then (mt_take C).bind fun q => mt_setK2 t key value q.1 [] (mt_st (mt_st q.2 0 (3 * t) q.1) 0 (3 * t + 1) 1) else mt_setK2 t key value p.1 p.2 C
theorem mt_sk44 {post : St2 → Prop} {t key value leaf : Nat} {way : List (Nat × Nat)} {C' : List (List Nat)} (h : mt_TB ρ k C S True T a1 a2 a3 a4 a5 a6 a7 a8 a9 a10 a11 a12 a13 a14) (ht : t < 2) (hkey : key < 16777216) (hw : mt_way 0 way a19 a20) (e : mt_setK2 t key value leaf way C = some C')
    (H : ∀ (uk un : Int32) (b5 b6 b7 b21 b22 : Nat → Int32), mt_TB ρ k C' S True T a1 a2 a3 a4 b5 b6 b7 a8 a9 a10 a11 a12 a13 a14 → post (w, hf, gd, uk, un, wt, wr, sn, sk, a1, a2, a3, a4, b5, b6, b7, a8, a9, a10, a11, a12, a13, a14, a15, a16, a17, a18, a19, a20, b21, b22, a23, a24, a25, a26)) : wX_setKey_44 post (nI k) (nI t) (nI key) (nI value) (nI leaf) w hf gd uk un wt wr sn sk a1 a2 a3 a4 a5 a6 a7 a8 a9 a10 a11 a12 a13 a14 a15 a16 a17 a18 a19 a20 a21 a22 a23 a24 a25 a26 := by
  replace e := mt_ob e
  obtain ⟨o, e1, e⟩ := e
  replace e := mt_og e
  obtain ⟨⟨ho, hwl⟩, e⟩ := e
  replace e := mt_ob e
  obtain ⟨cnt, e2, e⟩ := e
  replace e := mt_og e
  obtain ⟨hcnt, e⟩ := e
  replace e := mt_ob e
  obtain ⟨n, e3, e⟩ := e
  subst ho
  have m3 := mt_gc_s e3
  unfold wX_setKey_44
  refine mt_placeIn h hkey e1 (fun b5 b6 h1 => br_t (show (-1 : Int32) < 0 by decide) ?_)
  refine mt_cell h1 e2 rfl (mt_t3p t 2 rfl) (fun c5 c6 h2 => ?_)
  refine mt_setN (b := 0) (c := 3 * t + 2) (x := cnt + 1) h2 (by omega) (by omega) rfl (mt_t3p t 2 rfl) (nI_1 cnt) (by omega) (fun d5 d6 d7 h3 => ?_)
  refine mt_cell h3 e3 rfl rfl (fun f5 f6 h4 => ?_)
  refine pk_le 3 n (fun z => ?_) (fun z => ?_)
  · rw [if_neg (by omega)] at e
    replace e := mt_ob e
    obtain ⟨⟨u1, u2, C2⟩, e4, e⟩ := e
    replace e := mt_ob e
    obtain ⟨lv, e5, e⟩ := e
    replace e := mt_og e
    obtain ⟨hlv, e⟩ := e
    refine mt_splitLeaf h4 hkey e4 (fun g5 g6 g7 g21 g22 h5 y1 y2 => ?_)
    exact mt_growUp h5 ht rfl rfl y1 (by omega) e5 hlv (by omega) hw e H
  · rw [if_pos z] at e
    exact mt_insertAt h4 hkey e (fun g5 g6 g7 h5 => H _ _ g5 g6 g7 _ _ h5)
theorem mt_setKey {post : St2 → Prop} {t key value : Nat} {C' : List (List Nat)} {p1 : Int32} (h : mt_TB ρ k C S True T a1 a2 a3 a4 a5 a6 a7 a8 a9 a10 a11 a12 a13 a14) (ht : t < 2) (h1 : p1 = nI t) (hkey : key < 16777216) (e : mt_setK t key value C = some C')
    (H : ∀ (uk un : Int32) (b5 b6 b7 b19 b20 b21 b22 : Nat → Int32), mt_TB ρ k C' S True T a1 a2 a3 a4 b5 b6 b7 a8 a9 a10 a11 a12 a13 a14 → post (w, hf, gd, uk, un, wt, wr, sn, sk, a1, a2, a3, a4, b5, b6, b7, a8, a9, a10, a11, a12, a13, a14, a15, a16, a17, a18, b19, b20, b21, b22, a23, a24, a25, a26)) : wpX_setKey post (w, hf, gd, uk, un, wt, wr, sn, sk, a1, a2, a3, a4, a5, a6, a7, a8, a9, a10, a11, a12, a13, a14, a15, a16, a17, a18, a19, a20, a21, a22, a23, a24, a25, a26) (nI k) p1 (nI key) (nI value) := by
  subst h1
  replace e := mt_ob e
  obtain ⟨⟨leaf, way⟩, e1, e⟩ := e
  unfold wpX_setKey
  refine mt_descend h ht rfl hkey e1 (fun b5 b6 b19 b20 h1 hr hw => pk_eq leaf 0 (fun z => ?_) (fun z => ?_))
  · rw [if_pos z] at e
    replace e := mt_ob e
    obtain ⟨⟨nd, C1⟩, e2, e⟩ := e
    refine mt_takeNode h1 e2 (fun c5 c6 c7 h2 hn1 hn2 => ?_)
    refine mt_setN (b := 0) (c := 3 * t) (x := nd) h2 (by omega) (by omega) rfl (mt_t3 t) rfl (by omega) (fun d5 d6 d7 h3 => ?_)
    refine mt_setN (b := 0) (c := 3 * t + 1) (x := 1) h3 (by omega) (by omega) rfl (mt_t3p t 1 rfl) rfl (by omega) (fun f5 f6 f7 h4 => ?_)
    exact mt_sk44 h4 ht hkey (fun i hi => absurd hi (by simp)) e (fun uk un g5 g6 g7 g21 g22 h5 => H uk un g5 g6 g7 b19 b20 g21 g22 h5)
  · rw [if_neg z] at e
    exact mt_sk44 h1 ht hkey hw e (fun uk un g5 g6 g7 g21 g22 h5 => H uk un g5 g6 g7 b19 b20 g21 g22 h5)
/-! dropping the only key of a leaf -/
theorem mt_bits : ∀ m, m < 4 → ∀ x, x < 2 → nI m &&& (((1 : Int32) <<< ((nI (9 + x) - 9) &&& 31)) ^^^ (-1)) = nI (m &&& (3 - 2 ^ x)) := by decide +kernel
def mt_give (S : List (List Nat)) (x m : Nat) (C : List (List Nat)) : List (List Nat) := (mt_st C 0 6 (m &&& (3 - 2 ^ x))).set (9 + x) (S.getD (9 + x) [])
theorem mt_giveNode {post : St2 → Prop} {x m : Nat} (h : mt_TB ρ k C S True T a1 a2 a3 a4 a5 a6 a7 a8 a9 a10 a11 a12 a13 a14) (hx : x < 2) (e : mt_gc C 0 6 = some m) (hm : m < 4)
    (H : ∀ b5 b6 b7 : Nat → Int32, mt_TB ρ k (mt_give S x m C) S True T a1 a2 a3 a4 b5 b6 b7 a8 a9 a10 a11 a12 a13 a14 → post (w, hf, gd, uk, un, wt, wr, sn, sk, a1, a2, a3, a4, b5, b6, b7, a8, a9, a10, a11, a12, a13, a14, a15, a16, a17, a18, a19, a20, a21, a22, a23, a24, a25, a26)) : wpX_giveNode post (w, hf, gd, uk, un, wt, wr, sn, sk, a1, a2, a3, a4, a5, a6, a7, a8, a9, a10, a11, a12, a13, a14, a15, a16, a17, a18, a19, a20, a21, a22, a23, a24, a25, a26) (nI k) (nI (9 + x)) := by
  obtain ⟨hk, hC, hS, hA⟩ := h
  obtain ⟨_, _, _, e6⟩ := mt_gc_s e
  have hm2 : m &&& (3 - 2 ^ x) ≤ m := Nat.and_le_left
  refine mj_giveNode hA hk (by omega) ⟨rfl, trivial⟩ (fun b5 b6 b7 h' => H b5 b6 b7 ⟨hk, ?_, hS, ?_⟩)
  · exact mt_shp_set (mt_shp_st hC (by omega)) (by omega) (hS.2 _ (by omega))
  · rw [mt_fn_k, e6, mt_den_c (by omega), mt_bits m hm x hx, ← mt_den_c (ρ := ρ) (show m &&& (3 - 2 ^ x) < 16777216 by omega), mt_fn_st hC (by omega) (by omega)] at h'
    have ef : mj_uB (mt_fn ρ k (mt_st C 0 6 (m &&& (3 - 2 ^ x)))) k (9 + x) (mt_fn ρ k S k (9 + x)) = mt_fn ρ k (mt_give S x m C) := by
      funext j' b' c'
      by_cases q : j' = k ∧ b' = 9 + x
      · obtain ⟨rfl, rfl⟩ := q
        rw [mj_uBs, mt_fn_k, mt_fn_k]
        unfold mt_gt mt_give
        rw [mt_getD_set (by rw [(mt_shp_st hC (show 0 < 41 by omega)).1]; omega), if_pos rfl]
      · rw [mj_uBn q]
        by_cases ej : j' = k
        · subst ej
          rw [mt_fn_k, mt_fn_k]
          unfold mt_gt mt_give
          rw [mt_getD_set (by rw [(mt_shp_st hC (show 0 < 41 by omega)).1]; omega), if_neg (fun z => q ⟨rfl, z⟩)]
        · rw [mt_fn_o ej, mt_fn_o ej]
    rw [ef] at h'
    exact h'
def mt_dropK2 (S : List (List Nat)) (t leaf : Nat) (C : List (List Nat)) : Option (List (List Nat)) :=
  (mt_gc C 0 (3 * t + 2)).bind fun cnt => if 0 < cnt then (mt_gc (mt_st C 0 (3 * t + 2) (cnt - 1)) leaf 0).bind fun n => (mt_gc (mt_st C 0 (3 * t + 2) (cnt - 1)) 0 6).bind fun m => if n = 0 ∧ m < 4 ∧ 9 ≤ leaf ∧ leaf < 11 then some (mt_st (mt_st (mt_give S (leaf - 9) m (mt_st C 0 (3 * t + 2) (cnt - 1))) 0 (3 * t) 0) 0 (3 * t + 1) 0) else none else none
def mt_dropK (S : List (List Nat)) (t key : Nat) (C : List (List Nat)) : Option (List (List Nat)) :=
  (mt_desc C t key).bind fun p => if ¬ p.1 = 0 then (mt_place C p.1 key).bind fun o => (mt_gc C p.1 0).bind fun n => if o = some 0 ∧ n = 1 then mt_dropK2 S t p.1 (mt_st (mt_st (mt_st C p.1 1 0) p.1 4 0) p.1 0 0) else none else none
theorem mt_dropKey {post : St2 → Prop} {t key : Nat} {C' : List (List Nat)} {p1 : Int32} (h : mt_TB ρ k C S True T a1 a2 a3 a4 a5 a6 a7 a8 a9 a10 a11 a12 a13 a14) (ht : t < 2) (h1 : p1 = nI t) (hkey : key < 16777216) (e : mt_dropK S t key C = some C')
    (H : ∀ b5 b6 b7 b19 b20 : Nat → Int32, mt_TB ρ k C' S True T a1 a2 a3 a4 b5 b6 b7 a8 a9 a10 a11 a12 a13 a14 → post (w, hf, gd, uk, un, wt, wr, sn, sk, a1, a2, a3, a4, b5, b6, b7, a8, a9, a10, a11, a12, a13, a14, a15, a16, a17, a18, b19, b20, a21, a22, a23, a24, a25, a26)) : wpX_dropKey post (w, hf, gd, uk, un, wt, wr, sn, sk, a1, a2, a3, a4, a5, a6, a7, a8, a9, a10, a11, a12, a13, a14, a15, a16, a17, a18, a19, a20, a21, a22, a23, a24, a25, a26) (nI k) p1 (nI key) := by
  subst h1
  replace e := mt_ob e
  obtain ⟨⟨leaf, way⟩, e1, e⟩ := e
  replace e := mt_og e
  obtain ⟨hl0, e⟩ := e
  replace e := mt_ob e
  obtain ⟨o, e2, e⟩ := e
  replace e := mt_ob e
  obtain ⟨n, e3, e⟩ := e
  replace e := mt_og e
  obtain ⟨⟨ho, hn⟩, e⟩ := e
  replace e := mt_ob e
  obtain ⟨cnt, e4, e⟩ := e
  replace e := mt_og e
  obtain ⟨hcnt, e⟩ := e
  replace e := mt_ob e
  obtain ⟨n2, e5, e⟩ := e
  replace e := mt_ob e
  obtain ⟨m, e6, e⟩ := e
  replace e := mt_og e
  obtain ⟨⟨hn2, hm, hl9, hl11⟩, e⟩ := e
  have e' := Option.some.inj e
  subst ho hn hn2 e'
  have m3 := mt_gc_s e3
  have m4 := mt_gc_s e4
  unfold wpX_dropKey
  refine mt_descend h ht rfl hkey e1 (fun b5 b6 b19 b20 h1 hr hw => pk_eq leaf 0 (fun z => absurd z hl0) (fun _ => ?_))
  refine mt_placeIn h1 hkey e2 (fun c5 c6 h2 => ?_)
  unfold wX_dropKey_26
  refine br_t (show (0 : Int32) ≤ nI 0 by decide) ?_
  unfold wpX_removeAt
  refine mt_cell h2 e3 rfl rfl (fun d5 d6 h3 => ⟨1, ?_⟩)
  refine br_t (show nI 1 ≤ nI 0 + 1 by decide) ?_
  refine mt_setN (c := 1) (x := 0) h3 m3.1 (by omega) rfl rfl rfl (by omega) (fun f5 f6 f7 h4 => ?_)
  refine mt_setN (c := 4) (x := 0) h4 m3.1 (by omega) rfl rfl rfl (by omega) (fun g5 g6 g7 h5 => ?_)
  refine mt_setN (c := 0) (x := 0) h5 m3.1 (by omega) rfl rfl (show nI 1 - 1 = nI 0 by decide) (by omega) (fun i5 i6 i7 h6 => ?_)
  refine mt_cell h6 e4 rfl (mt_t3p t 2 rfl) (fun j5 j6 h7 => ?_)
  refine mt_setN (b := 0) (c := 3 * t + 2) (x := cnt - 1) h7 (by omega) (by omega) rfl (mt_t3p t 2 rfl) (pk_sub (b := 1) (by omega)) (by omega) (fun l5 l6 l7 h8 => ?_)
  refine mt_cell h8 e5 rfl rfl (fun p5 p6 h9 => br_t rfl ?_)
  obtain ⟨x, hx⟩ : ∃ x, leaf = 9 + x := ⟨leaf - 9, by omega⟩
  subst hx
  rw [show 9 + x - 9 = x by omega] at H
  refine mt_giveNode h9 (by omega) e6 hm (fun q5 q6 q7 h10 => ?_)
  refine mt_setN (b := 0) (c := 3 * t) (x := 0) h10 (by omega) (by omega) rfl (mt_t3 t) rfl (by omega) (fun r5 r6 r7 h11 => ?_)
  exact mt_setN (b := 0) (c := 3 * t + 1) (x := 0) h11 (by omega) (by omega) rfl (mt_t3p t 1 rfl) rfl (by omega) (fun s5 s6 s7 h12 => H s5 s6 s7 b19 b20 h12)
/-! looking up -/
def mt_val (t key : Nat) (C : List (List Nat)) : Option (Option Nat) :=
  (mt_desc C t key).bind fun p => if p.1 = 0 then some none else (mt_place C p.1 key).bind fun o => match o with
    | none => some none
    | some i => (mt_gc C p.1 (4 + i)).bind fun v => some (some v)
def mt_o2 : Option Nat → Int32
  | none => -2
  | some v => nI v
theorem mt_valueOf {post : Int32 → St2 → Prop} {t key : Nat} {o : Option Nat} {p1 : Int32} (h : mt_TB ρ k C S dd T a1 a2 a3 a4 a5 a6 a7 a8 a9 a10 a11 a12 a13 a14) (ht : t < 2) (h1 : p1 = nI t) (hkey : key < 16777216) (e : mt_val t key C = some o)
    (H : ∀ b5 b6 b19 b20 : Nat → Int32, mt_TB ρ k C S dd T a1 a2 a3 a4 b5 b6 a7 a8 a9 a10 a11 a12 a13 a14 → post (mt_o2 o) (w, hf, gd, uk, un, wt, wr, sn, sk, a1, a2, a3, a4, b5, b6, a7, a8, a9, a10, a11, a12, a13, a14, a15, a16, a17, a18, b19, b20, a21, a22, a23, a24, a25, a26)) : wpX_valueOf post (w, hf, gd, uk, un, wt, wr, sn, sk, a1, a2, a3, a4, a5, a6, a7, a8, a9, a10, a11, a12, a13, a14, a15, a16, a17, a18, a19, a20, a21, a22, a23, a24, a25, a26) (nI k) p1 (nI key) := by
  subst h1
  replace e := mt_ob e
  obtain ⟨⟨leaf, way⟩, e1, e⟩ := e
  unfold wpX_valueOf
  refine mt_descend h ht rfl hkey e1 (fun b5 b6 b19 b20 h1 hr hw => pk_eq leaf 0 (fun z => ?_) (fun z => ?_))
  · rw [if_pos z] at e
    have e' := Option.some.inj e
    subst e'
    unfold wX_valueOf_26
    exact br_f (by decide) (H b5 b6 b19 b20 h1)
  · rw [if_neg z] at e
    replace e := mt_ob e
    obtain ⟨q, e2, e⟩ := e
    refine mt_placeIn h1 hkey e2 (fun c5 c6 h2 => ?_)
    unfold wX_valueOf_26
    cases q with
    | none =>
      have e' := Option.some.inj e
      subst e'
      exact br_f (show ¬ (0 : Int32) ≤ -1 by decide) (H c5 c6 b19 b20 h2)
    | some i =>
      replace e := mt_ob e
      obtain ⟨v, e3, e⟩ := e
      have e' := Option.some.inj e
      subst e'
      have m3 := mt_gc_s e3
      refine br_t (show (0 : Int32) ≤ nI i from nI_pos' (by omega)) ?_
      exact mt_itemOf h2 e3 rfl rfl (fun d5 d6 h3 => H d5 d6 b19 b20 h3)
theorem mt_recordOf {post : Int32 → St2 → Prop} {key : Nat} {o : Option Nat} (h : mt_TB ρ k C S dd T a1 a2 a3 a4 a5 a6 a7 a8 a9 a10 a11 a12 a13 a14) (hkey : key < 16777216) (e : mt_val 0 key C = some o)
    (H : ∀ b5 b6 b19 b20 : Nat → Int32, mt_TB ρ k C S dd T a1 a2 a3 a4 b5 b6 a7 a8 a9 a10 a11 a12 a13 a14 → post (mt_o2 o) (w, hf, gd, uk, un, wt, wr, sn, sk, a1, a2, a3, a4, b5, b6, a7, a8, a9, a10, a11, a12, a13, a14, a15, a16, a17, a18, b19, b20, a21, a22, a23, a24, a25, a26)) : wpX_recordOf post (w, hf, gd, uk, un, wt, wr, sn, sk, a1, a2, a3, a4, a5, a6, a7, a8, a9, a10, a11, a12, a13, a14, a15, a16, a17, a18, a19, a20, a21, a22, a23, a24, a25, a26) (nI k) (nI key) := by
  unfold wpX_recordOf
  exact mt_valueOf (t := 0) h (by omega) rfl hkey e H
theorem mt_ka0 {post : Int32 → St2 → Prop} {t lv : Nat} (h : mt_TB ρ k C S dd T a1 a2 a3 a4 a5 a6 a7 a8 a9 a10 a11 a12 a13 a14) (ht : t < 2) (e3 : mt_gc C 0 (3 * t + 1) = some lv) (hlv : lv ≤ 1) (H : ∀ b5 b6 : Nat → Int32, mt_TB ρ k C S dd T a1 a2 a3 a4 b5 b6 a7 a8 a9 a10 a11 a12 a13 a14 → post (-2) (w, hf, gd, uk, un, wt, wr, sn, sk, a1, a2, a3, a4, b5, b6, a7, a8, a9, a10, a11, a12, a13, a14, a15, a16, a17, a18, a19, a20, a21, a22, a23, a24, a25, a26)) {x3 x4 : Int32} {n m : Nat} :
    wX_keyAfter_31 post (nI k) (nI t) x3 x4 (nI m) (n + 1) (nI m) w hf gd uk un wt wr sn sk a1 a2 a3 a4 a5 a6 a7 a8 a9 a10 a11 a12 a13 a14 a15 a16 a17 a18 a19 a20 a21 a22 a23 a24 a25 a26 := by
  refine br_t (Int32.le_refl _) ?_
  refine mt_cell h e3 rfl (mt_t3p t 1 rfl) (fun b5 b6 h1 => ⟨1, ?_⟩)
  exact pk_le lv 1 (fun _ => H b5 b6 h1) (fun z => absurd z (by omega))
theorem mt_keyAfter0 {post : Int32 → St2 → Prop} {t : Nat} {p1 bound : Int32} (h : mt_TB ρ k C S dd T a1 a2 a3 a4 a5 a6 a7 a8 a9 a10 a11 a12 a13 a14) (ht : t < 2) (h1 : p1 = nI t) (e1 : mt_gc C 0 (3 * t) = some 0) (e3 : mt_gc C 0 (3 * t + 1) = some 0)
    (H : ∀ b5 b6 : Nat → Int32, mt_TB ρ k C S dd T a1 a2 a3 a4 b5 b6 a7 a8 a9 a10 a11 a12 a13 a14 → post (-2) (w, hf, gd, uk, un, wt, wr, sn, sk, a1, a2, a3, a4, b5, b6, a7, a8, a9, a10, a11, a12, a13, a14, a15, a16, a17, a18, a19, a20, a21, a22, a23, a24, a25, a26)) : wpX_keyAfter post (w, hf, gd, uk, un, wt, wr, sn, sk, a1, a2, a3, a4, a5, a6, a7, a8, a9, a10, a11, a12, a13, a14, a15, a16, a17, a18, a19, a20, a21, a22, a23, a24, a25, a26) (nI k) p1 bound := by
  subst h1
  unfold wpX_keyAfter
  refine mt_descend0 h ht rfl e1 e3 (by omega) (fun b5 b6 h1 => br_t rfl ⟨1, ?_⟩)
  exact mt_ka0 (n := 0) (m := 0) h1 ht e3 (by omega) H
theorem mt_keyAfter1 {post : Int32 → St2 → Prop} {t nd kv : Nat} {p1 bound : Int32} (h : mt_TB ρ k C S dd T a1 a2 a3 a4 a5 a6 a7 a8 a9 a10 a11 a12 a13 a14) (ht : t < 2) (h1 : p1 = nI t) (e1 : mt_gc C 0 (3 * t) = some nd) (hnd : nd ≠ 0) (e3 : mt_gc C 0 (3 * t + 1) = some 1) (e4 : mt_gc C nd 0 = some 1) (e5 : mt_gc C nd (1 + 0) = some kv)
    (H0 : nI kv ≤ bound → ∀ b5 b6 : Nat → Int32, mt_TB ρ k C S dd T a1 a2 a3 a4 b5 b6 a7 a8 a9 a10 a11 a12 a13 a14 → post (-2) (w, hf, gd, uk, un, wt, wr, sn, sk, a1, a2, a3, a4, b5, b6, a7, a8, a9, a10, a11, a12, a13, a14, a15, a16, a17, a18, a19, a20, a21, a22, a23, a24, a25, a26)) (H1 : ¬ nI kv ≤ bound → ∀ b5 b6 : Nat → Int32, mt_TB ρ k C S dd T a1 a2 a3 a4 b5 b6 a7 a8 a9 a10 a11 a12 a13 a14 → post (nI kv) (w, hf, gd, uk, un, wt, wr, sn, sk, a1, a2, a3, a4, b5, b6, a7, a8, a9, a10, a11, a12, a13, a14, a15, a16, a17, a18, a19, a20, a21, a22, a23, a24, a25, a26)) : wpX_keyAfter post (w, hf, gd, uk, un, wt, wr, sn, sk, a1, a2, a3, a4, a5, a6, a7, a8, a9, a10, a11, a12, a13, a14, a15, a16, a17, a18, a19, a20, a21, a22, a23, a24, a25, a26) (nI k) p1 bound := by
  subst h1
  have m1 := mt_gc_s e1
  unfold wpX_keyAfter
  refine mt_descend0 h ht rfl e1 e3 (by omega) (fun b5 b6 h1 => pk_eq nd 0 (fun z => absurd z hnd) (fun _ => ?_))
  refine mt_cell h1 e4 rfl rfl (fun c5 c6 h2 => ⟨2, ?_⟩)
  refine br_f (show ¬ nI 1 ≤ 0 by decide) ?_
  refine mt_keyOf h2 e5 rfl rfl (fun d5 d6 h3 => br_c (fun z => nm_r (e' := nI 1) (by decide) ?_) (fun z => H1 z d5 d6 h3))
  exact mt_ka0 (n := 0) (m := 1) h3 ht e3 (by omega) (H0 z)
end
end
section
section
variable {w hf gd uk un wt wr sn sk : Int32} {a1 a2 a3 a4 a5 a6 a7 a8 a9 a10 a11 a12 a13 a14 a15 a16 a17 a18 a19 a20 a21 a22 a23 a24 a25 a26 : Nat → Int32} {ρ : mt_R} {k T : Nat} {C S : List (List Nat)} {dd : Prop}
theorem mt_slA {s : Nat} (h : s < 2 ^ 31) : (2 : Int32) + (nI s >>> ((1 : Int32) &&& 31)) = nI (2 + s / 2) := by
  rw [pk_shrN h _ 1 (by decide)]
  exact mj_q (s / 2 ^ 1) 2 rfl
theorem mt_slB {s c : Nat} (h : s < 2 ^ 31) {x : Int32} (hx : x = nI c) : (4 : Int32) * (nI s &&& 1) + x = nI (4 * (s % 2) + c) := by
  rw [pk_andN (n := s) (by omega) (m := 1) 1 (by decide), show (4 : Int32) = nI 4 from rfl, pk_mul, hx, nI_add]
theorem mt_about {post : Int32 → St2 → Prop} {c v : Nat} {p1 : Int32} (h : mt_TB ρ k C S dd T a1 a2 a3 a4 a5 a6 a7 a8 a9 a10 a11 a12 a13 a14) (e : mt_gc C 1 c = some v) (h1 : p1 = nI c)
    (H : ∀ b5 b6 : Nat → Int32, mt_TB ρ k C S dd T a1 a2 a3 a4 b5 b6 a7 a8 a9 a10 a11 a12 a13 a14 → post (nI v) (w, hf, gd, uk, un, wt, wr, sn, sk, a1, a2, a3, a4, b5, b6, a7, a8, a9, a10, a11, a12, a13, a14, a15, a16, a17, a18, a19, a20, a21, a22, a23, a24, a25, a26)) : wpX_about post (w, hf, gd, uk, un, wt, wr, sn, sk, a1, a2, a3, a4, a5, a6, a7, a8, a9, a10, a11, a12, a13, a14, a15, a16, a17, a18, a19, a20, a21, a22, a23, a24, a25, a26) (nI k) p1 := by
  unfold wpX_about
  exact mt_cell h e rfl h1 H
theorem mt_entry {post : Int32 → St2 → Prop} {s c v : Nat} {p2 : Int32} (h : mt_TB ρ k C S dd T a1 a2 a3 a4 a5 a6 a7 a8 a9 a10 a11 a12 a13 a14) (hs : s < 14) (hc : c < 4) (ev : mt_gt C (2 + s / 2) (4 * (s % 2) + c) = v) (h2 : p2 = nI c)
    (H : ∀ b5 b6 : Nat → Int32, mt_TB ρ k C S dd T a1 a2 a3 a4 b5 b6 a7 a8 a9 a10 a11 a12 a13 a14 → post (mt_den ρ v) (w, hf, gd, uk, un, wt, wr, sn, sk, a1, a2, a3, a4, b5, b6, a7, a8, a9, a10, a11, a12, a13, a14, a15, a16, a17, a18, a19, a20, a21, a22, a23, a24, a25, a26)) : wpX_entry post (w, hf, gd, uk, un, wt, wr, sn, sk, a1, a2, a3, a4, a5, a6, a7, a8, a9, a10, a11, a12, a13, a14, a15, a16, a17, a18, a19, a20, a21, a22, a23, a24, a25, a26) (nI k) (nI s) p2 := by
  unfold wpX_entry
  exact mt_cellT h (by omega) (by omega) ev (mt_slA (by omega)) (mt_slB (by omega) h2) H
def mt_rec (C : List (List Nat)) (s c x : Nat) : List (List Nat) := mt_st C (2 + s / 2) (4 * (s % 2) + c) x
theorem mt_setRecord {post : St2 → Prop} {s c x : Nat} {p2 v : Int32} (h : mt_TB ρ k C S True T a1 a2 a3 a4 a5 a6 a7 a8 a9 a10 a11 a12 a13 a14) (hs : s < 14) (hc : c < 4) (h2 : p2 = nI c) (hv : v = mt_den ρ x)
    (H : ∀ b5 b6 b7 : Nat → Int32, mt_TB ρ k (mt_rec C s c x) S True T a1 a2 a3 a4 b5 b6 b7 a8 a9 a10 a11 a12 a13 a14 → post (w, hf, gd, uk, un, wt, wr, sn, sk, a1, a2, a3, a4, b5, b6, b7, a8, a9, a10, a11, a12, a13, a14, a15, a16, a17, a18, a19, a20, a21, a22, a23, a24, a25, a26)) : wpX_setRecord post (w, hf, gd, uk, un, wt, wr, sn, sk, a1, a2, a3, a4, a5, a6, a7, a8, a9, a10, a11, a12, a13, a14, a15, a16, a17, a18, a19, a20, a21, a22, a23, a24, a25, a26) (nI k) (nI s) p2 v := by
  unfold wpX_setRecord
  exact mt_set (b := 2 + s / 2) (c := 4 * (s % 2) + c) h (by omega) (by omega) (mt_slA (by omega)) (mt_slB (by omega) h2) hv H
theorem mt_newChange {post : Int32 → St2 → Prop} {c : Nat} (h : mt_TB ρ k C S True T a1 a2 a3 a4 a5 a6 a7 a8 a9 a10 a11 a12 a13 a14) (e : mt_gc C 1 3 = some c) (hc : c < 1000000)
    (H : ∀ b5 b6 b7 : Nat → Int32, mt_TB ρ k (mt_st C 1 3 (c + 1)) S True T a1 a2 a3 a4 b5 b6 b7 a8 a9 a10 a11 a12 a13 a14 → post (nI (c + 1)) (w, hf, gd, uk, un, wt, wr, sn, sk, a1, a2, a3, a4, b5, b6, b7, a8, a9, a10, a11, a12, a13, a14, a15, a16, a17, a18, a19, a20, a21, a22, a23, a24, a25, a26)) : wpX_newChange post (w, hf, gd, uk, un, wt, wr, sn, sk, a1, a2, a3, a4, a5, a6, a7, a8, a9, a10, a11, a12, a13, a14, a15, a16, a17, a18, a19, a20, a21, a22, a23, a24, a25, a26) (nI k) := by
  unfold wpX_newChange
  refine mt_about h e rfl (fun b5 b6 h1 => nm_r (nI_1 c) ?_)
  exact mt_setN (b := 1) (c := 3) (x := c + 1) h1 (by omega) (by omega) rfl rfl rfl (by omega) H
theorem mt_frL_le {m : Nat} : ∀ r i, mt_frL m r i ≤ i + r
  | 0, i => Nat.le_refl i
  | r + 1, i => by
    have := mt_frL_le (m := m) r (i + 1)
    show (if m / 2 ^ i % 2 = 1 then mt_frL m r (i + 1) else i) ≤ i + (r + 1)
    by_cases e : m / 2 ^ i % 2 = 1
    · rw [if_pos e]; omega
    · rw [if_neg e]; omega
theorem mt_fr9 {post : Int32 → St2 → Prop} {m : Nat} (hm : m < 16777216) : ∀ r i, i + r = 13 → post (nI (mt_frL m r i)) (w, hf, gd, uk, un, wt, wr, sn, sk, a1, a2, a3, a4, a5, a6, a7, a8, a9, a10, a11, a12, a13, a14, a15, a16, a17, a18, a19, a20, a21, a22, a23, a24, a25, a26) → wX_freeRecord_9 post (nI m) w hf gd uk un wt wr sn sk a1 a2 a3 a4 a5 a6 a7 a8 a9 a10 a11 a12 a13 a14 a15 a16 a17 a18 a19 a20 a21 a22 a23 a24 a25 a26 (r + 1) (nI i)
  | 0, i, hi, H => pk_le 13 i (fun _ => H) (fun z => absurd z (by omega))
  | r + 1, i, hi, H => by
    refine pk_le 13 i (fun z => absurd z (by omega)) (fun _ => ?_)
    rw [mt_bit (by omega) (by omega)]
    have hb : m / 2 ^ i % 2 < 2 := by omega
    refine pk_eq (m / 2 ^ i % 2) 1 (fun z => nm_r (nI_1 i) (mt_fr9 hm r (i + 1) (by omega) ?_)) (fun z => ?_)
    · have e : mt_frL m (r + 1) i = mt_frL m r (i + 1) := if_pos z
      rwa [e] at H
    · have e : mt_frL m (r + 1) i = i := if_neg z
      rwa [e] at H
theorem mt_freeRecord {post : Int32 → St2 → Prop} {m : Nat} (h : mt_TB ρ k C S dd T a1 a2 a3 a4 a5 a6 a7 a8 a9 a10 a11 a12 a13 a14) (e : mt_gc C 1 5 = some m)
    (H : ∀ b5 b6 : Nat → Int32, mt_TB ρ k C S dd T a1 a2 a3 a4 b5 b6 a7 a8 a9 a10 a11 a12 a13 a14 → post (nI (mt_frL m 13 0)) (w, hf, gd, uk, un, wt, wr, sn, sk, a1, a2, a3, a4, b5, b6, a7, a8, a9, a10, a11, a12, a13, a14, a15, a16, a17, a18, a19, a20, a21, a22, a23, a24, a25, a26)) : wpX_freeRecord post (w, hf, gd, uk, un, wt, wr, sn, sk, a1, a2, a3, a4, a5, a6, a7, a8, a9, a10, a11, a12, a13, a14, a15, a16, a17, a18, a19, a20, a21, a22, a23, a24, a25, a26) (nI k) := by
  have m1 := mt_gc_s e
  unfold wpX_freeRecord
  refine mt_about h e rfl (fun b5 b6 h1 => ⟨13 + 1, ?_⟩)
  exact mt_fr9 (by omega) 13 0 (by omega) (H b5 b6 h1)
def mt_put1 (sz fl num sl ch us : Nat) (C : List (List Nat)) : List (List Nat) :=
  mt_rec (mt_rec (mt_rec (mt_rec (mt_st (mt_st (mt_st C 1 3 (ch + 1)) 1 5 (us ||| 2 ^ sl)) 1 2 (num + 1)) sl 0 num) sl 1 sz) sl 2 fl) sl 3 (ch + 1)
def mt_put (sz fl : Nat) (C : List (List Nat)) : Option (Nat × List (List Nat)) :=
  (mt_gc C 1 2).bind fun num => (mt_gc C 1 5).bind fun us0 => (mt_gc C 1 3).bind fun ch => (mt_gc (mt_st C 1 3 (ch + 1)) 1 5).bind fun us =>
  if num < 1000000 ∧ ch < 1000000 ∧ (us ||| 2 ^ mt_frL us0 13 0) < 16777216 then (mt_setK 0 num (mt_frL us0 13 0) (mt_put1 sz fl num (mt_frL us0 13 0) ch us C)).bind fun C1 => (mt_setK 1 (ch + 1) (mt_frL us0 13 0) C1).bind fun C2 => some (num, C2) else none
set_option maxHeartbeats 4000000 in
theorem mt_putMessage {post : Int32 → St2 → Prop} {sz fl num : Nat} {C' : List (List Nat)} {p1 p2 : Int32} (h : mt_TB ρ k C S True T a1 a2 a3 a4 a5 a6 a7 a8 a9 a10 a11 a12 a13 a14) (h1 : p1 = mt_den ρ sz) (h2 : p2 = mt_den ρ fl) (e : mt_put sz fl C = some (num, C'))
    (H : ∀ (uk un : Int32) (b5 b6 b7 b19 b20 b21 b22 : Nat → Int32), mt_TB ρ k C' S True T a1 a2 a3 a4 b5 b6 b7 a8 a9 a10 a11 a12 a13 a14 → post (nI num) (w, hf, gd, uk, un, wt, wr, sn, sk, a1, a2, a3, a4, b5, b6, b7, a8, a9, a10, a11, a12, a13, a14, a15, a16, a17, a18, b19, b20, b21, b22, a23, a24, a25, a26)) : wpX_putMessage post (w, hf, gd, uk, un, wt, wr, sn, sk, a1, a2, a3, a4, a5, a6, a7, a8, a9, a10, a11, a12, a13, a14, a15, a16, a17, a18, a19, a20, a21, a22, a23, a24, a25, a26) (nI k) p1 p2 := by
  replace e := mt_ob e
  obtain ⟨n0, e1, e⟩ := e
  replace e := mt_ob e
  obtain ⟨us0, e2, e⟩ := e
  replace e := mt_ob e
  obtain ⟨ch, e3, e⟩ := e
  replace e := mt_ob e
  obtain ⟨us, e4, e⟩ := e
  replace e := mt_og e
  obtain ⟨⟨hn, hch, hus⟩, e⟩ := e
  replace e := mt_ob e
  obtain ⟨C1, e5, e⟩ := e
  replace e := mt_ob e
  obtain ⟨C2, e6, e⟩ := e
  have e' := Option.some.inj e
  injection e' with x1 x2
  subst x1 x2
  have hsl := mt_frL_le (m := us0) 13 0
  obtain ⟨sl, hs⟩ : ∃ sl, sl = mt_frL us0 13 0 := ⟨_, rfl⟩
  rw [← hs] at hsl hus e5 e6
  unfold wpX_putMessage
  refine mt_about h e1 rfl (fun b5 b6 g1 => ?_)
  refine mt_freeRecord g1 e2 (fun c5 c6 g2 => ?_)
  rw [← hs]
  refine mt_newChange g2 e3 hch (fun d5 d6 d7 g3 => ?_)
  refine mt_about g3 e4 rfl (fun f5 f6 g4 => ?_)
  refine mt_setN (b := 1) (c := 5) (x := us ||| 2 ^ sl) g4 (by omega) (by omega) rfl rfl (by rw [mt_one (by omega), mt_or]) hus (fun i5 i6 i7 g5 => ?_)
  refine mt_setN (b := 1) (c := 2) (x := n0 + 1) g5 (by omega) (by omega) rfl rfl (nI_1 n0) (by omega) (fun j5 j6 j7 g6 => ?_)
  refine mt_setRecord (c := 0) (x := n0) g6 (by omega) (by omega) rfl (mt_den_c (by omega)).symm (fun l5 l6 l7 g7 => ?_)
  refine mt_setRecord (c := 1) (x := sz) g7 (by omega) (by omega) rfl h1 (fun p5 p6 p7 g8 => ?_)
  refine mt_setRecord (c := 2) (x := fl) g8 (by omega) (by omega) rfl h2 (fun q5 q6 q7 g9 => ?_)
  refine mt_setRecord (c := 3) (x := ch + 1) g9 (by omega) (by omega) rfl (mt_den_c (by omega)).symm (fun r5 r6 r7 g10 => ?_)
  refine mt_setKey (t := 0) g10 (by omega) rfl (by omega) e5 (fun uk1 un1 s5 s6 s7 s19 s20 s21 s22 g11 => ?_)
  exact mt_setKey (t := 1) g11 (by omega) rfl (by omega) e6 (fun uk2 un2 t5 t6 t7 t19 t20 t21 t22 g12 => H uk2 un2 t5 t6 t7 t19 t20 t21 t22 g12)
def mt_chF (S : List (List Nat)) (s fl : Nat) (C : List (List Nat)) : Option (List (List Nat)) :=
  (mt_gc C (2 + s / 2) (4 * (s % 2) + 3)).bind fun old => (mt_gc C 1 3).bind fun ch => if s < 14 ∧ ch < 1000000 then (mt_dropK S 1 old (mt_st C 1 3 (ch + 1))).bind fun C1 => (mt_setK 1 (ch + 1) s C1).bind fun C2 => some (mt_rec (mt_rec C2 s 2 fl) s 3 (ch + 1)) else none
theorem mt_changeFlags {post : St2 → Prop} {s fl : Nat} {C' : List (List Nat)} {p2 : Int32} (h : mt_TB ρ k C S True T a1 a2 a3 a4 a5 a6 a7 a8 a9 a10 a11 a12 a13 a14) (h2 : p2 = mt_den ρ fl) (e : mt_chF S s fl C = some C')
    (H : ∀ (uk un : Int32) (b5 b6 b7 b19 b20 b21 b22 : Nat → Int32), mt_TB ρ k C' S True T a1 a2 a3 a4 b5 b6 b7 a8 a9 a10 a11 a12 a13 a14 → post (w, hf, gd, uk, un, wt, wr, sn, sk, a1, a2, a3, a4, b5, b6, b7, a8, a9, a10, a11, a12, a13, a14, a15, a16, a17, a18, b19, b20, b21, b22, a23, a24, a25, a26)) : wpX_changeFlags post (w, hf, gd, uk, un, wt, wr, sn, sk, a1, a2, a3, a4, a5, a6, a7, a8, a9, a10, a11, a12, a13, a14, a15, a16, a17, a18, a19, a20, a21, a22, a23, a24, a25, a26) (nI k) (nI s) p2 := by
  replace e := mt_ob e
  obtain ⟨old, e1, e⟩ := e
  replace e := mt_ob e
  obtain ⟨ch, e2, e⟩ := e
  replace e := mt_og e
  obtain ⟨⟨hs, hch⟩, e⟩ := e
  replace e := mt_ob e
  obtain ⟨C1, e3, e⟩ := e
  replace e := mt_ob e
  obtain ⟨C2, e4, e⟩ := e
  have e' := Option.some.inj e
  subst e'
  have m1 := mt_gc_s e1
  unfold wpX_changeFlags
  refine mt_entry (c := 3) h hs (by omega) m1.2.2.2 rfl (fun b5 b6 g1 => ?_)
  rw [mt_den_c m1.2.2.1]
  refine mt_newChange g1 e2 hch (fun c5 c6 c7 g2 => ?_)
  refine mt_dropKey (t := 1) g2 (by omega) rfl (by omega) e3 (fun d5 d6 d7 d19 d20 g3 => ?_)
  refine mt_setKey (t := 1) g3 (by omega) rfl (by omega) e4 (fun uk1 un1 s5 s6 s7 s19 s20 s21 s22 g4 => ?_)
  refine mt_setRecord (c := 2) (x := fl) g4 hs (by omega) rfl h2 (fun l5 l6 l7 g5 => ?_)
  exact mt_setRecord (c := 3) (x := ch + 1) g5 hs (by omega) rfl (mt_den_c (by omega)).symm (fun p5 p6 p7 g6 => H uk1 un1 p5 p6 p7 s19 s20 s21 s22 g6)
def mt_takeO (S : List (List Nat)) (key : Nat) (C : List (List Nat)) : Option (List (List Nat)) :=
  (mt_val 0 key C).bind fun o => (mt_gc C 2 3).bind fun old => (mt_gc C 1 5).bind fun us => if o = some 0 ∧ us = 1 ∧ key < 16777216 then (mt_dropK S 0 key C).bind fun C1 => (mt_dropK S 1 old C1).bind fun C2 => (mt_gc (mt_st C2 1 5 0) 1 3).bind fun ch => if ch < 1000000 then some (mt_st (mt_st C2 1 5 0) 1 3 (ch + 1)) else none else none
theorem mt_takeOut {post : St2 → Prop} {key : Nat} {C' : List (List Nat)} (h : mt_TB ρ k C S True T a1 a2 a3 a4 a5 a6 a7 a8 a9 a10 a11 a12 a13 a14) (e : mt_takeO S key C = some C')
    (H : ∀ b5 b6 b7 b19 b20 : Nat → Int32, mt_TB ρ k C' S True T a1 a2 a3 a4 b5 b6 b7 a8 a9 a10 a11 a12 a13 a14 → post (w, hf, gd, uk, un, wt, wr, sn, sk, a1, a2, a3, a4, b5, b6, b7, a8, a9, a10, a11, a12, a13, a14, a15, a16, a17, a18, b19, b20, a21, a22, a23, a24, a25, a26)) : wpX_takeOut post (w, hf, gd, uk, un, wt, wr, sn, sk, a1, a2, a3, a4, a5, a6, a7, a8, a9, a10, a11, a12, a13, a14, a15, a16, a17, a18, a19, a20, a21, a22, a23, a24, a25, a26) (nI k) (nI key) := by
  replace e := mt_ob e
  obtain ⟨o, e1, e⟩ := e
  replace e := mt_ob e
  obtain ⟨old, e2, e⟩ := e
  replace e := mt_ob e
  obtain ⟨us, e3, e⟩ := e
  replace e := mt_og e
  obtain ⟨⟨ho, hus, hkey⟩, e⟩ := e
  replace e := mt_ob e
  obtain ⟨C1, e4, e⟩ := e
  replace e := mt_ob e
  obtain ⟨C2, e5, e⟩ := e
  replace e := mt_ob e
  obtain ⟨ch, e6, e⟩ := e
  replace e := mt_og e
  obtain ⟨hch, e⟩ := e
  have e' := Option.some.inj e
  subst ho hus e'
  have m2 := mt_gc_s e2
  unfold wpX_takeOut
  refine mt_recordOf h hkey e1 (fun b5 b6 b19 b20 g1 => ?_)
  refine mt_entry (s := 0) (c := 3) g1 (by omega) (by omega) m2.2.2.2 rfl (fun c5 c6 g2 => ?_)
  rw [mt_den_c m2.2.2.1]
  refine mt_about g2 e3 rfl (fun d5 d6 g3 => ?_)
  refine mt_dropKey (t := 0) g3 (by omega) rfl hkey e4 (fun f5 f6 f7 f19 f20 g4 => ?_)
  refine mt_dropKey (t := 1) g4 (by omega) rfl (by omega) e5 (fun i5 i6 i7 i19 i20 g5 => ?_)
  refine mt_setN (b := 1) (c := 5) (x := 0) g5 (by omega) (by omega) rfl rfl (by decide) (by omega) (fun j5 j6 j7 g6 => ?_)
  exact mt_newChange g6 e6 hch (fun l5 l6 l7 g7 => H l5 l6 l7 i19 i20 g7)
end
end
section
theorem mj_AB_d {F Cu : Nat → Nat → Nat → Int32} {d d' : Nat → Prop} {T : Nat} {a1 a2 a3 a4 a5 a6 a7 a8 a9 a10 a11 a12 a13 a14 : Nat → Int32} (h : mj_AB F Cu d T a1 a2 a3 a4 a5 a6 a7 a8 a9 a10 a11 a12 a13 a14) (hd : ∀ j, d j → d' j) : mj_AB F Cu d' T a1 a2 a3 a4 a5 a6 a7 a8 a9 a10 a11 a12 a13 a14 := by
  refine ⟨h.1, fun j b hj hb => ?_⟩
  rcases h.2 j b hj hb with x | ⟨x1, x2, x3 | ⟨x3, x4⟩⟩
  · exact Or.inl x
  · exact Or.inr ⟨x1, x2, Or.inl x3⟩
  · exact Or.inr ⟨x1, x2, Or.inr ⟨x3, hd j x4⟩⟩
theorem mj_AB_T {F Cu : Nat → Nat → Nat → Int32} {d : Nat → Prop} {T T' : Nat} {a1 a2 a3 a4 a5 a6 a7 a8 a9 a10 a11 a12 a13 a14 : Nat → Int32} (h : mj_AB F Cu d T a1 a2 a3 a4 a5 a6 a7 a8 a9 a10 a11 a12 a13 a14) (hT : T ≤ T') : mj_AB F Cu d T' a1 a2 a3 a4 a5 a6 a7 a8 a9 a10 a11 a12 a13 a14 :=
  ⟨fun j hj => mj_JR_mono hT (h.1 j hj), h.2⟩
section
variable {w hf gd uk un wt wr sn sk : Int32} {a1 a2 a3 a4 a5 a6 a7 a8 a9 a10 a11 a12 a13 a14 a15 a16 a17 a18 a19 a20 a21 a22 a23 a24 a25 a26 : Nat → Int32} {ρ : mt_R} {k T : Nat} {C S : List (List Nat)} {dd : Prop}
theorem mt_T {T' : Nat} (h : mt_TB ρ k C S dd T a1 a2 a3 a4 a5 a6 a7 a8 a9 a10 a11 a12 a13 a14) (hT : T ≤ T') : mt_TB ρ k C S dd T' a1 a2 a3 a4 a5 a6 a7 a8 a9 a10 a11 a12 a13 a14 := ⟨h.1, h.2.1, h.2.2.1, mj_AB_T h.2.2.2 hT⟩
theorem mt_save {post : St2 → Prop} (h : mt_TB ρ k C S dd T a1 a2 a3 a4 a5 a6 a7 a8 a9 a10 a11 a12 a13 a14) (hT : T < 2 ^ 28)
    (H : ∀ (w hf gd : Int32) (b1 b2 b3 b4 b7 b8 b9 b10 b11 b12 b13 b14 a18 : Nat → Int32), mt_TB ρ k C C False (T + 2) b1 b2 b3 b4 a5 a6 b7 b8 b9 b10 b11 b12 b13 b14 → post (w, hf, gd, uk, un, wt, wr, sn, sk, b1, b2, b3, b4, a5, a6, b7, b8, b9, b10, b11, b12, b13, b14, a15, a16, a17, a18, a19, a20, a21, a22, a23, a24, a25, a26)) : wpX_save post (w, hf, gd, uk, un, wt, wr, sn, sk, a1, a2, a3, a4, a5, a6, a7, a8, a9, a10, a11, a12, a13, a14, a15, a16, a17, a18, a19, a20, a21, a22, a23, a24, a25, a26) (nI k) := by
  obtain ⟨hk, hC, hS, hA⟩ := h
  refine mj_save hA hT hk (fun w' hf' gd' b1 b2 b3 b4 b7 b8 b9 b10 b11 b12 b13 b14 b18 h' => H w' hf' gd' b1 b2 b3 b4 b7 b8 b9 b10 b11 b12 b13 b14 b18 ⟨hk, hC, hC, ?_⟩)
  have ef : mj_uF (mt_fn ρ k S) k (mt_fn ρ k C k) = mt_fn ρ k C := by
    funext i b c
    by_cases e : i = k
    · subst e; rw [mj_uFs]
    · rw [mj_uFn e, mt_fn_o e, mt_fn_o e]
  rw [ef] at h'
  exact mj_AB_d h' (fun j hj => absurd hj.2.1 hj.1)
theorem mt_crash {post : Int32 → St2 → Prop} (h : mt_TB ρ k C S dd T a1 a2 a3 a4 a5 a6 a7 a8 a9 a10 a11 a12 a13 a14) (hT : T < 2 ^ 28)
    (H : ∀ (r w hf : Int32) (b1 b4 b6 b7 b8 b9 b10 b11 b12 b13 b14 b15 : Nat → Int32), mt_TB ρ k S S False (T + 1) b1 a2 a3 b4 a5 b6 b7 b8 b9 b10 b11 b12 b13 b14 → (∀ i, i < 3 → b15 i = 0) → ((∀ i, i < 3 → a15 i = 0) → r = 0) →
      post r (w, hf, gd, uk, un, wt, wr, sn, sk, b1, a2, a3, b4, a5, b6, b7, b8, b9, b10, b11, b12, b13, b14, b15, a16, a17, a18, a19, a20, a21, a22, a23, a24, a25, a26)) : wpX_crash post (w, hf, gd, uk, un, wt, wr, sn, sk, a1, a2, a3, a4, a5, a6, a7, a8, a9, a10, a11, a12, a13, a14, a15, a16, a17, a18, a19, a20, a21, a22, a23, a24, a25, a26) := by
  obtain ⟨hk, hC, hS, hA⟩ := h
  exact mj_crash (fun i hi => mj_RK_of (by omega) (hA.1 i hi)) hT (fun r w' hf' b1 b4 b6 b7 b8 b9 b10 b11 b12 b13 b14 b15 h' h15 hr => H r w' hf' b1 b4 b6 b7 b8 b9 b10 b11 b12 b13 b14 b15 ⟨hk, hS, hS, mj_AB_d h' (fun j hj => hj.elim)⟩ h15 hr)
theorem mt_someCrash {post : St2 → Prop} {steps : Int32} (h : mt_TB ρ k C S dd T a1 a2 a3 a4 a5 a6 a7 a8 a9 a10 a11 a12 a13 a14) (hT : T < 2 ^ 28 - 1)
    (H : ∀ (w hf gd : Int32) (b1 b2 b3 b4 b6 b7 b8 b9 b10 b11 b12 b13 b14 b15 a18 : Nat → Int32), mt_TB ρ k S S False (T + 2) b1 b2 b3 b4 a5 b6 b7 b8 b9 b10 b11 b12 b13 b14 → (∀ i, i < 3 → b15 i = 0) →
      post (w, hf, gd, uk, un, wt, wr, sn, sk, b1, b2, b3, b4, a5, b6, b7, b8, b9, b10, b11, b12, b13, b14, b15, a16, a17, a18, a19, a20, a21, a22, a23, a24, a25, a26)) : wpX_saveSome (fun u => wpX_crash (fun _ u' => post u') u) (w, hf, gd, uk, un, wt, wr, sn, sk, a1, a2, a3, a4, a5, a6, a7, a8, a9, a10, a11, a12, a13, a14, a15, a16, a17, a18, a19, a20, a21, a22, a23, a24, a25, a26) (nI k) steps := by
  obtain ⟨hk, hC, hS, hA⟩ := h
  refine mj_saveSome hA (by omega) hk (fun w' hf' gd' b1 b2 b3 b4 b8 b9 b10 b11 b12 b14 b18 h' => ?_)
  exact mj_crash h' (by omega) (fun r w2 hf2 c1 c4 c6 c7 c8 c9 c10 c11 c12 c13 c14 c15 h2 h15 hr => H w2 hf2 gd' c1 b2 b3 c4 c6 c7 c8 c9 c10 c11 c12 c13 c14 c15 b18 ⟨hk, hS, hS, mj_AB_d h2 (fun j hj => hj.elim)⟩ h15)
theorem mt_idle {post : St2 → Prop} {p0 p1 : Int32} (h : mt_TB ρ k C S dd T a1 a2 a3 a4 a5 a6 a7 a8 a9 a10 a11 a12 a13 a14) (hT : T < 2 ^ 28)
    (H : ∀ (w hf : Int32) (b1 b4 b6 b8 b9 b10 b11 b12 b14 : Nat → Int32), mt_TB ρ k C S dd (T + 1) b1 a2 a3 b4 a5 b6 a7 b8 b9 b10 b11 b12 a13 b14 → post (w, hf, gd, uk, un, wt, wr, sn, sk, b1, a2, a3, b4, a5, b6, a7, b8, b9, b10, b11, b12, a13, b14, a15, a16, a17, a18, a19, a20, a21, a22, a23, a24, a25, a26)) : wpX_idle post (w, hf, gd, uk, un, wt, wr, sn, sk, a1, a2, a3, a4, a5, a6, a7, a8, a9, a10, a11, a12, a13, a14, a15, a16, a17, a18, a19, a20, a21, a22, a23, a24, a25, a26) p0 p1 := by
  obtain ⟨hk, hC, hS, hA⟩ := h
  exact mj_idle hA hT (fun w' hf' b1 b4 b6 b8 b9 b10 b11 b12 b14 h' => H w' hf' b1 b4 b6 b8 b9 b10 b11 b12 b14 ⟨hk, hC, hS, h'⟩)
/-! what a box says of itself -/
theorem mt_isThere {post : Int32 → St2 → Prop} {v : Nat} (h : mt_TB ρ k C S dd T a1 a2 a3 a4 a5 a6 a7 a8 a9 a10 a11 a12 a13 a14) (e : mt_gc C 1 0 = some v)
    (H1 : v = 1 → ∀ b5 b6 : Nat → Int32, mt_TB ρ k C S dd T a1 a2 a3 a4 b5 b6 a7 a8 a9 a10 a11 a12 a13 a14 → post 1 (w, hf, gd, uk, un, wt, wr, sn, sk, a1, a2, a3, a4, b5, b6, a7, a8, a9, a10, a11, a12, a13, a14, a15, a16, a17, a18, a19, a20, a21, a22, a23, a24, a25, a26)) (H0 : v ≠ 1 → ∀ b5 b6 : Nat → Int32, mt_TB ρ k C S dd T a1 a2 a3 a4 b5 b6 a7 a8 a9 a10 a11 a12 a13 a14 → post 0 (w, hf, gd, uk, un, wt, wr, sn, sk, a1, a2, a3, a4, b5, b6, a7, a8, a9, a10, a11, a12, a13, a14, a15, a16, a17, a18, a19, a20, a21, a22, a23, a24, a25, a26)) : wpX_isThere post (w, hf, gd, uk, un, wt, wr, sn, sk, a1, a2, a3, a4, a5, a6, a7, a8, a9, a10, a11, a12, a13, a14, a15, a16, a17, a18, a19, a20, a21, a22, a23, a24, a25, a26) (nI k) := by
  have m := mt_gc_s e
  unfold wpX_isThere
  exact mt_about h e rfl (fun b5 b6 h1 => pk_eq v 1 (fun z => H1 z b5 b6 h1) (fun z => H0 z b5 b6 h1))
theorem mt_messages {post : Int32 → St2 → Prop} {v : Nat} (h : mt_TB ρ k C S dd T a1 a2 a3 a4 a5 a6 a7 a8 a9 a10 a11 a12 a13 a14) (e : mt_gc C 0 2 = some v)
    (H : ∀ b5 b6 : Nat → Int32, mt_TB ρ k C S dd T a1 a2 a3 a4 b5 b6 a7 a8 a9 a10 a11 a12 a13 a14 → post (nI v) (w, hf, gd, uk, un, wt, wr, sn, sk, a1, a2, a3, a4, b5, b6, a7, a8, a9, a10, a11, a12, a13, a14, a15, a16, a17, a18, a19, a20, a21, a22, a23, a24, a25, a26)) : wpX_messages post (w, hf, gd, uk, un, wt, wr, sn, sk, a1, a2, a3, a4, a5, a6, a7, a8, a9, a10, a11, a12, a13, a14, a15, a16, a17, a18, a19, a20, a21, a22, a23, a24, a25, a26) (nI k) := by
  unfold wpX_messages
  exact mt_cell h e rfl rfl H
theorem mt_box {post : Int32 → Prop} {u : St0} (hk : k < 4) (H : post 1) : wpX_isBox post u (nI k) :=
  mj_isBox (fun z => absurd rfl (z k hk)) (fun _ _ _ => H)
theorem mt_nbox {post : Int32 → Prop} {u : St0} {p0 : Int32} (hn : ∀ j, j < 4 → ¬ p0 = nI j) (H : post 0) : wpX_isBox post u p0 :=
  mj_isBox (fun _ => H) (fun j hj e => absurd e (hn j hj))
theorem mt_trouble {post : Int32 → St2 → Prop} {v : Nat} (h : mt_TB ρ k C S dd T a1 a2 a3 a4 a5 a6 a7 a8 a9 a10 a11 a12 a13 a14) (e : mt_gc C 1 0 = some v)
    (H1 : v = 1 → ∀ b5 b6 : Nat → Int32, mt_TB ρ k C S dd T a1 a2 a3 a4 b5 b6 a7 a8 a9 a10 a11 a12 a13 a14 → post 0 (w, hf, gd, uk, un, wt, wr, sn, sk, a1, a2, a3, a4, b5, b6, a7, a8, a9, a10, a11, a12, a13, a14, a15, a16, a17, a18, a19, a20, a21, a22, a23, a24, a25, a26)) (H0 : v ≠ 1 → ∀ b5 b6 : Nat → Int32, mt_TB ρ k C S dd T a1 a2 a3 a4 b5 b6 a7 a8 a9 a10 a11 a12 a13 a14 → post (-2) (w, hf, gd, uk, un, wt, wr, sn, sk, a1, a2, a3, a4, b5, b6, a7, a8, a9, a10, a11, a12, a13, a14, a15, a16, a17, a18, a19, a20, a21, a22, a23, a24, a25, a26)) : wpX_trouble post (w, hf, gd, uk, un, wt, wr, sn, sk, a1, a2, a3, a4, a5, a6, a7, a8, a9, a10, a11, a12, a13, a14, a15, a16, a17, a18, a19, a20, a21, a22, a23, a24, a25, a26) (nI k) := by
  unfold wpX_trouble
  refine mt_box h.1 (br_f (by decide) ?_)
  exact mt_isThere h e (fun z b5 b6 h1 => br_f (by decide) (H1 z b5 b6 h1)) (fun z b5 b6 h1 => br_t rfl (H0 z b5 b6 h1))
theorem mt_ntrouble {post : Int32 → St2 → Prop} {p0 : Int32} (hn : ∀ j, j < 4 → ¬ p0 = nI j) (H : post (-1) (w, hf, gd, uk, un, wt, wr, sn, sk, a1, a2, a3, a4, a5, a6, a7, a8, a9, a10, a11, a12, a13, a14, a15, a16, a17, a18, a19, a20, a21, a22, a23, a24, a25, a26)) : wpX_trouble post (w, hf, gd, uk, un, wt, wr, sn, sk, a1, a2, a3, a4, a5, a6, a7, a8, a9, a10, a11, a12, a13, a14, a15, a16, a17, a18, a19, a20, a21, a22, a23, a24, a25, a26) p0 := by
  unfold wpX_trouble
  exact mt_nbox hn (br_t rfl H)
theorem mt_isMessage {post : Int32 → Prop} {u : St0} {p0 p1 : Int32} (H1 : ∀ sz fl : Nat, 1 ≤ sz → sz ≤ 1000 → fl ≤ 31 → p0 = nI sz → p1 = nI fl → post 1) (H0 : (∀ sz fl : Nat, 1 ≤ sz → sz ≤ 1000 → fl ≤ 31 → p0 = nI sz → p1 = nI fl → False) → post 0) : wpX_isMessage post u p0 p1 := by
  unfold wpX_isMessage
  refine br_c (fun z => H0 (fun sz fl h1 h2 h3 e1 e2 => ?_)) (fun z => br_c (fun z1 => H0 (fun sz fl h1 h2 h3 e1 e2 => ?_)) (fun z1 => br_c (fun z2 => H0 (fun sz fl h1 h2 h3 e1 e2 => ?_)) (fun z2 => br_c (fun z3 => H0 (fun sz fl h1 h2 h3 e1 e2 => ?_)) (fun z3 => ?_))))
  · rw [e1] at z; exact nI_nlt (b := 1) h1 (by omega) z
  · rw [e1] at z1; exact nI_nlt (a := 1000) h2 (by omega) z1
  · rw [e2] at z2; exact nI_pos (by omega) z2
  · rw [e2] at z3; exact nI_nlt (a := 31) h3 (by omega) z3
  · obtain ⟨sz, hs, e1⟩ := nI_of2 (n := 1000) (M := 1000) (by decide) (fun y => z (Int32.lt_trans y (by decide))) (Int32.not_lt.mp z1)
    obtain ⟨fl, hf, e2⟩ := nI_of2 (n := 31) (M := 31) (by decide) z2 (Int32.not_lt.mp z3)
    refine H1 sz fl ?_ hs hf e1 e2
    rcases Nat.eq_zero_or_pos sz with y | y
    · rw [e1, y] at z; exact absurd (by decide) z
    · exact y
end
end
section
/-! nothing is there yet -/
def ml_bx (k : Nat) (x5 x9 x11 : Int32) : Prop := (x9 = 0 ∧ (∀ j, j < 4 → ¬ x5 = nI j) ∧ x11 = -1) ∨ (x9 = 1 ∧ x5 = nI k ∧ x11 = -2)
def ml_se (s : Nat) (x6 x10 x12 : Int32) : Prop := (x10 = 0 ∧ (∀ j, j < 3 → ¬ x6 = nI j) ∧ x12 = -1) ∨ (x10 = 1 ∧ x6 = nI s ∧ x12 = -2)
def mt_ZL : List (List Nat) := List.replicate 41 (List.replicate 8 0)
theorem mt_shpZ : mt_shp mt_ZL := by
  refine ⟨by decide, fun b hb => ?_⟩
  have h : ∀ b, b < 41 → (mt_ZL.getD b []).length = 8 := by decide +kernel
  exact h b hb
theorem mt_gtZ (b c : Nat) : mt_gt mt_ZL b c = 0 := by
  unfold mt_gt mt_ZL
  rw [List.getD_eq_getElem?_getD, List.getD_eq_getElem?_getD, List.getElem?_replicate]
  by_cases e : b < 41
  · rw [if_pos e, Option.getD_some, List.getElem?_replicate]
    by_cases e2 : c < 8
    · rw [if_pos e2]; rfl
    · rw [if_neg e2]; rfl
  · rw [if_neg e]; rfl
theorem mt_gcZ {b c : Nat} (hb : b < 41) (hc : c < 8) : mt_gc mt_ZL b c = some 0 := by
  unfold mt_gc
  rw [mt_gtZ, if_pos ⟨hb, hc, by decide⟩]
theorem mt_TBZ {ρ : mt_R} {k T : Nat} {a1 a2 a3 a4 a5 a6 a7 a8 a9 a10 a11 a12 a13 a14 : Nat → Int32} (hk : k < 4) (hz : ∀ j b c, ρ.2 j b c = 0) (h : mj_AB mj_Z mj_Z (fun _ => False) T a1 a2 a3 a4 a5 a6 a7 a8 a9 a10 a11 a12 a13 a14) : mt_TB ρ k mt_ZL mt_ZL False T a1 a2 a3 a4 a5 a6 a7 a8 a9 a10 a11 a12 a13 a14 := by
  have e : mt_fn ρ k mt_ZL = mj_Z := by
    funext j b c
    unfold mt_fn mj_Z
    rw [mt_gtZ]
    by_cases e : j = k
    · rw [if_pos e]; rfl
    · rw [if_neg e]; exact hz j b c
  refine ⟨hk, mt_shpZ, mt_shpZ, ?_⟩
  rw [e]
  exact mj_AB_d h (fun _ hj => hj.elim)
theorem ml_sess {post : Int32 → Prop} {u : St0} {s : Nat} {x6 x10 x12 : Int32} (hs : ml_se s x6 x10 x12) (h3 : s < 3) (H0 : x10 = 0 → x12 = -1 → post 0) (H1 : x10 = 1 → x6 = nI s → x12 = -2 → post 1) : wpX_isSession post u x6 := by
  unfold wpX_isSession
  rcases hs with ⟨e, hn, e2⟩ | ⟨e, e1, e2⟩
  · refine br_c (fun _ => H0 e e2) (fun z => br_c (fun _ => H0 e e2) (fun z1 => ?_))
    rcases pk_ix x6 (n := 3) (by decide) with h | h | ⟨j, hj, ej⟩
    · exact absurd h z
    · exact absurd h z1
    · exact absurd ej (hn j hj)
  · rw [e1]
    exact br_f (nI_pos (by omega)) (br_f (nI_ge (b := 3) h3 (by omega)) (H1 e e1 e2))
theorem ml_isBox {post : Int32 → Prop} {u : St0} {k : Nat} {x5 x9 x11 : Int32} (hb : ml_bx k x5 x9 x11) (hk : k < 4) (H0 : x9 = 0 → x11 = -1 → post 0) (H1 : x9 = 1 → x5 = nI k → x11 = -2 → post 1) : wpX_isBox post u x5 := by
  rcases hb with ⟨e, hn, e2⟩ | ⟨e, e1, e2⟩
  · exact mt_nbox hn (H0 e e2)
  · rw [e1]; exact mt_box hk (H1 e e1 e2)
section
variable {w hf gd uk un wt wr sn sk : Int32} {a1 a2 a3 a4 a5 a6 a7 a8 a9 a10 a11 a12 a13 a14 a15 a16 a17 a18 a19 a20 a21 a22 a23 a24 a25 a26 : Nat → Int32} {ρ : mt_R} {k T s : Nat} {dd : Prop} {x0 x1 x2 x3 x5 x6 x7 x8 x9 x10 x11 x12 x13 : Int32}
theorem ml0_there {post : Int32 → St2 → Prop} (h : mt_TB ρ k mt_ZL mt_ZL False T a1 a2 a3 a4 a5 a6 a7 a8 a9 a10 a11 a12 a13 a14) (H : ∀ b5 b6 : Nat → Int32, mt_TB ρ k mt_ZL mt_ZL False T a1 a2 a3 a4 b5 b6 a7 a8 a9 a10 a11 a12 a13 a14 → post 0 (w, hf, gd, uk, un, wt, wr, sn, sk, a1, a2, a3, a4, b5, b6, a7, a8, a9, a10, a11, a12, a13, a14, a15, a16, a17, a18, a19, a20, a21, a22, a23, a24, a25, a26)) : wpX_isThere post (w, hf, gd, uk, un, wt, wr, sn, sk, a1, a2, a3, a4, a5, a6, a7, a8, a9, a10, a11, a12, a13, a14, a15, a16, a17, a18, a19, a20, a21, a22, a23, a24, a25, a26) (nI k) :=
  mt_isThere h (mt_gcZ (by omega) (by omega)) (fun z => absurd z (by decide)) (fun _ => H)
theorem ml0_trouble {post : Int32 → St2 → Prop} (h : mt_TB ρ k mt_ZL mt_ZL False T a1 a2 a3 a4 a5 a6 a7 a8 a9 a10 a11 a12 a13 a14) (hb : ml_bx k x5 x9 x11) (H : ∀ b5 b6 : Nat → Int32, mt_TB ρ k mt_ZL mt_ZL False T a1 a2 a3 a4 b5 b6 a7 a8 a9 a10 a11 a12 a13 a14 → post x11 (w, hf, gd, uk, un, wt, wr, sn, sk, a1, a2, a3, a4, b5, b6, a7, a8, a9, a10, a11, a12, a13, a14, a15, a16, a17, a18, a19, a20, a21, a22, a23, a24, a25, a26)) (hx : ¬ (0 : Int32) ≤ x11 → True) : wpX_trouble post (w, hf, gd, uk, un, wt, wr, sn, sk, a1, a2, a3, a4, a5, a6, a7, a8, a9, a10, a11, a12, a13, a14, a15, a16, a17, a18, a19, a20, a21, a22, a23, a24, a25, a26) x5 := by
  rcases hb with ⟨e, hn, e2⟩ | ⟨e, e1, e2⟩
  · exact mt_ntrouble hn (by have := H a5 a6 h; rw [e2] at this; exact this)
  · rw [e1]
    exact mt_trouble h (mt_gcZ (by omega) (by omega)) (fun z => absurd z (by decide)) (fun _ b5 b6 h1 => by have := H b5 b6 h1; rw [e2] at this; exact this)
theorem ml_bxn (hb : ml_bx k x5 x9 x11) : ¬ (0 : Int32) ≤ x11 := by
  rcases hb with ⟨_, _, e⟩ | ⟨_, _, e⟩
  · rw [e]; decide
  · rw [e]; decide
theorem ml_sen (hs : ml_se s x6 x10 x12) : ¬ (0 : Int32) ≤ x12 := by
  rcases hs with ⟨_, _, e⟩ | ⟨_, _, e⟩
  · rw [e]; decide
  · rw [e]; decide
theorem ml0_remove {post : Int32 → St2 → Prop} (h : mt_TB ρ k mt_ZL mt_ZL False T a1 a2 a3 a4 a5 a6 a7 a8 a9 a10 a11 a12 a13 a14) (hb : ml_bx k x5 x9 x11) (H : ∀ b5 b6 : Nat → Int32, mt_TB ρ k mt_ZL mt_ZL False T a1 a2 a3 a4 b5 b6 a7 a8 a9 a10 a11 a12 a13 a14 → post x11 (w, hf, gd, uk, un, wt, wr, sn, sk, a1, a2, a3, a4, b5, b6, a7, a8, a9, a10, a11, a12, a13, a14, a15, a16, a17, a18, a19, a20, a21, a22, a23, a24, a25, a26)) : wpX_remove post (w, hf, gd, uk, un, wt, wr, sn, sk, a1, a2, a3, a4, a5, a6, a7, a8, a9, a10, a11, a12, a13, a14, a15, a16, a17, a18, a19, a20, a21, a22, a23, a24, a25, a26) x5 := by
  unfold wpX_remove
  exact ml0_trouble h hb (fun b5 b6 h1 => br_f (ml_bxn hb) (H b5 b6 h1)) (fun _ => trivial)
theorem ml0_changedSince {post : Int32 → St2 → Prop} {p1 p2 : Int32} (h : mt_TB ρ k mt_ZL mt_ZL False T a1 a2 a3 a4 a5 a6 a7 a8 a9 a10 a11 a12 a13 a14) (hb : ml_bx k x5 x9 x11) (H : ∀ b5 b6 : Nat → Int32, mt_TB ρ k mt_ZL mt_ZL False T a1 a2 a3 a4 b5 b6 a7 a8 a9 a10 a11 a12 a13 a14 → post x11 (w, hf, gd, uk, un, wt, wr, sn, sk, a1, a2, a3, a4, b5, b6, a7, a8, a9, a10, a11, a12, a13, a14, a15, a16, a17, a18, a19, a20, a21, a22, a23, a24, a25, a26)) : wpX_changedSince post (w, hf, gd, uk, un, wt, wr, sn, sk, a1, a2, a3, a4, a5, a6, a7, a8, a9, a10, a11, a12, a13, a14, a15, a16, a17, a18, a19, a20, a21, a22, a23, a24, a25, a26) x5 p1 p2 := by
  unfold wpX_changedSince
  exact ml0_trouble h hb (fun b5 b6 h1 => br_f (ml_bxn hb) (H b5 b6 h1)) (fun _ => trivial)
theorem ml0_vanished {post : Int32 → St2 → Prop} {p1 : Int32} (h : mt_TB ρ k mt_ZL mt_ZL False T a1 a2 a3 a4 a5 a6 a7 a8 a9 a10 a11 a12 a13 a14) (hb : ml_bx k x5 x9 x11) (H : ∀ b5 b6 : Nat → Int32, mt_TB ρ k mt_ZL mt_ZL False T a1 a2 a3 a4 b5 b6 a7 a8 a9 a10 a11 a12 a13 a14 → post x11 (w, hf, gd, uk, un, wt, wr, sn, sk, a1, a2, a3, a4, b5, b6, a7, a8, a9, a10, a11, a12, a13, a14, a15, a16, a17, a18, a19, a20, a21, a22, a23, a24, a25, a26)) : wpX_vanished post (w, hf, gd, uk, un, wt, wr, sn, sk, a1, a2, a3, a4, a5, a6, a7, a8, a9, a10, a11, a12, a13, a14, a15, a16, a17, a18, a19, a20, a21, a22, a23, a24, a25, a26) x5 p1 := by
  unfold wpX_vanished
  exact ml0_trouble h hb (fun b5 b6 h1 => br_f (ml_bxn hb) (H b5 b6 h1)) (fun _ => trivial)
/-- good: x13 says whether the message may be -/
def ml_good (x7 x8 x13 : Int32) : Prop := (x13 = 1 ∧ ∃ sz fl : Nat, 1 ≤ sz ∧ sz ≤ 1000 ∧ fl ≤ 31 ∧ x7 = nI sz ∧ x8 = nI fl) ∨ (x13 = 0 ∧ ∀ sz fl : Nat, 1 ≤ sz → sz ≤ 1000 → fl ≤ 31 → x7 = nI sz → x8 = nI fl → False)
theorem ml0_append {post : Int32 → St2 → Prop} (h : mt_TB ρ k mt_ZL mt_ZL False T a1 a2 a3 a4 a5 a6 a7 a8 a9 a10 a11 a12 a13 a14) (hb : ml_bx k x5 x9 x11) (hg : ml_good x7 x8 x13) (H0 : x9 = 0 ∨ x13 = 0 → ∀ b5 b6 : Nat → Int32, mt_TB ρ k mt_ZL mt_ZL False T a1 a2 a3 a4 b5 b6 a7 a8 a9 a10 a11 a12 a13 a14 → post (-1) (w, hf, gd, uk, un, wt, wr, sn, sk, a1, a2, a3, a4, b5, b6, a7, a8, a9, a10, a11, a12, a13, a14, a15, a16, a17, a18, a19, a20, a21, a22, a23, a24, a25, a26)) (H1 : x9 = 1 → x13 = 1 → ∀ b5 b6 : Nat → Int32, mt_TB ρ k mt_ZL mt_ZL False T a1 a2 a3 a4 b5 b6 a7 a8 a9 a10 a11 a12 a13 a14 → post (-2) (w, hf, gd, uk, un, wt, wr, sn, sk, a1, a2, a3, a4, b5, b6, a7, a8, a9, a10, a11, a12, a13, a14, a15, a16, a17, a18, a19, a20, a21, a22, a23, a24, a25, a26)) : wpX_append post (w, hf, gd, uk, un, wt, wr, sn, sk, a1, a2, a3, a4, a5, a6, a7, a8, a9, a10, a11, a12, a13, a14, a15, a16, a17, a18, a19, a20, a21, a22, a23, a24, a25, a26) x5 x7 x8 := by
  unfold wpX_append
  refine ml_isBox hb h.1 (fun e _ => br_t rfl (H0 (Or.inl e) a5 a6 h)) (fun e e1 _ => br_f (by decide) ?_)
  subst e1
  rcases hg with ⟨g, sz, fl, g1, g2, g3, g4, g5⟩ | ⟨g, gn⟩
  · refine mt_isMessage (fun _ _ _ _ _ _ _ => br_f (by decide) (ml0_there h (fun b5 b6 h1 => br_t rfl (H1 e g b5 b6 h1)))) (fun z => (z sz fl g1 g2 g3 g4 g5).elim)
  · exact mt_isMessage (fun sz fl g1 g2 g3 g4 g5 => (gn sz fl g1 g2 g3 g4 g5).elim) (fun _ => br_t rfl (H0 (Or.inr g) a5 a6 h))
theorem ml0_status {post : Int32 → St2 → Prop} {p1 : Int32} (h : mt_TB ρ k mt_ZL mt_ZL False T a1 a2 a3 a4 a5 a6 a7 a8 a9 a10 a11 a12 a13 a14) (hb : ml_bx k x5 x9 x11) (H0 : x9 = 0 ∨ p1 < 0 ∨ 4 ≤ p1 → ∀ b5 b6 : Nat → Int32, mt_TB ρ k mt_ZL mt_ZL False T a1 a2 a3 a4 b5 b6 a7 a8 a9 a10 a11 a12 a13 a14 → post (-1) (w, hf, gd, uk, un, wt, wr, sn, sk, a1, a2, a3, a4, b5, b6, a7, a8, a9, a10, a11, a12, a13, a14, a15, a16, a17, a18, a19, a20, a21, a22, a23, a24, a25, a26)) (H1 : x9 = 1 → ¬ p1 < 0 → ¬ 4 ≤ p1 → ∀ b5 b6 : Nat → Int32, mt_TB ρ k mt_ZL mt_ZL False T a1 a2 a3 a4 b5 b6 a7 a8 a9 a10 a11 a12 a13 a14 → post (-2) (w, hf, gd, uk, un, wt, wr, sn, sk, a1, a2, a3, a4, b5, b6, a7, a8, a9, a10, a11, a12, a13, a14, a15, a16, a17, a18, a19, a20, a21, a22, a23, a24, a25, a26)) : wpX_status post (w, hf, gd, uk, un, wt, wr, sn, sk, a1, a2, a3, a4, a5, a6, a7, a8, a9, a10, a11, a12, a13, a14, a15, a16, a17, a18, a19, a20, a21, a22, a23, a24, a25, a26) x5 p1 := by
  unfold wpX_status
  refine ml_isBox hb h.1 (fun e _ => br_t rfl (H0 (Or.inl e) a5 a6 h)) (fun e e1 _ => br_f (by decide) (br_c (fun z => H0 (Or.inr (Or.inl z)) a5 a6 h) (fun z => br_c (fun z1 => ?_) (fun z1 => H0 (Or.inr (Or.inr ?_)) a5 a6 h))))
  · subst e1
    refine ml0_there h (fun b5 b6 h1 => br_t rfl (H1 e z (fun z2 => ?_) b5 b6 h1))
    have := Int32.le_trans z2 z1
    exact absurd this (by decide)
  · obtain ⟨m, hm, em⟩ := nI_of z
    rw [em] at z1 ⊢
    rcases Nat.lt_or_ge m 4 with y | y
    · exact absurd (nI_le (b := 3) (by omega) (by omega)) z1
    · exact nI_le (a := 4) y hm
theorem ml_code {post : Int32 → Prop} {u : St0} {p0 : Int32} (H0 : p0 < 0 ∨ 1024 ≤ p0 → post 0) (H1 : ¬ p0 < 0 → ¬ 1024 ≤ p0 → post 1) : wpX_isCode post u p0 := by
  unfold wpX_isCode
  exact br_c (fun z => H0 (Or.inl z)) (fun z => br_c (fun z1 => H0 (Or.inr z1)) (fun z1 => H1 z z1))
theorem ml0_counting {post : Int32 → St2 → Prop} {p1 : Int32} (h : mt_TB ρ k mt_ZL mt_ZL False T a1 a2 a3 a4 a5 a6 a7 a8 a9 a10 a11 a12 a13 a14) (hb : ml_bx k x5 x9 x11) (H0 : x9 = 0 ∨ p1 < 0 ∨ 1024 ≤ p1 → ∀ b5 b6 : Nat → Int32, mt_TB ρ k mt_ZL mt_ZL False T a1 a2 a3 a4 b5 b6 a7 a8 a9 a10 a11 a12 a13 a14 → post (-1) (w, hf, gd, uk, un, wt, wr, sn, sk, a1, a2, a3, a4, b5, b6, a7, a8, a9, a10, a11, a12, a13, a14, a15, a16, a17, a18, a19, a20, a21, a22, a23, a24, a25, a26)) (H1 : x9 = 1 → ¬ p1 < 0 → ¬ 1024 ≤ p1 → ∀ b5 b6 : Nat → Int32, mt_TB ρ k mt_ZL mt_ZL False T a1 a2 a3 a4 b5 b6 a7 a8 a9 a10 a11 a12 a13 a14 → post (-2) (w, hf, gd, uk, un, wt, wr, sn, sk, a1, a2, a3, a4, b5, b6, a7, a8, a9, a10, a11, a12, a13, a14, a15, a16, a17, a18, a19, a20, a21, a22, a23, a24, a25, a26)) : wpX_counting post (w, hf, gd, uk, un, wt, wr, sn, sk, a1, a2, a3, a4, a5, a6, a7, a8, a9, a10, a11, a12, a13, a14, a15, a16, a17, a18, a19, a20, a21, a22, a23, a24, a25, a26) x5 p1 := by
  unfold wpX_counting
  refine ml_isBox hb h.1 (fun e _ => br_t rfl (H0 (Or.inl e) a5 a6 h)) (fun e e1 _ => br_f (by decide) (ml_code (fun z => br_t rfl (H0 (Or.inr z) a5 a6 h)) (fun z z1 => br_f (by decide) ?_)))
  subst e1
  exact ml0_there h (fun b5 b6 h1 => br_t rfl (H1 e z z1 b5 b6 h1))
theorem ml0_select {post : Int32 → St2 → Prop} (h : mt_TB ρ k mt_ZL mt_ZL False T a1 a2 a3 a4 a5 a6 a7 a8 a9 a10 a11 a12 a13 a14) (hs : ml_se s x6 x10 x12) (h3 : s < 3) (hb : ml_bx k x5 x9 x11) (H0 : x10 = 0 ∨ x9 = 0 → ∀ b5 b6 : Nat → Int32, mt_TB ρ k mt_ZL mt_ZL False T a1 a2 a3 a4 b5 b6 a7 a8 a9 a10 a11 a12 a13 a14 → post (-1) (w, hf, gd, uk, un, wt, wr, sn, sk, a1, a2, a3, a4, b5, b6, a7, a8, a9, a10, a11, a12, a13, a14, a15, a16, a17, a18, a19, a20, a21, a22, a23, a24, a25, a26)) (H1 : x10 = 1 → x9 = 1 → ∀ b5 b6 : Nat → Int32, mt_TB ρ k mt_ZL mt_ZL False T a1 a2 a3 a4 b5 b6 a7 a8 a9 a10 a11 a12 a13 a14 → post (-2) (w, hf, gd, uk, un, wt, wr, sn, sk, a1, a2, a3, a4, b5, b6, a7, a8, a9, a10, a11, a12, a13, a14, a15, a16, a17, a18, a19, a20, a21, a22, a23, a24, a25, a26)) : wpX_select post (w, hf, gd, uk, un, wt, wr, sn, sk, a1, a2, a3, a4, a5, a6, a7, a8, a9, a10, a11, a12, a13, a14, a15, a16, a17, a18, a19, a20, a21, a22, a23, a24, a25, a26) x6 x5 := by
  unfold wpX_select
  refine ml_sess hs h3 (fun e _ => br_t rfl (H0 (Or.inl e) a5 a6 h)) (fun e _ _ => br_f (by decide) (ml_isBox hb h.1 (fun e _ => br_t rfl (H0 (Or.inr e) a5 a6 h)) (fun e2 e1 _ => br_f (by decide) ?_)))
  subst e1
  exact ml0_there h (fun b5 b6 h1 => br_t rfl (H1 e e2 b5 b6 h1))
theorem ml0_idleness {post : Int32 → Prop} (hs : ml_se s x6 x10 x12) (h3 : s < 3) (hz : ∀ i, i < 3 → a15 i = 0) (H : post x12) : wpX_idleness post (w, hf, gd, uk, un, wt, wr, sn, sk, a1, a2, a3, a4, a5, a6, a7, a8, a9, a10, a11, a12, a13, a14, a15, a16, a17, a18, a19, a20, a21, a22, a23, a24, a25, a26) x6 := by
  unfold wpX_idleness
  refine ml_sess hs h3 (fun _ e2 => br_t rfl (by rw [e2] at H; exact H)) (fun _ e1 e2 => br_f (by decide) ?_)
  subst e1
  rw [nI_clamp (show s < 2 ^ 31 by omega), hz s h3]
  exact ⟨vp_in_nI h3 (by decide), br_t rfl (by rw [e2] at H; exact H)⟩
theorem ml0_leave {post : Int32 → St2 → Prop} (hs : ml_se s x6 x10 x12) (h3 : s < 3) (hz : ∀ i, i < 3 → a15 i = 0) (H : post x12 (w, hf, gd, uk, un, wt, wr, sn, sk, a1, a2, a3, a4, a5, a6, a7, a8, a9, a10, a11, a12, a13, a14, a15, a16, a17, a18, a19, a20, a21, a22, a23, a24, a25, a26)) : wpX_leave post (w, hf, gd, uk, un, wt, wr, sn, sk, a1, a2, a3, a4, a5, a6, a7, a8, a9, a10, a11, a12, a13, a14, a15, a16, a17, a18, a19, a20, a21, a22, a23, a24, a25, a26) x6 := by
  unfold wpX_leave
  exact ml0_idleness hs h3 hz (br_f (ml_sen hs) H)
theorem ml0_length {post : Int32 → Prop} (hs : ml_se s x6 x10 x12) (h3 : s < 3) (hz : ∀ i, i < 3 → a15 i = 0) (H : post x12) : wpX_length post (w, hf, gd, uk, un, wt, wr, sn, sk, a1, a2, a3, a4, a5, a6, a7, a8, a9, a10, a11, a12, a13, a14, a15, a16, a17, a18, a19, a20, a21, a22, a23, a24, a25, a26) x6 := by
  unfold wpX_length
  exact ml0_idleness hs h3 hz (br_f (ml_sen hs) H)
theorem ml0_told {post : Int32 → Prop} {p1 : Int32} (h3 : s < 3) (hz : ∀ i, i < 3 → a15 i = 0) (H : post (-2)) : wpX_told post (w, hf, gd, uk, un, wt, wr, sn, sk, a1, a2, a3, a4, a5, a6, a7, a8, a9, a10, a11, a12, a13, a14, a15, a16, a17, a18, a19, a20, a21, a22, a23, a24, a25, a26) (nI s) p1 := by
  unfold wpX_told
  dsimp only
  rw [nI_clamp (show s < 2 ^ 31 by omega), hz s h3]
  exact ⟨vp_in_nI h3 (by decide), br_t rfl H⟩
theorem ml0_numberAt {post : Int32 → Prop} {p1 : Int32} (hs : ml_se s x6 x10 x12) (h3 : s < 3) (hz : ∀ i, i < 3 → a15 i = 0) (H : post x12) : wpX_numberAt post (w, hf, gd, uk, un, wt, wr, sn, sk, a1, a2, a3, a4, a5, a6, a7, a8, a9, a10, a11, a12, a13, a14, a15, a16, a17, a18, a19, a20, a21, a22, a23, a24, a25, a26) x6 p1 := by
  unfold wpX_numberAt
  refine ml_sess hs h3 (fun _ e2 => br_t rfl (by rw [e2] at H; exact H)) (fun _ e1 e2 => br_f (by decide) ?_)
  subst e1
  exact ml0_told h3 hz (by rw [e2] at H; exact H)
theorem ml0_placeOf {post : Int32 → Prop} {p1 : Int32} (hs : ml_se s x6 x10 x12) (h3 : s < 3) (hz : ∀ i, i < 3 → a15 i = 0) (H : post x12) : wpX_placeOf post (w, hf, gd, uk, un, wt, wr, sn, sk, a1, a2, a3, a4, a5, a6, a7, a8, a9, a10, a11, a12, a13, a14, a15, a16, a17, a18, a19, a20, a21, a22, a23, a24, a25, a26) x6 p1 := by
  unfold wpX_placeOf
  exact ml0_idleness hs h3 hz (br_f (ml_sen hs) H)
theorem ml0_expunge {post : Int32 → St2 → Prop} (hs : ml_se s x6 x10 x12) (h3 : s < 3) (hz : ∀ i, i < 3 → a15 i = 0) (H : post x12 (w, hf, gd, uk, un, wt, wr, sn, sk, a1, a2, a3, a4, a5, a6, a7, a8, a9, a10, a11, a12, a13, a14, a15, a16, a17, a18, a19, a20, a21, a22, a23, a24, a25, a26)) : wpX_expunge post (w, hf, gd, uk, un, wt, wr, sn, sk, a1, a2, a3, a4, a5, a6, a7, a8, a9, a10, a11, a12, a13, a14, a15, a16, a17, a18, a19, a20, a21, a22, a23, a24, a25, a26) x6 := by
  unfold wpX_expunge
  exact ml0_idleness hs h3 hz (br_f (ml_sen hs) H)
theorem ml0_poll {post : Int32 → St2 → Prop} (hs : ml_se s x6 x10 x12) (h3 : s < 3) (hz : ∀ i, i < 3 → a15 i = 0) (H : post x12 (w, hf, gd, uk, un, wt, wr, sn, sk, a1, a2, a3, a4, a5, a6, a7, a8, a9, a10, a11, a12, a13, a14, a15, a16, a17, a18, a19, a20, a21, a22, a23, a24, a25, a26)) : wpX_poll post (w, hf, gd, uk, un, wt, wr, sn, sk, a1, a2, a3, a4, a5, a6, a7, a8, a9, a10, a11, a12, a13, a14, a15, a16, a17, a18, a19, a20, a21, a22, a23, a24, a25, a26) x6 := by
  unfold wpX_poll
  exact ml0_idleness hs h3 hz (br_f (ml_sen hs) H)
theorem ml0_recordAt {post : Int32 → St2 → Prop} {p1 : Int32} (h3 : s < 3) (hz : ∀ i, i < 3 → a15 i = 0) (H : post (-2) (w, hf, gd, uk, un, wt, wr, sn, sk, a1, a2, a3, a4, a5, a6, a7, a8, a9, a10, a11, a12, a13, a14, a15, a16, a17, a18, a19, a20, a21, a22, a23, a24, a25, a26)) : wpX_recordAt post (w, hf, gd, uk, un, wt, wr, sn, sk, a1, a2, a3, a4, a5, a6, a7, a8, a9, a10, a11, a12, a13, a14, a15, a16, a17, a18, a19, a20, a21, a22, a23, a24, a25, a26) (nI s) p1 := by
  unfold wpX_recordAt
  exact ml0_told h3 hz (br_f (by decide) H)
theorem ml0_fetch {post : Int32 → St2 → Prop} {p1 p2 : Int32} (hs : ml_se s x6 x10 x12) (h3 : s < 3) (hz : ∀ i, i < 3 → a15 i = 0) (H0 : x10 = 0 ∨ p2 < 0 ∨ 3 ≤ p2 → post (-1) (w, hf, gd, uk, un, wt, wr, sn, sk, a1, a2, a3, a4, a5, a6, a7, a8, a9, a10, a11, a12, a13, a14, a15, a16, a17, a18, a19, a20, a21, a22, a23, a24, a25, a26)) (H1 : x10 = 1 → ¬ p2 < 0 → ¬ 3 ≤ p2 → post (-2) (w, hf, gd, uk, un, wt, wr, sn, sk, a1, a2, a3, a4, a5, a6, a7, a8, a9, a10, a11, a12, a13, a14, a15, a16, a17, a18, a19, a20, a21, a22, a23, a24, a25, a26)) : wpX_fetch post (w, hf, gd, uk, un, wt, wr, sn, sk, a1, a2, a3, a4, a5, a6, a7, a8, a9, a10, a11, a12, a13, a14, a15, a16, a17, a18, a19, a20, a21, a22, a23, a24, a25, a26) x6 p1 p2 := by
  unfold wpX_fetch
  refine ml_sess hs h3 (fun e _ => br_t rfl (H0 (Or.inl e))) (fun e e1 _ => br_f (by decide) (br_c (fun z => H0 (Or.inr (Or.inl z))) (fun z => br_c (fun z1 => ?_) (fun z1 => H0 (Or.inr (Or.inr ?_))))))
  · subst e1
    refine ml0_recordAt h3 hz (br_f (by decide) (H1 e z (fun z2 => ?_)))
    exact absurd (Int32.le_trans z2 z1) (by decide)
  · obtain ⟨m, hm, em⟩ := nI_of z
    rw [em] at z1 ⊢
    rcases Nat.lt_or_ge m 3 with y | y
    · exact absurd (nI_le (b := 2) (by omega) (by omega)) z1
    · exact nI_le (a := 3) y hm
theorem ml0_store {post : Int32 → St2 → Prop} {p1 p2 : Int32} (hs : ml_se s x6 x10 x12) (h3 : s < 3) (hz : ∀ i, i < 3 → a15 i = 0) (H0 : x10 = 0 ∨ p2 < 0 ∨ 96 ≤ p2 → post (-1) (w, hf, gd, uk, un, wt, wr, sn, sk, a1, a2, a3, a4, a5, a6, a7, a8, a9, a10, a11, a12, a13, a14, a15, a16, a17, a18, a19, a20, a21, a22, a23, a24, a25, a26)) (H1 : x10 = 1 → ¬ p2 < 0 → ¬ 96 ≤ p2 → post (-2) (w, hf, gd, uk, un, wt, wr, sn, sk, a1, a2, a3, a4, a5, a6, a7, a8, a9, a10, a11, a12, a13, a14, a15, a16, a17, a18, a19, a20, a21, a22, a23, a24, a25, a26)) : wpX_store post (w, hf, gd, uk, un, wt, wr, sn, sk, a1, a2, a3, a4, a5, a6, a7, a8, a9, a10, a11, a12, a13, a14, a15, a16, a17, a18, a19, a20, a21, a22, a23, a24, a25, a26) x6 p1 p2 := by
  unfold wpX_store
  refine ml_sess hs h3 (fun e _ => br_t rfl (H0 (Or.inl e))) (fun e e1 _ => br_f (by decide) (br_c (fun z => H0 (Or.inr (Or.inl z))) (fun z => br_c (fun z1 => ?_) (fun z1 => H0 (Or.inr (Or.inr ?_))))))
  · subst e1
    refine ml0_recordAt h3 hz (br_f (by decide) (H1 e z (fun z2 => ?_)))
    exact absurd (Int32.le_trans z2 z1) (by decide)
  · obtain ⟨m, hm, em⟩ := nI_of z
    rw [em] at z1 ⊢
    rcases Nat.lt_or_ge m 96 with y | y
    · exact absurd (nI_le (b := 95) (by omega) (by omega)) z1
    · exact nI_le (a := 96) y hm
theorem ml0_copy {post : Int32 → St2 → Prop} {p1 : Int32} (hk : k < 4) (hs : ml_se s x6 x10 x12) (h3 : s < 3) (hz : ∀ i, i < 3 → a15 i = 0) (hb : ml_bx k x5 x9 x11) (H0 : x10 = 0 ∨ x9 = 0 → post (-1) (w, hf, gd, uk, un, wt, wr, sn, sk, a1, a2, a3, a4, a5, a6, a7, a8, a9, a10, a11, a12, a13, a14, a15, a16, a17, a18, a19, a20, a21, a22, a23, a24, a25, a26)) (H1 : x10 = 1 → x9 = 1 → post (-2) (w, hf, gd, uk, un, wt, wr, sn, sk, a1, a2, a3, a4, a5, a6, a7, a8, a9, a10, a11, a12, a13, a14, a15, a16, a17, a18, a19, a20, a21, a22, a23, a24, a25, a26)) : wpX_copy post (w, hf, gd, uk, un, wt, wr, sn, sk, a1, a2, a3, a4, a5, a6, a7, a8, a9, a10, a11, a12, a13, a14, a15, a16, a17, a18, a19, a20, a21, a22, a23, a24, a25, a26) x6 p1 x5 := by
  unfold wpX_copy
  refine ml_sess hs h3 (fun e _ => br_t rfl (H0 (Or.inl e))) (fun e e1 _ => br_f (by decide) (ml_isBox hb hk (fun e _ => br_t rfl (H0 (Or.inr e))) (fun e2 _ _ => br_f (by decide) ?_)))
  subst e1
  exact ml0_recordAt h3 hz (br_f (by decide) (H1 e e2))
theorem ml0_search {post : Int32 → St2 → Prop} {p1 p2 p3 : Int32} (hs : ml_se s x6 x10 x12) (h3 : s < 3) (hz : ∀ i, i < 3 → a15 i = 0) (H0 : x10 = 0 ∨ p1 < 0 ∨ 1024 ≤ p1 → post (-1) (w, hf, gd, uk, un, wt, wr, sn, sk, a1, a2, a3, a4, a5, a6, a7, a8, a9, a10, a11, a12, a13, a14, a15, a16, a17, a18, a19, a20, a21, a22, a23, a24, a25, a26)) (H1 : x10 = 1 → ¬ p1 < 0 → ¬ 1024 ≤ p1 → post (-2) (w, hf, gd, uk, un, wt, wr, sn, sk, a1, a2, a3, a4, a5, a6, a7, a8, a9, a10, a11, a12, a13, a14, a15, a16, a17, a18, a19, a20, a21, a22, a23, a24, a25, a26)) : wpX_search post (w, hf, gd, uk, un, wt, wr, sn, sk, a1, a2, a3, a4, a5, a6, a7, a8, a9, a10, a11, a12, a13, a14, a15, a16, a17, a18, a19, a20, a21, a22, a23, a24, a25, a26) x6 p1 p2 p3 := by
  unfold wpX_search
  refine ml_sess hs h3 (fun e _ => br_t rfl (H0 (Or.inl e))) (fun e e1 _ => br_f (by decide) (ml_code (fun z => br_t rfl (H0 (Or.inr z))) (fun z z1 => br_f (by decide) ?_)))
  subst e1
  rw [nI_clamp (show s < 2 ^ 31 by omega), hz s h3]
  exact ⟨vp_in_nI h3 (by decide), br_t rfl (H1 e z z1)⟩
end
end
section
section
variable {w hf gd uk un wt wr sn sk : Int32} {a1 a2 a3 a4 a5 a6 a7 a8 a9 a10 a11 a12 a13 a14 a15 a16 a17 a18 a19 a20 a21 a22 a23 a24 a25 a26 : Nat → Int32} {ρ : mt_R} {k T : Nat} {C S : List (List Nat)} {dd : Prop}
theorem mt_gcI {C : List (List Nat)} {b c v : Nat} (hb : b < 41) (hc : c < 8) (e : mt_gt C b c = v) (hv : v < 16777216) : mt_gc C b c = some v := by
  unfold mt_gc
  rw [e, if_pos ⟨hb, hc, hv⟩]
/-! status, append -/
theorem mt_status3 {post : Int32 → St2 → Prop} {v : Nat} (h : mt_TB ρ k C S dd T a1 a2 a3 a4 a5 a6 a7 a8 a9 a10 a11 a12 a13 a14) (e0 : mt_gc C 1 0 = some 1) (e : mt_gc C 0 2 = some v)
    (H : ∀ b5 b6 : Nat → Int32, mt_TB ρ k C S dd T a1 a2 a3 a4 b5 b6 a7 a8 a9 a10 a11 a12 a13 a14 → post (nI v) (w, hf, gd, uk, un, wt, wr, sn, sk, a1, a2, a3, a4, b5, b6, a7, a8, a9, a10, a11, a12, a13, a14, a15, a16, a17, a18, a19, a20, a21, a22, a23, a24, a25, a26)) : wpX_status post (w, hf, gd, uk, un, wt, wr, sn, sk, a1, a2, a3, a4, a5, a6, a7, a8, a9, a10, a11, a12, a13, a14, a15, a16, a17, a18, a19, a20, a21, a22, a23, a24, a25, a26) (nI k) 3 := by
  unfold wpX_status
  refine mt_box h.1 (br_f (by decide) (br_f (by decide) (br_t (by decide) ?_)))
  refine mt_isThere h e0 (fun _ b5 b6 h1 => br_f (by decide) (br_t rfl ?_)) (fun z => absurd rfl z)
  exact mt_messages h1 e H
theorem mt_statusA {post : Int32 → St2 → Prop} {q v : Nat} {p1 : Int32} (h : mt_TB ρ k C S dd T a1 a2 a3 a4 a5 a6 a7 a8 a9 a10 a11 a12 a13 a14) (hq : q < 3) (h1 : p1 = nI q) (e0 : mt_gc C 1 0 = some 1) (e : mt_gc C 1 (1 + q) = some v)
    (H : ∀ b5 b6 : Nat → Int32, mt_TB ρ k C S dd T a1 a2 a3 a4 b5 b6 a7 a8 a9 a10 a11 a12 a13 a14 → post (nI v) (w, hf, gd, uk, un, wt, wr, sn, sk, a1, a2, a3, a4, b5, b6, a7, a8, a9, a10, a11, a12, a13, a14, a15, a16, a17, a18, a19, a20, a21, a22, a23, a24, a25, a26)) : wpX_status post (w, hf, gd, uk, un, wt, wr, sn, sk, a1, a2, a3, a4, a5, a6, a7, a8, a9, a10, a11, a12, a13, a14, a15, a16, a17, a18, a19, a20, a21, a22, a23, a24, a25, a26) (nI k) p1 := by
  subst h1
  unfold wpX_status
  refine mt_box h.1 (br_f (by decide) (br_f (nI_pos (by omega)) (br_t (nI_le (b := 3) (by omega) (by omega)) ?_)))
  refine mt_isThere h e0 (fun _ b5 b6 h1 => br_f (by decide) (br_f ?_ ?_)) (fun z => absurd rfl z)
  · intro z
    have := (nI_eq (b := 3) (by omega) (by omega)).mp z
    omega
  · exact mt_about h1 e (mj_q q 1 rfl) H
theorem mt_appendBad {post : Int32 → St2 → Prop} {p1 p2 : Int32} (h : mt_TB ρ k C S dd T a1 a2 a3 a4 a5 a6 a7 a8 a9 a10 a11 a12 a13 a14) (hn : ∀ sz fl : Nat, 1 ≤ sz → sz ≤ 1000 → fl ≤ 31 → p1 = nI sz → p2 = nI fl → False) (H : post (-1) (w, hf, gd, uk, un, wt, wr, sn, sk, a1, a2, a3, a4, a5, a6, a7, a8, a9, a10, a11, a12, a13, a14, a15, a16, a17, a18, a19, a20, a21, a22, a23, a24, a25, a26)) : wpX_append post (w, hf, gd, uk, un, wt, wr, sn, sk, a1, a2, a3, a4, a5, a6, a7, a8, a9, a10, a11, a12, a13, a14, a15, a16, a17, a18, a19, a20, a21, a22, a23, a24, a25, a26) (nI k) p1 p2 := by
  unfold wpX_append
  exact mt_box h.1 (br_f (by decide) (mt_isMessage (fun sz fl g1 g2 g3 g4 g5 => (hn sz fl g1 g2 g3 g4 g5).elim) (fun _ => br_t rfl H)))
theorem mt_appendFull {post : Int32 → St2 → Prop} {p1 p2 : Int32} {n sz fl : Nat} (h : mt_TB ρ k C S dd T a1 a2 a3 a4 a5 a6 a7 a8 a9 a10 a11 a12 a13 a14) (g1 : 1 ≤ sz) (g2 : sz ≤ 1000) (g3 : fl ≤ 31) (g4 : p1 = nI sz) (g5 : p2 = nI fl) (e0 : mt_gc C 1 0 = some 1) (e : mt_gc C 0 2 = some n) (hn : 14 ≤ n)
    (H : ∀ b5 b6 : Nat → Int32, mt_TB ρ k C S dd T a1 a2 a3 a4 b5 b6 a7 a8 a9 a10 a11 a12 a13 a14 → post (-3) (w, hf, gd, uk, un, wt, wr, sn, sk, a1, a2, a3, a4, b5, b6, a7, a8, a9, a10, a11, a12, a13, a14, a15, a16, a17, a18, a19, a20, a21, a22, a23, a24, a25, a26)) : wpX_append post (w, hf, gd, uk, un, wt, wr, sn, sk, a1, a2, a3, a4, a5, a6, a7, a8, a9, a10, a11, a12, a13, a14, a15, a16, a17, a18, a19, a20, a21, a22, a23, a24, a25, a26) (nI k) p1 p2 := by
  have m := mt_gc_s e
  unfold wpX_append
  refine mt_box h.1 (br_f (by decide) (mt_isMessage (fun _ _ _ _ _ _ _ => br_f (by decide) ?_) (fun z => (z sz fl g1 g2 g3 g4 g5).elim)))
  refine mt_isThere h e0 (fun _ b5 b6 h1 => br_f (by decide) ?_) (fun z => absurd rfl z)
  exact mt_messages h1 e (fun c5 c6 h2 => pk_lt n 14 (fun z => absurd z (by omega)) (fun _ => H c5 c6 h2))
theorem mt_append1 {post : Int32 → St2 → Prop} {p1 p2 : Int32} {n sz fl tz tf num : Nat} {C' : List (List Nat)} (h : mt_TB ρ k C S dd T a1 a2 a3 a4 a5 a6 a7 a8 a9 a10 a11 a12 a13 a14) (hT : T < 2 ^ 28) (g1 : 1 ≤ sz) (g2 : sz ≤ 1000) (g3 : fl ≤ 31) (g4 : p1 = nI sz) (g5 : p2 = nI fl) (t1 : p1 = mt_den ρ tz) (t2 : p2 = mt_den ρ tf) (e0 : mt_gc C 1 0 = some 1) (e : mt_gc C 0 2 = some n) (hn : n < 14) (ep : mt_put tz tf C = some (num, C'))
    (H : ∀ (w hf gd uk un : Int32) (b1 b2 b3 b4 b5 b6 b7 b8 b9 b10 b11 b12 b13 b14 a18 a19 a20 a21 a22 : Nat → Int32), mt_TB ρ k C' C' False (T + 2) b1 b2 b3 b4 b5 b6 b7 b8 b9 b10 b11 b12 b13 b14 → post (nI num) (w, hf, gd, uk, un, wt, wr, sn, sk, b1, b2, b3, b4, b5, b6, b7, b8, b9, b10, b11, b12, b13, b14, a15, a16, a17, a18, a19, a20, a21, a22, a23, a24, a25, a26)) : wpX_append post (w, hf, gd, uk, un, wt, wr, sn, sk, a1, a2, a3, a4, a5, a6, a7, a8, a9, a10, a11, a12, a13, a14, a15, a16, a17, a18, a19, a20, a21, a22, a23, a24, a25, a26) (nI k) p1 p2 := by
  have m := mt_gc_s e
  unfold wpX_append
  refine mt_box h.1 (br_f (by decide) (mt_isMessage (fun _ _ _ _ _ _ _ => br_f (by decide) ?_) (fun z => (z sz fl g1 g2 g3 g4 g5).elim)))
  refine mt_isThere h e0 (fun _ b5 b6 h1 => br_f (by decide) ?_) (fun z => absurd rfl z)
  refine mt_messages h1 e (fun c5 c6 h2 => pk_lt n 14 (fun _ => ?_) (fun z => absurd z (by omega)))
  refine mt_putMessage (mt_dirty h2) t1 t2 ep (fun uk1 un1 d5 d6 d7 d19 d20 d21 d22 h3 => ?_)
  exact mt_save h3 hT (fun w2 hf2 gd2 f1 f2 f3 f4 f7 f8 f9 f10 f11 f12 f13 f14 f18 h4 => H w2 hf2 gd2 uk1 un1 f1 f2 f3 f4 d5 d6 f7 f8 f9 f10 f11 f12 f13 f14 f18 d19 d20 d21 d22 h4)
/-! appendAndCrash -/
theorem mt_aacBad {post : Int32 → St2 → Prop} {p1 p2 : Int32} (h : mt_TB ρ k C S dd T a1 a2 a3 a4 a5 a6 a7 a8 a9 a10 a11 a12 a13 a14) (hn : p1 < 0 ∨ ∀ sz fl : Nat, 1 ≤ sz → sz ≤ 1000 → fl ≤ 31 → p1 >>> ((5 : Int32) &&& 31) = nI sz → p1 &&& 31 = nI fl → False) (H : post (-1) (w, hf, gd, uk, un, wt, wr, sn, sk, a1, a2, a3, a4, a5, a6, a7, a8, a9, a10, a11, a12, a13, a14, a15, a16, a17, a18, a19, a20, a21, a22, a23, a24, a25, a26)) : wpX_appendAndCrash post (w, hf, gd, uk, un, wt, wr, sn, sk, a1, a2, a3, a4, a5, a6, a7, a8, a9, a10, a11, a12, a13, a14, a15, a16, a17, a18, a19, a20, a21, a22, a23, a24, a25, a26) (nI k) p1 p2 := by
  unfold wpX_appendAndCrash
  refine mt_box h.1 (br_f (by decide) (br_c (fun _ => H) (fun z => ?_)))
  exact mt_isMessage (fun sz fl g1 g2 g3 g4 g5 => (hn.elim (fun y => z y) (fun y => y sz fl g1 g2 g3 g4 g5)).elim) (fun _ => br_t rfl H)
theorem mt_aacFull {post : Int32 → St2 → Prop} {p1 p2 : Int32} {n sz fl : Nat} (h : mt_TB ρ k C S dd T a1 a2 a3 a4 a5 a6 a7 a8 a9 a10 a11 a12 a13 a14) (hp : ¬ p1 < 0) (g1 : 1 ≤ sz) (g2 : sz ≤ 1000) (g3 : fl ≤ 31) (g4 : p1 >>> ((5 : Int32) &&& 31) = nI sz) (g5 : p1 &&& 31 = nI fl) (e0 : mt_gc C 1 0 = some 1) (e : mt_gc C 0 2 = some n) (hn : 14 ≤ n)
    (H : ∀ b5 b6 : Nat → Int32, mt_TB ρ k C S dd T a1 a2 a3 a4 b5 b6 a7 a8 a9 a10 a11 a12 a13 a14 → post (-3) (w, hf, gd, uk, un, wt, wr, sn, sk, a1, a2, a3, a4, b5, b6, a7, a8, a9, a10, a11, a12, a13, a14, a15, a16, a17, a18, a19, a20, a21, a22, a23, a24, a25, a26)) : wpX_appendAndCrash post (w, hf, gd, uk, un, wt, wr, sn, sk, a1, a2, a3, a4, a5, a6, a7, a8, a9, a10, a11, a12, a13, a14, a15, a16, a17, a18, a19, a20, a21, a22, a23, a24, a25, a26) (nI k) p1 p2 := by
  have m := mt_gc_s e
  unfold wpX_appendAndCrash
  refine mt_box h.1 (br_f (by decide) (br_f hp (mt_isMessage (fun _ _ _ _ _ _ _ => br_f (by decide) ?_) (fun z => (z sz fl g1 g2 g3 g4 g5).elim))))
  refine mt_isThere h e0 (fun _ b5 b6 h1 => br_f (by decide) ?_) (fun z => absurd rfl z)
  exact mt_messages h1 e (fun c5 c6 h2 => pk_lt n 14 (fun z => absurd z (by omega)) (fun _ => H c5 c6 h2))
theorem mt_aac1 {post : Int32 → St2 → Prop} {p1 p2 : Int32} {n sz fl tz tf num : Nat} {C' : List (List Nat)} (h : mt_TB ρ k C S dd T a1 a2 a3 a4 a5 a6 a7 a8 a9 a10 a11 a12 a13 a14) (hT : T < 2 ^ 28 - 1) (hp : ¬ p1 < 0) (g1 : 1 ≤ sz) (g2 : sz ≤ 1000) (g3 : fl ≤ 31) (g4 : p1 >>> ((5 : Int32) &&& 31) = nI sz) (g5 : p1 &&& 31 = nI fl) (t1 : p1 >>> ((5 : Int32) &&& 31) = mt_den ρ tz) (t2 : p1 &&& 31 = mt_den ρ tf) (e0 : mt_gc C 1 0 = some 1) (e : mt_gc C 0 2 = some n) (hn : n < 14) (ep : mt_put tz tf C = some (num, C'))
    (H : ∀ (w hf gd uk un : Int32) (b1 b2 b3 b4 b5 b6 b7 b8 b9 b10 b11 b12 b13 b14 b15 a18 a19 a20 a21 a22 : Nat → Int32), mt_TB ρ k S S False (T + 2) b1 b2 b3 b4 b5 b6 b7 b8 b9 b10 b11 b12 b13 b14 → (∀ i, i < 3 → b15 i = 0) → post 0 (w, hf, gd, uk, un, wt, wr, sn, sk, b1, b2, b3, b4, b5, b6, b7, b8, b9, b10, b11, b12, b13, b14, b15, a16, a17, a18, a19, a20, a21, a22, a23, a24, a25, a26)) : wpX_appendAndCrash post (w, hf, gd, uk, un, wt, wr, sn, sk, a1, a2, a3, a4, a5, a6, a7, a8, a9, a10, a11, a12, a13, a14, a15, a16, a17, a18, a19, a20, a21, a22, a23, a24, a25, a26) (nI k) p1 p2 := by
  have m := mt_gc_s e
  unfold wpX_appendAndCrash
  refine mt_box h.1 (br_f (by decide) (br_f hp (mt_isMessage (fun _ _ _ _ _ _ _ => br_f (by decide) ?_) (fun z => (z sz fl g1 g2 g3 g4 g5).elim))))
  refine mt_isThere h e0 (fun _ b5 b6 h1 => br_f (by decide) ?_) (fun z => absurd rfl z)
  refine mt_messages h1 e (fun c5 c6 h2 => pk_lt n 14 (fun _ => ?_) (fun z => absurd z (by omega)))
  refine mt_putMessage (mt_dirty h2) t1 t2 ep (fun uk1 un1 d5 d6 d7 d19 d20 d21 d22 h3 => ?_)
  exact mt_someCrash (post := fun u => post 0 u) h3 hT (fun w2 hf2 gd2 f1 f2 f3 f4 f6 f7 f8 f9 f10 f11 f12 f13 f14 f15 f18 h4 h15 => H w2 hf2 gd2 uk1 un1 f1 f2 f3 f4 d5 f6 f7 f8 f9 f10 f11 f12 f13 f14 f15 f18 d19 d20 d21 d22 h4 h15)
/-! create, remove -/
def mt_cre (v : Nat) (C : List (List Nat)) : List (List Nat) := mt_st (mt_st (mt_st (mt_st (mt_st (mt_clr (mt_clr C 0 8) 1 8) 1 0 1) 1 1 v) 1 4 v) 1 2 1) 1 3 1
theorem mt_aboutO {post : Int32 → St2 → Prop} {j c : Nat} {p1 : Int32} (h : mt_TB ρ k C S dd T a1 a2 a3 a4 a5 a6 a7 a8 a9 a10 a11 a12 a13 a14) (hj : j < 4) (hjk : j ≠ k) (hc : c < 8) (hz : ρ.2 j 1 c = 0) (h1 : p1 = nI c)
    (H : ∀ b5 b6 : Nat → Int32, mt_TB ρ k C S dd T a1 a2 a3 a4 b5 b6 a7 a8 a9 a10 a11 a12 a13 a14 → post 0 (w, hf, gd, uk, un, wt, wr, sn, sk, a1, a2, a3, a4, b5, b6, a7, a8, a9, a10, a11, a12, a13, a14, a15, a16, a17, a18, a19, a20, a21, a22, a23, a24, a25, a26)) : wpX_about post (w, hf, gd, uk, un, wt, wr, sn, sk, a1, a2, a3, a4, a5, a6, a7, a8, a9, a10, a11, a12, a13, a14, a15, a16, a17, a18, a19, a20, a21, a22, a23, a24, a25, a26) (nI j) p1 := by
  unfold wpX_about
  exact mt_cellO (b := 1) h hj hjk (by omega) hc rfl h1 (fun b5 b6 h2 => by rw [hz]; exact H b5 b6 h2)
theorem mt_create1 {post : Int32 → St2 → Prop} {v : Nat} (h : mt_TB ρ k C S dd T a1 a2 a3 a4 a5 a6 a7 a8 a9 a10 a11 a12 a13 a14) (hT : T < 2 ^ 28) (hz : ∀ j b c, ρ.2 j b c = 0) (e0 : mt_gc C 1 0 = some 0) (e4 : mt_gc C 1 4 = some v) (hv : v < 1000)
    (H : ∀ (w hf gd : Int32) (b1 b2 b3 b4 b5 b6 b7 b8 b9 b10 b11 b12 b13 b14 a18 : Nat → Int32), mt_TB ρ k (mt_cre (v + 1) C) (mt_cre (v + 1) C) False (T + 2) b1 b2 b3 b4 b5 b6 b7 b8 b9 b10 b11 b12 b13 b14 → post (nI (v + 1)) (w, hf, gd, uk, un, wt, wr, sn, sk, b1, b2, b3, b4, b5, b6, b7, b8, b9, b10, b11, b12, b13, b14, a15, a16, a17, a18, a19, a20, a21, a22, a23, a24, a25, a26)) : wpX_create post (w, hf, gd, uk, un, wt, wr, sn, sk, a1, a2, a3, a4, a5, a6, a7, a8, a9, a10, a11, a12, a13, a14, a15, a16, a17, a18, a19, a20, a21, a22, a23, a24, a25, a26) (nI k) := by
  unfold wpX_create
  refine mt_box h.1 (br_f (by decide) ?_)
  refine mt_isThere h e0 (fun z => absurd z (by decide)) (fun _ d5 d6 h1 => br_t rfl ?_)
  refine pk_loop (σ := Nat × (Nat → Int32) × (Nat → Int32)) (fun m i s => wX_create_24 post (nI k) m (nI s.1) (nI i) w hf gd uk un wt wr sn sk a1 a2 a3 a4 s.2.1 s.2.2 a7 a8 a9 a10 a11 a12 a13 a14 a15 a16 a17 a18 a19 a20 a21 a22 a23 a24 a25 a26) (fun i s => s.1 = (if k < i then v else 0) ∧ mt_TB ρ k C S dd T a1 a2 a3 a4 s.2.1 s.2.2 a7 a8 a9 a10 a11 a12 a13 a14) 4 0 (0, d5, d6) (by omega) ⟨by rw [if_neg (by omega)], h1⟩ ?_ ?_
  · intro m s hI
    obtain ⟨x, c5, c6⟩ := s
    obtain ⟨hx, h2⟩ := hI
    dsimp only at hx h2
    rw [if_pos h.1] at hx
    subst hx
    show wX_create_24 post (nI k) (m + 1) (nI x) (nI 4) w hf gd uk un wt wr sn sk a1 a2 a3 a4 c5 c6 a7 a8 a9 a10 a11 a12 a13 a14 a15 a16 a17 a18 a19 a20 a21 a22 a23 a24 a25 a26
    refine pk_le 4 4 (fun _ => nm_r (nI_1 x) ?_) (fun z => absurd z (by omega))
    refine mt_clear (b := 0) (mt_dirty h2) (by omega) rfl (fun f5 f6 f7 h3 => ?_)
    refine mt_clear (b := 1) h3 (by omega) rfl (fun g5 g6 g7 h4 => ?_)
    refine mt_setN (b := 1) (c := 0) (x := 1) h4 (by omega) (by omega) rfl rfl rfl (by omega) (fun i5 i6 i7 h5 => ?_)
    refine mt_setN (b := 1) (c := 1) (x := x + 1) h5 (by omega) (by omega) rfl rfl rfl (by omega) (fun j5 j6 j7 h6 => ?_)
    refine mt_setN (b := 1) (c := 4) (x := x + 1) h6 (by omega) (by omega) rfl rfl rfl (by omega) (fun l5 l6 l7 h7 => ?_)
    refine mt_setN (b := 1) (c := 2) (x := 1) h7 (by omega) (by omega) rfl rfl rfl (by omega) (fun p5 p6 p7 h8 => ?_)
    refine mt_setN (b := 1) (c := 3) (x := 1) h8 (by omega) (by omega) rfl rfl rfl (by omega) (fun q5 q6 q7 h9 => ?_)
    exact mt_save h9 hT (fun w2 hf2 gd2 r1 r2 r3 r4 r7 r8 r9 r10 r11 r12 r13 r14 r18 h10 => H w2 hf2 gd2 r1 r2 r3 r4 q5 q6 r7 r8 r9 r10 r11 r12 r13 r14 r18 h10)
  · intro m i s hi hI hw
    obtain ⟨x, c5, c6⟩ := s
    obtain ⟨hx, h2⟩ := hI
    dsimp only at hx h2
    show wX_create_24 post (nI k) (m + 1) (nI x) (nI i) w hf gd uk un wt wr sn sk a1 a2 a3 a4 c5 c6 a7 a8 a9 a10 a11 a12 a13 a14 a15 a16 a17 a18 a19 a20 a21 a22 a23 a24 a25 a26
    refine pk_le 4 i (fun z => absurd z (by omega)) (fun _ => ?_)
    by_cases e : i = k
    · subst e
      rw [if_neg (by omega)] at hx
      subst hx
      refine mt_about h2 e4 rfl (fun f5 f6 h3 => pk_le v 0 (fun z => nm_r (nI_1 i) ?_) (fun z => nm_r (nI_1 i) ?_))
      · exact hw (0, f5, f6) ⟨by show 0 = _; rw [if_pos (by omega)]; omega, h3⟩
      · exact hw (v, f5, f6) ⟨by show v = _; rw [if_pos (by omega)], h3⟩
    · refine mt_aboutO h2 hi e (by omega) (hz i 1 4) rfl (fun f5 f6 h3 => br_t ?_ (nm_r (nI_1 i) (hw (x, f5, f6) ⟨?_, h3⟩)))
      · refine nI_pos' ?_
        rw [hx]
        by_cases z : k < i
        · rw [if_pos z]; omega
        · rw [if_neg z]; omega
      · show x = _
        rw [hx]
        by_cases z : k < i
        · rw [if_pos z, if_pos (by omega)]
        · rw [if_neg z, if_neg (by omega)]
theorem mt_createE {post : Int32 → St2 → Prop} (h : mt_TB ρ k C S dd T a1 a2 a3 a4 a5 a6 a7 a8 a9 a10 a11 a12 a13 a14) (e0 : mt_gc C 1 0 = some 1)
    (H : ∀ b5 b6 : Nat → Int32, mt_TB ρ k C S dd T a1 a2 a3 a4 b5 b6 a7 a8 a9 a10 a11 a12 a13 a14 → post (-5) (w, hf, gd, uk, un, wt, wr, sn, sk, a1, a2, a3, a4, b5, b6, a7, a8, a9, a10, a11, a12, a13, a14, a15, a16, a17, a18, a19, a20, a21, a22, a23, a24, a25, a26)) : wpX_create post (w, hf, gd, uk, un, wt, wr, sn, sk, a1, a2, a3, a4, a5, a6, a7, a8, a9, a10, a11, a12, a13, a14, a15, a16, a17, a18, a19, a20, a21, a22, a23, a24, a25, a26) (nI k) := by
  unfold wpX_create
  refine mt_box h.1 (br_f (by decide) ?_)
  exact mt_isThere h e0 (fun _ b5 b6 h1 => br_f (by decide) (H b5 b6 h1)) (fun z => absurd rfl z)
theorem mt_createN {post : Int32 → St2 → Prop} {p0 : Int32} (hn : ∀ j, j < 4 → ¬ p0 = nI j) (H : post (-1) (w, hf, gd, uk, un, wt, wr, sn, sk, a1, a2, a3, a4, a5, a6, a7, a8, a9, a10, a11, a12, a13, a14, a15, a16, a17, a18, a19, a20, a21, a22, a23, a24, a25, a26)) : wpX_create post (w, hf, gd, uk, un, wt, wr, sn, sk, a1, a2, a3, a4, a5, a6, a7, a8, a9, a10, a11, a12, a13, a14, a15, a16, a17, a18, a19, a20, a21, a22, a23, a24, a25, a26) p0 := by
  unfold wpX_create
  exact mt_nbox hn (br_t rfl H)
def mt_rem (C : List (List Nat)) : List (List Nat) := mt_st (mt_st (mt_clr C 0 8) 1 0 0) 1 5 0
theorem mt_rm48 {post : Int32 → St2 → Prop} {r : Int32} (hk : k < 4) (hz : ∀ i, i < 3 → a15 i = 0 ∨ a15 i = nI (k + 1)) (H : ∀ b15 : Nat → Int32, (∀ i, i < 3 → b15 i = 0) → post r (w, hf, gd, uk, un, wt, wr, sn, sk, a1, a2, a3, a4, a5, a6, a7, a8, a9, a10, a11, a12, a13, a14, b15, a16, a17, a18, a19, a20, a21, a22, a23, a24, a25, a26)) : ∃ n, wX_remove_48 post (nI k) r w hf gd uk un wt wr sn sk n 0 a1 a2 a3 a4 a5 a6 a7 a8 a9 a10 a11 a12 a13 a14 a15 a16 a17 a18 a19 a20 a21 a22 a23 a24 a25 a26 := by
  refine pk_loop (fun m i s => wX_remove_48 post (nI k) r w hf gd uk un wt wr sn sk m (nI i) a1 a2 a3 a4 a5 a6 a7 a8 a9 a10 a11 a12 a13 a14 s a16 a17 a18 a19 a20 a21 a22 a23 a24 a25 a26) (fun i s => (∀ j, j < i → s j = 0) ∧ (∀ j, j < 3 → s j = 0 ∨ s j = nI (k + 1))) 3 0 a15 (by omega) ⟨fun j hj => absurd hj (by omega), hz⟩ ?_ ?_
  · intro m s hI
    exact pk_le 3 3 (fun _ => H s hI.1) (fun z => absurd z (by omega))
  · intro m i s hi hI hw
    refine pk_le 3 i (fun z => absurd z (by omega)) (fun _ => ⟨vp_in_nI hi (by decide), ?_⟩)
    rw [nI_clamp (show i < 2 ^ 31 by omega), nI_1]
    refine br_c (fun e => ⟨vp_in_nI hi (by decide), nm_e (nm_r (nI_1 i) (hw _ ⟨fun j hj => ?_, fun j hj => ?_⟩))⟩) (fun e => ⟨vp_in_nI hi (by decide), vp_in_nI hi (by decide), nm_e (nm_r (nI_1 i) (hw _ ⟨fun j hj => ?_, fun j hj => ?_⟩))⟩)
    · by_cases q : j = i
      · rw [q, pk_us]
      · rw [pk_un q]; exact hI.1 j (by omega)
    · by_cases q : j = i
      · rw [q, pk_us]; exact Or.inl rfl
      · rw [pk_un q]; exact hI.2 j hj
    · by_cases q : j = i
      · rw [q, pk_us]; exact (hI.2 i hi).resolve_right e
      · rw [pk_un q]; exact hI.1 j (by omega)
    · by_cases q : j = i
      · rw [q, pk_us]; exact hI.2 i hi
      · rw [pk_un q]; exact hI.2 j hj
theorem mt_remove1 {post : Int32 → St2 → Prop} {n : Nat} (h : mt_TB ρ k C S dd T a1 a2 a3 a4 a5 a6 a7 a8 a9 a10 a11 a12 a13 a14) (hT : T < 2 ^ 28) (e0 : mt_gc C 1 0 = some 1) (e2 : mt_gc C 0 2 = some n) (hz : ∀ i, i < 3 → a15 i = 0 ∨ a15 i = nI (k + 1))
    (H : ∀ (w hf gd : Int32) (b1 b2 b3 b4 b5 b6 b7 b8 b9 b10 b11 b12 b13 b14 b15 a18 : Nat → Int32), mt_TB ρ k (mt_rem C) (mt_rem C) False (T + 2) b1 b2 b3 b4 b5 b6 b7 b8 b9 b10 b11 b12 b13 b14 → (∀ i, i < 3 → b15 i = 0) → post (nI n) (w, hf, gd, uk, un, wt, wr, sn, sk, b1, b2, b3, b4, b5, b6, b7, b8, b9, b10, b11, b12, b13, b14, b15, a16, a17, a18, a19, a20, a21, a22, a23, a24, a25, a26)) : wpX_remove post (w, hf, gd, uk, un, wt, wr, sn, sk, a1, a2, a3, a4, a5, a6, a7, a8, a9, a10, a11, a12, a13, a14, a15, a16, a17, a18, a19, a20, a21, a22, a23, a24, a25, a26) (nI k) := by
  unfold wpX_remove
  refine mt_trouble h e0 (fun _ b5 b6 h1 => br_t (by decide) ?_) (fun z => absurd rfl z)
  refine mt_messages h1 e2 (fun c5 c6 h2 => ?_)
  refine mt_clear (b := 0) (mt_dirty h2) (by omega) rfl (fun d5 d6 d7 h3 => ?_)
  refine mt_setN (b := 1) (c := 0) (x := 0) h3 (by omega) (by omega) rfl rfl rfl (by omega) (fun f5 f6 f7 h4 => ?_)
  refine mt_setN (b := 1) (c := 5) (x := 0) h4 (by omega) (by omega) rfl rfl rfl (by omega) (fun g5 g6 g7 h5 => ?_)
  refine mt_save h5 hT (fun w2 hf2 gd2 r1 r2 r3 r4 r7 r8 r9 r10 r11 r12 r13 r14 r18 h6 => ?_)
  exact mt_rm48 h.1 hz (fun b15 h15 => H w2 hf2 gd2 r1 r2 r3 r4 g5 g6 r7 r8 r9 r10 r11 r12 r13 r14 b15 r18 h6 h15)
end
end
section
/-! a box with one message: its number num, its change ch, in the first place -/
def mt_M (C : List (List Nat)) (num ch : Nat) : Prop :=
  mt_gc C 1 0 = some 1 ∧ mt_gc C 0 0 = some 9 ∧ mt_gc C 0 1 = some 1 ∧ mt_gc C 0 2 = some 1 ∧ mt_gc C 0 3 = some 10 ∧ mt_gc C 0 4 = some 1 ∧ mt_gc C 9 0 = some 1 ∧ mt_gc C 9 1 = some num ∧ mt_gc C 9 4 = some 0 ∧ mt_gc C 10 0 = some 1 ∧ mt_gc C 10 1 = some ch ∧ mt_gc C 10 4 = some 0 ∧ mt_gc C 2 0 = some num ∧ mt_gc C 2 3 = some ch ∧ mt_gc C 1 2 = some (num + 1) ∧ 0 < num ∧ 0 < ch
theorem mt_Mval {C : List (List Nat)} {num ch : Nat} (h : mt_M C num ch) : mt_val 0 num C = some (some 0) ∧ mt_val 1 ch C = some (some 0) := by
  obtain ⟨m0, m1, m2, m3, m4, m5, m6, m7, m8, m9, m10, m11, m12, m13, m14, m15, m16⟩ := h
  constructor
  · have d : mt_desc C 0 num = some (9, []) := by
      unfold mt_desc
      show (mt_gc C 0 0).bind _ = _
      rw [m1]
      show (mt_gc C 0 1).bind _ = _
      rw [m2]
      rfl
    have p : mt_place C 9 num = some (some 0) := by
      unfold mt_place
      rw [m6]
      show (mt_gc C 9 1).bind _ = _
      rw [m7]
      show (if num = num then _ else _) = _
      rw [if_pos rfl]
    unfold mt_val
    rw [d]
    show (if 9 = 0 then some none else (mt_place C 9 num).bind _) = _
    rw [if_neg (by decide), p]
    show (mt_gc C 9 4).bind _ = _
    rw [m8]
    rfl
  · have d : mt_desc C 1 ch = some (10, []) := by
      unfold mt_desc
      show (mt_gc C 0 3).bind _ = _
      rw [m4]
      show (mt_gc C 0 4).bind _ = _
      rw [m5]
      rfl
    have p : mt_place C 10 ch = some (some 0) := by
      unfold mt_place
      rw [m9]
      show (mt_gc C 10 1).bind _ = _
      rw [m10]
      show (if ch = ch then _ else _) = _
      rw [if_pos rfl]
    unfold mt_val
    rw [d]
    show (if 10 = 0 then some none else (mt_place C 10 ch).bind _) = _
    rw [if_neg (by decide), p]
    show (mt_gc C 10 4).bind _ = _
    rw [m11]
    rfl
section
variable {w hf gd uk un wt wr sn sk : Int32} {a1 a2 a3 a4 a5 a6 a7 a8 a9 a10 a11 a12 a13 a14 a15 a16 a17 a18 a19 a20 a21 a22 a23 a24 a25 a26 : Nat → Int32} {ρ : mt_R} {k T num ch : Nat} {C S : List (List Nat)} {dd : Prop}
theorem mt_kaM {post : Int32 → St2 → Prop} {bound : Int32} (h : mt_TB ρ k C S dd T a1 a2 a3 a4 a5 a6 a7 a8 a9 a10 a11 a12 a13 a14) (hM : mt_M C num ch)
    (H0 : nI num ≤ bound → ∀ b5 b6 : Nat → Int32, mt_TB ρ k C S dd T a1 a2 a3 a4 b5 b6 a7 a8 a9 a10 a11 a12 a13 a14 → post (-2) (w, hf, gd, uk, un, wt, wr, sn, sk, a1, a2, a3, a4, b5, b6, a7, a8, a9, a10, a11, a12, a13, a14, a15, a16, a17, a18, a19, a20, a21, a22, a23, a24, a25, a26)) (H1 : ¬ nI num ≤ bound → ∀ b5 b6 : Nat → Int32, mt_TB ρ k C S dd T a1 a2 a3 a4 b5 b6 a7 a8 a9 a10 a11 a12 a13 a14 → post (nI num) (w, hf, gd, uk, un, wt, wr, sn, sk, a1, a2, a3, a4, b5, b6, a7, a8, a9, a10, a11, a12, a13, a14, a15, a16, a17, a18, a19, a20, a21, a22, a23, a24, a25, a26)) : wpX_keyAfter post (w, hf, gd, uk, un, wt, wr, sn, sk, a1, a2, a3, a4, a5, a6, a7, a8, a9, a10, a11, a12, a13, a14, a15, a16, a17, a18, a19, a20, a21, a22, a23, a24, a25, a26) (nI k) 0 bound := by
  obtain ⟨m0, m1, m2, m3, m4, m5, m6, m7, m8, m9, m10, m11, m12, m13, m14, m15, m16⟩ := hM
  exact mt_keyAfter1 (t := 0) h (by omega) rfl m1 (by decide) m2 m6 m7 H0 H1
theorem mt_kaC {post : Int32 → St2 → Prop} {bound : Int32} (h : mt_TB ρ k C S dd T a1 a2 a3 a4 a5 a6 a7 a8 a9 a10 a11 a12 a13 a14) (hM : mt_M C num ch)
    (H0 : nI ch ≤ bound → ∀ b5 b6 : Nat → Int32, mt_TB ρ k C S dd T a1 a2 a3 a4 b5 b6 a7 a8 a9 a10 a11 a12 a13 a14 → post (-2) (w, hf, gd, uk, un, wt, wr, sn, sk, a1, a2, a3, a4, b5, b6, a7, a8, a9, a10, a11, a12, a13, a14, a15, a16, a17, a18, a19, a20, a21, a22, a23, a24, a25, a26)) (H1 : ¬ nI ch ≤ bound → ∀ b5 b6 : Nat → Int32, mt_TB ρ k C S dd T a1 a2 a3 a4 b5 b6 a7 a8 a9 a10 a11 a12 a13 a14 → post (nI ch) (w, hf, gd, uk, un, wt, wr, sn, sk, a1, a2, a3, a4, b5, b6, a7, a8, a9, a10, a11, a12, a13, a14, a15, a16, a17, a18, a19, a20, a21, a22, a23, a24, a25, a26)) : wpX_keyAfter post (w, hf, gd, uk, un, wt, wr, sn, sk, a1, a2, a3, a4, a5, a6, a7, a8, a9, a10, a11, a12, a13, a14, a15, a16, a17, a18, a19, a20, a21, a22, a23, a24, a25, a26) (nI k) 1 bound := by
  obtain ⟨m0, m1, m2, m3, m4, m5, m6, m7, m8, m9, m10, m11, m12, m13, m14, m15, m16⟩ := hM
  exact mt_keyAfter1 (t := 1) h (by omega) rfl m4 (by decide) m5 m9 m10 H0 H1
theorem mt_Mnum (hM : mt_M C num ch) : num < 16777216 ∧ ch < 16777216 ∧ 0 < num ∧ 0 < ch := by
  obtain ⟨m0, m1, m2, m3, m4, m5, m6, m7, m8, m9, m10, m11, m12, m13, m14, m15, m16⟩ := hM
  exact ⟨(mt_gc_s m7).2.2.1, (mt_gc_s m10).2.2.1, m15, m16⟩
theorem mt_recM {post : Int32 → St2 → Prop} (h : mt_TB ρ k C S dd T a1 a2 a3 a4 a5 a6 a7 a8 a9 a10 a11 a12 a13 a14) (hM : mt_M C num ch)
    (H : ∀ b5 b6 b19 b20 : Nat → Int32, mt_TB ρ k C S dd T a1 a2 a3 a4 b5 b6 a7 a8 a9 a10 a11 a12 a13 a14 → post 0 (w, hf, gd, uk, un, wt, wr, sn, sk, a1, a2, a3, a4, b5, b6, a7, a8, a9, a10, a11, a12, a13, a14, a15, a16, a17, a18, b19, b20, a21, a22, a23, a24, a25, a26)) : wpX_recordOf post (w, hf, gd, uk, un, wt, wr, sn, sk, a1, a2, a3, a4, a5, a6, a7, a8, a9, a10, a11, a12, a13, a14, a15, a16, a17, a18, a19, a20, a21, a22, a23, a24, a25, a26) (nI k) (nI num) :=
  mt_recordOf h (mt_Mnum hM).1 (mt_Mval hM).1 H
theorem mt_fits {post : Int32 → Prop} {u : St0} {p0 p1 : Int32} (H1 : p0 &&& (p1 >>> ((5 : Int32) &&& 31)) = (p1 &&& 31) &&& (p1 >>> ((5 : Int32) &&& 31)) → post 1) (H0 : ¬ p0 &&& (p1 >>> ((5 : Int32) &&& 31)) = (p1 &&& 31) &&& (p1 >>> ((5 : Int32) &&& 31)) → post 0) : wpX_fits post u p0 p1 := by
  unfold wpX_fits
  exact br_c H1 H0
def ml_fit (p0 p1 : Int32) : Prop := p0 &&& (p1 >>> ((5 : Int32) &&& 31)) = (p1 &&& 31) &&& (p1 >>> ((5 : Int32) &&& 31))
theorem mt_countM {post : Int32 → St2 → Prop} {cd f : Nat} {p1 : Int32} (h : mt_TB ρ k C S dd T a1 a2 a3 a4 a5 a6 a7 a8 a9 a10 a11 a12 a13 a14) (hM : mt_M C num ch) (hfl : mt_gt C 2 2 = f) (h1 : p1 = nI cd) (hc : cd < 1024)
    (H1 : ml_fit (mt_den ρ f) p1 → ∀ b5 b6 b19 b20 : Nat → Int32, mt_TB ρ k C S dd T a1 a2 a3 a4 b5 b6 a7 a8 a9 a10 a11 a12 a13 a14 → post 1 (w, hf, gd, uk, un, wt, wr, sn, sk, a1, a2, a3, a4, b5, b6, a7, a8, a9, a10, a11, a12, a13, a14, a15, a16, a17, a18, b19, b20, a21, a22, a23, a24, a25, a26)) (H0 : ¬ ml_fit (mt_den ρ f) p1 → ∀ b5 b6 b19 b20 : Nat → Int32, mt_TB ρ k C S dd T a1 a2 a3 a4 b5 b6 a7 a8 a9 a10 a11 a12 a13 a14 → post 0 (w, hf, gd, uk, un, wt, wr, sn, sk, a1, a2, a3, a4, b5, b6, a7, a8, a9, a10, a11, a12, a13, a14, a15, a16, a17, a18, b19, b20, a21, a22, a23, a24, a25, a26)) : wpX_counting post (w, hf, gd, uk, un, wt, wr, sn, sk, a1, a2, a3, a4, a5, a6, a7, a8, a9, a10, a11, a12, a13, a14, a15, a16, a17, a18, a19, a20, a21, a22, a23, a24, a25, a26) (nI k) p1 := by
  have hn := mt_Mnum hM
  unfold wpX_counting
  refine mt_box h.1 (br_f (by decide) (ml_code (fun z => ?_) (fun _ _ => br_f (by decide) ?_)))
  · rw [h1] at z
    rcases z with z | z
    · exact absurd z (nI_pos (by omega))
    · exact absurd z (nI_ge (b := 1024) hc (by omega))
  · refine mt_isThere h hM.1 (fun _ b5 b6 g1 => br_f (by decide) ?_) (fun z => absurd rfl z)
    refine mt_kaM g1 hM (fun z => absurd z (nI_nle (by omega) (by omega))) (fun _ c5 c6 g2 => ⟨2, ?_⟩)
    refine br_f (by decide) (br_f (nI_nle (by omega) (by omega)) ?_)
    refine mt_recM g2 hM (fun d5 d6 d19 d20 g3 => ?_)
    refine mt_entry (s := 0) (c := 2) g3 (by omega) (by omega) hfl rfl (fun i5 i6 g4 => ?_)
    refine mt_fits (fun z => br_f (by decide) ?_) (fun z => br_t rfl ?_)
    · unfold wX_counting_87
      refine nm_r (e' := (1 : Int32)) (by decide) ?_
      refine mt_kaM g4 hM (fun _ j5 j6 g5 => nm_r (e' := (1 : Int32)) (by decide) ?_) (fun y => absurd (Int32.le_refl _) y)
      exact br_f (by decide) (br_t (by decide) (H1 z j5 j6 d19 d20 g5))
    · unfold wX_counting_87
      refine nm_r (e' := (0 : Int32)) (by decide) ?_
      refine mt_kaM g4 hM (fun _ j5 j6 g5 => nm_r (e' := (1 : Int32)) (by decide) ?_) (fun y => absurd (Int32.le_refl _) y)
      exact br_f (by decide) (br_t (by decide) (H0 z j5 j6 d19 d20 g5))
theorem mt_csinceM {post : Int32 → St2 → Prop} {p1 p2 : Int32} (h : mt_TB ρ k C S dd T a1 a2 a3 a4 a5 a6 a7 a8 a9 a10 a11 a12 a13 a14) (hM : mt_M C num ch)
    (H : ∀ r : Int32, ((¬ nI ch ≤ p1 → ¬ nI num ≤ p2 → r = nI num) ∧ (nI ch ≤ p1 ∨ nI num ≤ p2 → r = -2)) → ∀ b5 b6 b19 b20 : Nat → Int32, mt_TB ρ k C S dd T a1 a2 a3 a4 b5 b6 a7 a8 a9 a10 a11 a12 a13 a14 → post r (w, hf, gd, uk, un, wt, wr, sn, sk, a1, a2, a3, a4, b5, b6, a7, a8, a9, a10, a11, a12, a13, a14, a15, a16, a17, a18, b19, b20, a21, a22, a23, a24, a25, a26)) : wpX_changedSince post (w, hf, gd, uk, un, wt, wr, sn, sk, a1, a2, a3, a4, a5, a6, a7, a8, a9, a10, a11, a12, a13, a14, a15, a16, a17, a18, a19, a20, a21, a22, a23, a24, a25, a26) (nI k) p1 p2 := by
  have hn := mt_Mnum hM
  have m12 : mt_gc C 2 0 = some num := by
    obtain ⟨m0, m1, m2, m3, m4, m5, m6, m7, m8, m9, m10, m11, m12, m13, m14, m15, m16⟩ := hM
    exact m12
  unfold wpX_changedSince
  refine mt_trouble h hM.1 (fun _ b5 b6 g1 => br_t (by decide) ?_) (fun z => absurd rfl z)
  refine mt_kaC g1 hM (fun z c5 c6 g2 => ⟨1, ?_⟩) (fun z c5 c6 g2 => ⟨2, ?_⟩)
  · exact br_f (by decide) (br_t (by decide) (H (-2) ⟨fun y => absurd z y, fun _ => rfl⟩ c5 c6 a19 a20 g2))
  · refine br_f (by decide) (br_f (nI_nle (by omega) (by omega)) ?_)
    refine mt_valueOf (t := 1) g2 (by omega) rfl hn.2.1 (mt_Mval hM).2 (fun d5 d6 d19 d20 g3 => ?_)
    refine mt_entry (s := 0) (c := 0) g3 (by omega) (by omega) (mt_gc_s m12).2.2.2 rfl (fun i5 i6 g4 => ?_)
    rw [mt_den_c hn.1]
    have last : ∀ r : Int32, ((¬ nI ch ≤ p1 → ¬ nI num ≤ p2 → r = nI num) ∧ (nI ch ≤ p1 ∨ nI num ≤ p2 → r = -2)) → wX_changedSince_88 post (wX_changedSince_31 post (nI k) p2 1) (nI k) p2 (nI ch) 0 r w hf gd uk un wt wr sn sk a1 a2 a3 a4 i5 i6 a7 a8 a9 a10 a11 a12 a13 a14 a15 a16 a17 a18 d19 d20 a21 a22 a23 a24 a25 a26 := by
      intro r hr
      unfold wX_changedSince_88
      refine mt_kaC g4 hM (fun _ j5 j6 g5 => nm_r (e' := (1 : Int32)) (by decide) ?_) (fun y => absurd (Int32.le_refl _) y)
      exact br_f (by decide) (br_t (by decide) (H r hr j5 j6 d19 d20 g5))
    refine br_c (fun y => ?_) (fun y => br_t (by decide) ?_)
    · unfold wX_changedSince_86
      exact last (-2) ⟨fun _ y2 => absurd y y2, fun _ => rfl⟩
    · unfold wX_changedSince_81
      exact last (nI num) ⟨fun _ _ => rfl, fun y2 => absurd y2 (fun y3 => y3.elim z y)⟩
theorem mt_vanM {post : Int32 → St2 → Prop} {p1 : Int32} (h : mt_TB ρ k C S dd T a1 a2 a3 a4 a5 a6 a7 a8 a9 a10 a11 a12 a13 a14) (hM : mt_M C 1 ch)
    (H : ∀ b5 b6 b19 b20 : Nat → Int32, mt_TB ρ k C S dd T a1 a2 a3 a4 b5 b6 a7 a8 a9 a10 a11 a12 a13 a14 → post 0 (w, hf, gd, uk, un, wt, wr, sn, sk, a1, a2, a3, a4, b5, b6, a7, a8, a9, a10, a11, a12, a13, a14, a15, a16, a17, a18, b19, b20, a21, a22, a23, a24, a25, a26)) : wpX_vanished post (w, hf, gd, uk, un, wt, wr, sn, sk, a1, a2, a3, a4, a5, a6, a7, a8, a9, a10, a11, a12, a13, a14, a15, a16, a17, a18, a19, a20, a21, a22, a23, a24, a25, a26) (nI k) p1 := by
  have m14 : mt_gc C 1 2 = some (1 + 1) := by
    obtain ⟨m0, m1, m2, m3, m4, m5, m6, m7, m8, m9, m10, m11, m12, m13, m14, m15, m16⟩ := hM
    exact m14
  unfold wpX_vanished
  refine mt_trouble h hM.1 (fun _ b5 b6 g1 => br_t (by decide) (br_c (fun _ => H b5 b6 a19 a20 g1) (fun z => ?_))) (fun z => absurd rfl z)
  refine mt_about g1 m14 rfl (fun c5 c6 g2 => br_c (fun _ => H c5 c6 a19 a20 g2) (fun y => ?_))
  obtain ⟨q, hq, eq⟩ := nI_of (x := p1) (fun y2 => z (Int32.lt_trans y2 (by decide)))
  have e1 : q = 1 := by
    rw [eq] at z y
    rcases Nat.lt_or_ge q 1 with y2 | y2
    · exact absurd (nI_lt (b := 1) y2 (by omega)) z
    · rcases Nat.lt_or_ge q 2 with y3 | y3
      · omega
      · exact absurd (nI_le (a := 2) y3 hq) y
  subst e1
  rw [eq]
  exact mt_recM (num := 1) g2 hM (fun d5 d6 d19 d20 g3 => br_t (by decide) (H d5 d6 d19 d20 g3))
/-! sessions -/
theorem mt_16 (s c : Nat) : (16 : Int32) * nI s + nI c = nI (16 * s + c) := by
  rw [show (16 : Int32) = nI 16 from rfl, pk_mul, nI_add]
theorem mt_ses {post : Int32 → Prop} {u : St0} {s : Nat} (h3 : s < 3) (H : post 1) : wpX_isSession post u (nI s) := by
  unfold wpX_isSession
  exact br_f (nI_pos (by omega)) (br_f (nI_ge (b := 3) h3 (by omega)) H)
theorem mt_tellM {post : Int32 → St2 → Prop} {s : Nat} {bound : Int32} (h : mt_TB ρ k C S dd T a1 a2 a3 a4 a5 a6 a7 a8 a9 a10 a11 a12 a13 a14) (hM : mt_M C num ch) (h3 : s < 3) (hv : a16 s = 0) (hb : ¬ nI num ≤ bound)
    (H : ∀ b5 b6 : Nat → Int32, mt_TB ρ k C S dd T a1 a2 a3 a4 b5 b6 a7 a8 a9 a10 a11 a12 a13 a14 → post 1 (w, hf, gd, uk, un, wt, wr, sn, sk, a1, a2, a3, a4, b5, b6, a7, a8, a9, a10, a11, a12, a13, a14, a15, (upd a16 s (nI 1)), (upd a17 (16 * s) (nI num)), a18, a19, a20, a21, a22, a23, a24, a25, a26)) : wpX_tell post (w, hf, gd, uk, un, wt, wr, sn, sk, a1, a2, a3, a4, a5, a6, a7, a8, a9, a10, a11, a12, a13, a14, a15, a16, a17, a18, a19, a20, a21, a22, a23, a24, a25, a26) (nI s) (nI k) bound := by
  have hn := mt_Mnum hM
  have vs : vp_in (nI s) 3 := vp_in_nI h3 (by decide)
  unfold wpX_tell
  refine mt_kaM h hM (fun z => absurd z hb) (fun _ b5 b6 g1 => ⟨2, ?_⟩)
  refine br_f (by decide) (br_f (nI_nle (by omega) (by omega)) ?_)
  rw [nI_clamp (show s < 2 ^ 31 by omega), hv, show (16 : Int32) * nI s + 0 = nI (16 * s) from mt_16 s 0, nI_clamp (show 16 * s < 2 ^ 31 by omega)]
  refine ⟨vs, vp_in_nI (by omega) (by decide), nm_e ⟨vs, vs, nm_r (e' := upd a16 s (nI 1)) rfl (nm_r (e' := (1 : Int32)) (by decide) ?_)⟩⟩
  refine mt_kaM g1 hM (fun _ c5 c6 g2 => nm_r (e' := (1 : Int32)) (by decide) ?_) (fun z => absurd (Int32.le_refl _) z)
  exact br_f (by decide) (br_t (by decide) (H c5 c6 g2))
theorem mt_selM {post : Int32 → St2 → Prop} {s : Nat} (h : mt_TB ρ k C S dd T a1 a2 a3 a4 a5 a6 a7 a8 a9 a10 a11 a12 a13 a14) (hM : mt_M C num ch) (h3 : s < 3)
    (H : ∀ b5 b6 b16 b17 : Nat → Int32, mt_TB ρ k C S dd T a1 a2 a3 a4 b5 b6 a7 a8 a9 a10 a11 a12 a13 a14 → b16 s = nI 1 → b17 (16 * s) = nI num → post 1 (w, hf, gd, uk, un, wt, wr, sn, sk, a1, a2, a3, a4, b5, b6, a7, a8, a9, a10, a11, a12, a13, a14, (upd a15 s (nI (k + 1))), b16, b17, a18, a19, a20, a21, a22, a23, a24, a25, a26)) : wpX_select post (w, hf, gd, uk, un, wt, wr, sn, sk, a1, a2, a3, a4, a5, a6, a7, a8, a9, a10, a11, a12, a13, a14, a15, a16, a17, a18, a19, a20, a21, a22, a23, a24, a25, a26) (nI s) (nI k) := by
  have hn := mt_Mnum hM
  unfold wpX_select
  refine mt_ses h3 (br_f (by decide) (mt_box h.1 (br_f (by decide) ?_)))
  refine mt_isThere h hM.1 (fun _ b5 b6 g1 => br_f (by decide) ?_) (fun z => absurd rfl z)
  rw [nI_clamp (show s < 2 ^ 31 by omega), nI_1]
  refine ⟨vp_in_nI h3 (by decide), nm_e ⟨vp_in_nI h3 (by decide), nm_e ?_⟩⟩
  exact mt_tellM g1 hM h3 pk_us (nI_nle (by omega) (by omega)) (fun c5 c6 g2 => H c5 c6 _ _ g2 pk_us pk_us)
theorem mt_selN {post : Int32 → St2 → Prop} {x6 p1 : Int32} (hn : ∀ j, j < 3 → ¬ x6 = nI j) (H : post (-1) (w, hf, gd, uk, un, wt, wr, sn, sk, a1, a2, a3, a4, a5, a6, a7, a8, a9, a10, a11, a12, a13, a14, a15, a16, a17, a18, a19, a20, a21, a22, a23, a24, a25, a26)) : wpX_select post (w, hf, gd, uk, un, wt, wr, sn, sk, a1, a2, a3, a4, a5, a6, a7, a8, a9, a10, a11, a12, a13, a14, a15, a16, a17, a18, a19, a20, a21, a22, a23, a24, a25, a26) x6 p1 := by
  unfold wpX_select wpX_isSession
  refine br_c (fun _ => br_t rfl H) (fun z => br_c (fun _ => br_t rfl H) (fun z1 => ?_))
  rcases pk_ix x6 (n := 3) (by decide) with y | y | ⟨j, hj, ej⟩
  · exact absurd y z
  · exact absurd y z1
  · exact absurd ej (hn j hj)
/-- a session that has the box, and n in its view -/
def mt_SE (k s n : Nat) (a15 a16 : Nat → Int32) : Prop := (∀ i, i < 3 → i ≠ s → a15 i = 0) ∧ a15 s = nI (k + 1) ∧ a16 s = nI n
theorem mt_idn {post : Int32 → Prop} {s n : Nat} (h3 : s < 3) (hk : k < 4) (hS : mt_SE k s n a15 a16) (H : post 0) : wpX_idleness post (w, hf, gd, uk, un, wt, wr, sn, sk, a1, a2, a3, a4, a5, a6, a7, a8, a9, a10, a11, a12, a13, a14, a15, a16, a17, a18, a19, a20, a21, a22, a23, a24, a25, a26) (nI s) := by
  unfold wpX_idleness
  refine mt_ses h3 (br_f (by decide) ?_)
  rw [nI_clamp (show s < 2 ^ 31 by omega), hS.2.1]
  exact ⟨vp_in_nI h3 (by decide), br_f (nI_ne0 (by omega) (by omega)) H⟩
theorem mt_length {post : Int32 → Prop} {s n : Nat} (h3 : s < 3) (hk : k < 4) (hS : mt_SE k s n a15 a16) (H : post (nI n)) : wpX_length post (w, hf, gd, uk, un, wt, wr, sn, sk, a1, a2, a3, a4, a5, a6, a7, a8, a9, a10, a11, a12, a13, a14, a15, a16, a17, a18, a19, a20, a21, a22, a23, a24, a25, a26) (nI s) := by
  unfold wpX_length
  refine mt_idn h3 hk hS (br_t (by decide) ⟨vp_in_nI h3 (by decide), ?_⟩)
  rw [nI_clamp (show s < 2 ^ 31 by omega), hS.2.2]
  exact H
theorem mt_told1 {post : Int32 → Prop} {s v : Nat} (h3 : s < 3) (hk : k < 4) (hS : mt_SE k s 1 a15 a16) (h17 : a17 (16 * s) = nI v) (H : post (nI v)) : wpX_told post (w, hf, gd, uk, un, wt, wr, sn, sk, a1, a2, a3, a4, a5, a6, a7, a8, a9, a10, a11, a12, a13, a14, a15, a16, a17, a18, a19, a20, a21, a22, a23, a24, a25, a26) (nI s) 1 := by
  unfold wpX_told
  dsimp only
  rw [nI_clamp (show s < 2 ^ 31 by omega), hS.2.1, hS.2.2, show (16 : Int32) * nI s + 1 - 1 = nI (16 * s) from by rw [show (16 : Int32) * nI s + 1 = nI (16 * s + 1) from mt_16 s 1]; exact nI_pred _, nI_clamp (show 16 * s < 2 ^ 31 by omega), h17]
  exact ⟨vp_in_nI h3 (by decide), br_f (nI_ne0 (by omega) (by omega)) (br_f (by decide) ⟨vp_in_nI h3 (by decide), br_t (by decide) ⟨vp_in_nI (by omega) (by decide), H⟩⟩)⟩
theorem mt_told2 {post : Int32 → Prop} {s : Nat} (h3 : s < 3) (hk : k < 4) (hS : mt_SE k s 1 a15 a16) (H : post (-2)) : wpX_told post (w, hf, gd, uk, un, wt, wr, sn, sk, a1, a2, a3, a4, a5, a6, a7, a8, a9, a10, a11, a12, a13, a14, a15, a16, a17, a18, a19, a20, a21, a22, a23, a24, a25, a26) (nI s) 2 := by
  unfold wpX_told
  dsimp only
  rw [nI_clamp (show s < 2 ^ 31 by omega), hS.2.1, hS.2.2]
  exact ⟨vp_in_nI h3 (by decide), br_f (nI_ne0 (by omega) (by omega)) (br_f (by decide) ⟨vp_in_nI h3 (by decide), br_f (by decide) H⟩)⟩
theorem mt_told0 {post : Int32 → Prop} {s n : Nat} (h3 : s < 3) (hk : k < 4) (hS : mt_SE k s n a15 a16) (H : post (-2)) : wpX_told post (w, hf, gd, uk, un, wt, wr, sn, sk, a1, a2, a3, a4, a5, a6, a7, a8, a9, a10, a11, a12, a13, a14, a15, a16, a17, a18, a19, a20, a21, a22, a23, a24, a25, a26) (nI s) 0 := by
  unfold wpX_told
  dsimp only
  rw [nI_clamp (show s < 2 ^ 31 by omega), hS.2.1]
  exact ⟨vp_in_nI h3 (by decide), br_f (nI_ne0 (by omega) (by omega)) (br_t (by decide) H)⟩
theorem mt_numAt {post : Int32 → Prop} {s : Nat} {p1 : Int32} (h3 : s < 3) (H : wpX_told post (w, hf, gd, uk, un, wt, wr, sn, sk, a1, a2, a3, a4, a5, a6, a7, a8, a9, a10, a11, a12, a13, a14, a15, a16, a17, a18, a19, a20, a21, a22, a23, a24, a25, a26) (nI s) p1) : wpX_numberAt post (w, hf, gd, uk, un, wt, wr, sn, sk, a1, a2, a3, a4, a5, a6, a7, a8, a9, a10, a11, a12, a13, a14, a15, a16, a17, a18, a19, a20, a21, a22, a23, a24, a25, a26) (nI s) p1 := by
  unfold wpX_numberAt
  exact mt_ses h3 (br_f (by decide) H)
theorem mt_place1 {post : Int32 → Prop} {s : Nat} (h3 : s < 3) (hk : k < 4) (hS : mt_SE k s 1 a15 a16) (h17 : a17 (16 * s) = nI 1) (H : post 1) : wpX_placeOf post (w, hf, gd, uk, un, wt, wr, sn, sk, a1, a2, a3, a4, a5, a6, a7, a8, a9, a10, a11, a12, a13, a14, a15, a16, a17, a18, a19, a20, a21, a22, a23, a24, a25, a26) (nI s) 1 := by
  have vs : vp_in (nI s) 3 := vp_in_nI h3 (by decide)
  unfold wpX_placeOf
  refine mt_idn h3 hk hS (br_t (by decide) ⟨vs, ?_⟩)
  rw [nI_clamp (show s < 2 ^ 31 by omega), hS.2.2]
  refine nm_e ⟨2, ?_⟩
  refine br_f (by decide) (nm_r (e' := (0 : Int32)) (by decide) ?_)
  rw [show (16 : Int32) * nI s + 0 = nI (16 * s) from mt_16 s 0, nI_clamp (show 16 * s < 2 ^ 31 by omega), h17]
  refine ⟨vp_in_nI (by omega) (by decide), br_t (by decide) ?_⟩
  refine br_t (by decide) ⟨vs, ?_⟩
  rw [nI_clamp (show s < 2 ^ 31 by omega), hS.2.2, show (16 : Int32) * nI s + 0 = nI (16 * s) from mt_16 s 0, nI_clamp (show 16 * s < 2 ^ 31 by omega), h17]
  exact br_f (by decide) ⟨vp_in_nI (by omega) (by decide), br_t rfl H⟩
theorem mt_place2 {post : Int32 → Prop} {s : Nat} (h3 : s < 3) (hk : k < 4) (hS : mt_SE k s 1 a15 a16) (h17 : a17 (16 * s) = nI 1) (H : post (-2)) : wpX_placeOf post (w, hf, gd, uk, un, wt, wr, sn, sk, a1, a2, a3, a4, a5, a6, a7, a8, a9, a10, a11, a12, a13, a14, a15, a16, a17, a18, a19, a20, a21, a22, a23, a24, a25, a26) (nI s) 2 := by
  have vs : vp_in (nI s) 3 := vp_in_nI h3 (by decide)
  unfold wpX_placeOf
  refine mt_idn h3 hk hS (br_t (by decide) ⟨vs, ?_⟩)
  rw [nI_clamp (show s < 2 ^ 31 by omega), hS.2.2]
  refine nm_e ⟨2, ?_⟩
  refine br_f (by decide) (nm_r (e' := (0 : Int32)) (by decide) ?_)
  rw [show (16 : Int32) * nI s + 0 = nI (16 * s) from mt_16 s 0, nI_clamp (show 16 * s < 2 ^ 31 by omega), h17]
  refine ⟨vp_in_nI (by omega) (by decide), br_f (by decide) (nm_r (e' := (1 : Int32)) (by decide) ?_)⟩
  refine br_t (by decide) ⟨vs, ?_⟩
  rw [nI_clamp (show s < 2 ^ 31 by omega), hS.2.2]
  exact br_t (by decide) H
theorem mt_recAt1 {post : Int32 → St2 → Prop} {s v : Nat} {o : Option Nat} (h : mt_TB ρ k C S dd T a1 a2 a3 a4 a5 a6 a7 a8 a9 a10 a11 a12 a13 a14) (h3 : s < 3) (hS : mt_SE k s 1 a15 a16) (h17 : a17 (16 * s) = nI v) (hv : v < 16777216) (e : mt_val 0 v C = some (some 0))
    (H : ∀ b5 b6 b19 b20 : Nat → Int32, mt_TB ρ k C S dd T a1 a2 a3 a4 b5 b6 a7 a8 a9 a10 a11 a12 a13 a14 → post 0 (w, hf, gd, uk, un, wt, wr, sn, sk, a1, a2, a3, a4, b5, b6, a7, a8, a9, a10, a11, a12, a13, a14, a15, a16, a17, a18, b19, b20, a21, a22, a23, a24, a25, a26)) : wpX_recordAt post (w, hf, gd, uk, un, wt, wr, sn, sk, a1, a2, a3, a4, a5, a6, a7, a8, a9, a10, a11, a12, a13, a14, a15, a16, a17, a18, a19, a20, a21, a22, a23, a24, a25, a26) (nI s) 1 := by
  unfold wpX_recordAt
  refine mt_told1 h3 h.1 hS h17 (br_t (nI_pos' (by omega)) ⟨vp_in_nI h3 (by decide), ?_⟩)
  rw [nI_clamp (show s < 2 ^ 31 by omega), hS.2.1, show nI (k + 1) - 1 = nI k from nI_pred k]
  exact mt_recordOf h hv e (fun b5 b6 b19 b20 g => br_t (by decide) (H b5 b6 b19 b20 g))
theorem mt_recAt2 {post : Int32 → St2 → Prop} {s : Nat} (h3 : s < 3) (hk : k < 4) (hS : mt_SE k s 1 a15 a16) (H : post (-2) (w, hf, gd, uk, un, wt, wr, sn, sk, a1, a2, a3, a4, a5, a6, a7, a8, a9, a10, a11, a12, a13, a14, a15, a16, a17, a18, a19, a20, a21, a22, a23, a24, a25, a26)) : wpX_recordAt post (w, hf, gd, uk, un, wt, wr, sn, sk, a1, a2, a3, a4, a5, a6, a7, a8, a9, a10, a11, a12, a13, a14, a15, a16, a17, a18, a19, a20, a21, a22, a23, a24, a25, a26) (nI s) 2 := by
  unfold wpX_recordAt
  exact mt_told2 h3 hk hS (br_f (by decide) H)
end
end
section
section
variable {w hf gd uk un wt wr sn sk : Int32} {a1 a2 a3 a4 a5 a6 a7 a8 a9 a10 a11 a12 a13 a14 a15 a16 a17 a18 a19 a20 a21 a22 a23 a24 a25 a26 : Nat → Int32} {ρ : mt_R} {k T num ch s : Nat} {C S : List (List Nat)} {dd : Prop}
theorem mt_fetch1 {post : Int32 → St2 → Prop} {v c : Nat} {p2 : Int32} (h : mt_TB ρ k C S dd T a1 a2 a3 a4 a5 a6 a7 a8 a9 a10 a11 a12 a13 a14) (hM : mt_M C num ch) (h3 : s < 3) (hS : mt_SE k s 1 a15 a16) (h17 : a17 (16 * s) = nI num) (ev : mt_gt C 2 c = v) (hp : (p2 = 0 ∧ c = 2) ∨ (p2 = 1 ∧ c = 1) ∨ (p2 = 2 ∧ c = 3))
    (H : ∀ b5 b6 b19 b20 : Nat → Int32, mt_TB ρ k C S dd T a1 a2 a3 a4 b5 b6 a7 a8 a9 a10 a11 a12 a13 a14 → post (mt_den ρ v) (w, hf, gd, uk, un, wt, wr, sn, sk, a1, a2, a3, a4, b5, b6, a7, a8, a9, a10, a11, a12, a13, a14, a15, a16, a17, a18, b19, b20, a21, a22, a23, a24, a25, a26)) : wpX_fetch post (w, hf, gd, uk, un, wt, wr, sn, sk, a1, a2, a3, a4, a5, a6, a7, a8, a9, a10, a11, a12, a13, a14, a15, a16, a17, a18, a19, a20, a21, a22, a23, a24, a25, a26) (nI s) 1 p2 := by
  have hn := mt_Mnum hM
  unfold wpX_fetch
  refine mt_ses h3 (br_f (by decide) ?_)
  have q1 : ¬ p2 < 0 := by rcases hp with ⟨e, _⟩ | ⟨e, _⟩ | ⟨e, _⟩ <;> rw [e] <;> decide
  have q2 : p2 ≤ 2 := by rcases hp with ⟨e, _⟩ | ⟨e, _⟩ | ⟨e, _⟩ <;> rw [e] <;> decide
  refine br_f q1 (br_t q2 ?_)
  refine mt_recAt1 (o := none) h h3 hS h17 hn.1 (mt_Mval hM).1 (fun b5 b6 b19 b20 g1 => br_t (by decide) ⟨vp_in_nI h3 (by decide), ?_⟩)
  rw [nI_clamp (show s < 2 ^ 31 by omega), hS.2.1, show nI (k + 1) - 1 = nI k from nI_pred k]
  rcases hp with ⟨e, ec⟩ | ⟨e, ec⟩ | ⟨e, ec⟩
  · subst ec
    refine br_t e ?_
    unfold wX_fetch_63
    exact mt_entry (s := 0) (c := 2) g1 (by omega) (by omega) ev rfl (fun c5 c6 g2 => H c5 c6 b19 b20 g2)
  · subst ec
    refine br_f (by rw [e]; decide) (br_t e ?_)
    unfold wX_fetch_63
    exact mt_entry (s := 0) (c := 1) g1 (by omega) (by omega) ev rfl (fun c5 c6 g2 => H c5 c6 b19 b20 g2)
  · subst ec
    refine br_f (by rw [e]; decide) (br_f (by rw [e]; decide) ?_)
    unfold wX_fetch_63
    exact mt_entry (s := 0) (c := 3) g1 (by omega) (by omega) ev rfl (fun c5 c6 g2 => H c5 c6 b19 b20 g2)
theorem mt_fetch2 {post : Int32 → St2 → Prop} (hk : k < 4) (h3 : s < 3) (hS : mt_SE k s 1 a15 a16) (H : post (-2) (w, hf, gd, uk, un, wt, wr, sn, sk, a1, a2, a3, a4, a5, a6, a7, a8, a9, a10, a11, a12, a13, a14, a15, a16, a17, a18, a19, a20, a21, a22, a23, a24, a25, a26)) : wpX_fetch post (w, hf, gd, uk, un, wt, wr, sn, sk, a1, a2, a3, a4, a5, a6, a7, a8, a9, a10, a11, a12, a13, a14, a15, a16, a17, a18, a19, a20, a21, a22, a23, a24, a25, a26) (nI s) 2 0 := by
  unfold wpX_fetch
  refine mt_ses h3 (br_f (by decide) (br_f (by decide) (br_t (by decide) ?_)))
  exact mt_recAt2 h3 hk hS (br_f (by decide) H)
theorem mt_fetch3 {post : Int32 → St2 → Prop} (h3 : s < 3) (H : post (-1) (w, hf, gd, uk, un, wt, wr, sn, sk, a1, a2, a3, a4, a5, a6, a7, a8, a9, a10, a11, a12, a13, a14, a15, a16, a17, a18, a19, a20, a21, a22, a23, a24, a25, a26)) : wpX_fetch post (w, hf, gd, uk, un, wt, wr, sn, sk, a1, a2, a3, a4, a5, a6, a7, a8, a9, a10, a11, a12, a13, a14, a15, a16, a17, a18, a19, a20, a21, a22, a23, a24, a25, a26) (nI s) 1 3 := by
  unfold wpX_fetch
  exact mt_ses h3 (br_f (by decide) (br_f (by decide) (br_f (by decide) H)))
theorem mt_storeBad {post : Int32 → St2 → Prop} (h3 : s < 3) (H : post (-1) (w, hf, gd, uk, un, wt, wr, sn, sk, a1, a2, a3, a4, a5, a6, a7, a8, a9, a10, a11, a12, a13, a14, a15, a16, a17, a18, a19, a20, a21, a22, a23, a24, a25, a26)) : wpX_store post (w, hf, gd, uk, un, wt, wr, sn, sk, a1, a2, a3, a4, a5, a6, a7, a8, a9, a10, a11, a12, a13, a14, a15, a16, a17, a18, a19, a20, a21, a22, a23, a24, a25, a26) (nI s) 1 96 := by
  unfold wpX_store
  exact mt_ses h3 (br_f (by decide) (br_f (by decide) (br_f (by decide) H)))
def ml_nf (old : Int32) (cd : Nat) : Int32 := if cd < 32 then nI cd &&& 31 else if cd < 64 then old ||| (nI cd &&& 31) else old &&& ((nI cd &&& 31) ^^^ (-1))
theorem mt_storeM {post : Int32 → St2 → Prop} {cd f f' : Nat} {p2 : Int32} {C' : List (List Nat)} (h : mt_TB ρ k C C False T a1 a2 a3 a4 a5 a6 a7 a8 a9 a10 a11 a12 a13 a14) (hT : T < 2 ^ 28) (hM : mt_M C num ch) (h3 : s < 3) (hS : mt_SE k s 1 a15 a16) (h17 : a17 (16 * s) = nI num) (hfl : mt_gt C 2 2 = f) (h2 : p2 = nI cd) (hc : cd < 96) (hd : mt_den ρ f' = ml_nf (mt_den ρ f) cd)
    (H0 : ml_nf (mt_den ρ f) cd = mt_den ρ f → ∀ b5 b6 b19 b20 : Nat → Int32, mt_TB ρ k C C False T a1 a2 a3 a4 b5 b6 a7 a8 a9 a10 a11 a12 a13 a14 → post (ml_nf (mt_den ρ f) cd) (w, hf, gd, uk, un, wt, wr, sn, sk, a1, a2, a3, a4, b5, b6, a7, a8, a9, a10, a11, a12, a13, a14, a15, a16, a17, a18, b19, b20, a21, a22, a23, a24, a25, a26))
    (ep : ¬ ml_nf (mt_den ρ f) cd = mt_den ρ f → mt_chF C 0 f' C = some C')
    (H1 : ¬ ml_nf (mt_den ρ f) cd = mt_den ρ f → ∀ (w hf gd uk un : Int32) (b1 b2 b3 b4 b5 b6 b7 b8 b9 b10 b11 b12 b13 b14 a18 a19 a20 a21 a22 : Nat → Int32), mt_TB ρ k C' C' False (T + 2) b1 b2 b3 b4 b5 b6 b7 b8 b9 b10 b11 b12 b13 b14 → post (ml_nf (mt_den ρ f) cd) (w, hf, gd, uk, un, wt, wr, sn, sk, b1, b2, b3, b4, b5, b6, b7, b8, b9, b10, b11, b12, b13, b14, a15, a16, a17, a18, a19, a20, a21, a22, a23, a24, a25, a26)) : wpX_store post (w, hf, gd, uk, un, wt, wr, sn, sk, a1, a2, a3, a4, a5, a6, a7, a8, a9, a10, a11, a12, a13, a14, a15, a16, a17, a18, a19, a20, a21, a22, a23, a24, a25, a26) (nI s) 1 p2 := by
  have hn := mt_Mnum hM
  subst h2
  unfold wpX_store
  refine mt_ses h3 (br_f (by decide) (br_f (nI_pos (by omega)) (br_t (nI_le (b := 95) (by omega) (by omega)) ?_)))
  refine mt_recAt1 (o := none) h h3 hS h17 hn.1 (mt_Mval hM).1 (fun b5 b6 b19 b20 g1 => br_t (by decide) ⟨vp_in_nI h3 (by decide), ?_⟩)
  rw [nI_clamp (show s < 2 ^ 31 by omega), hS.2.1, show nI (k + 1) - 1 = nI k from nI_pred k]
  refine nm_e ?_
  refine mt_entry (s := 0) (c := 2) g1 (by omega) (by omega) hfl rfl (fun c5 c6 g2 => ?_)
  have fin : wX_store_98 post 0 (nI k) (mt_den ρ f) (ml_nf (mt_den ρ f) cd) w hf gd uk un wt wr sn sk a1 a2 a3 a4 c5 c6 a7 a8 a9 a10 a11 a12 a13 a14 a15 a16 a17 a18 b19 b20 a21 a22 a23 a24 a25 a26 := by
    unfold wX_store_98
    refine br_c (fun z => H0 z c5 c6 b19 b20 g2) (fun z => ?_)
    refine mt_changeFlags (s := 0) (mt_dirty g2) hd.symm (ep z) (fun uk1 un1 d5 d6 d7 d19 d20 d21 d22 g3 => ?_)
    exact mt_save g3 hT (fun w2 hf2 gd2 r1 r2 r3 r4 r7 r8 r9 r10 r11 r12 r13 r14 r18 g4 => H1 z w2 hf2 gd2 uk1 un1 r1 r2 r3 r4 d5 d6 r7 r8 r9 r10 r11 r12 r13 r14 r18 d19 d20 d21 d22 g4)
  refine nm_r (e' := nI (cd / 32)) (pk_shrN (by omega) _ 5 (by decide)) ?_
  unfold ml_nf at fin
  refine pk_eq (cd / 32) 0 (fun z => ?_) (fun z => pk_eq (cd / 32) 1 (fun z1 => ?_) (fun z1 => ?_))
  · rw [if_pos (by omega)] at fin
    exact fin
  · rw [if_neg (by omega), if_pos (by omega)] at fin
    exact fin
  · rw [if_neg (by omega), if_neg (by omega)] at fin
    exact fin
theorem mt_s69e {post : Int32 → St2 → Prop} {x2 x3 x5 : Int32} {n : Nat} (h3 : s < 3) (hS : mt_SE k s 1 a15 a16) (H : post (-2) (w, hf, gd, uk, un, wt, wr, sn, sk, a1, a2, a3, a4, a5, a6, a7, a8, a9, a10, a11, a12, a13, a14, a15, a16, a17, a18, a19, a20, a21, a22, a23, a24, a25, a26)) : wX_search_69 post (nI s) x2 x3 x5 (n + 1) 2 w hf gd uk un wt wr sn sk a1 a2 a3 a4 a5 a6 a7 a8 a9 a10 a11 a12 a13 a14 a15 a16 a17 a18 a19 a20 a21 a22 a23 a24 a25 a26 := by
  refine ⟨vp_in_nI h3 (by decide), ?_⟩
  rw [nI_clamp (show s < 2 ^ 31 by omega), hS.2.2]
  exact br_t (by decide) H
theorem mt_searchM {post : Int32 → St2 → Prop} {cd f sz : Nat} {p1 p2 : Int32} (h : mt_TB ρ k C S dd T a1 a2 a3 a4 a5 a6 a7 a8 a9 a10 a11 a12 a13 a14) (hM : mt_M C num ch) (h3 : s < 3) (hS : mt_SE k s 1 a15 a16) (h17 : a17 (16 * s) = nI num) (hfl : mt_gt C 2 2 = f) (hz : mt_gt C 2 1 = sz) (h1 : p1 = nI cd) (hc : cd < 1024)
    (H : ∀ r : Int32, ((¬ mt_den ρ sz < p2 → ml_fit (mt_den ρ f) p1 → r = 1) ∧ (mt_den ρ sz < p2 → r = -2)) → ∀ b5 b6 b19 b20 : Nat → Int32, mt_TB ρ k C S dd T a1 a2 a3 a4 b5 b6 a7 a8 a9 a10 a11 a12 a13 a14 → post r (w, hf, gd, uk, un, wt, wr, sn, sk, a1, a2, a3, a4, b5, b6, a7, a8, a9, a10, a11, a12, a13, a14, a15, a16, a17, a18, b19, b20, a21, a22, a23, a24, a25, a26)) : wpX_search post (w, hf, gd, uk, un, wt, wr, sn, sk, a1, a2, a3, a4, a5, a6, a7, a8, a9, a10, a11, a12, a13, a14, a15, a16, a17, a18, a19, a20, a21, a22, a23, a24, a25, a26) (nI s) p1 p2 0 := by
  have hk := h.1
  have hn := mt_Mnum hM
  unfold wpX_search
  refine mt_ses h3 (br_f (by decide) (ml_code (fun z => ?_) (fun _ _ => br_f (by decide) ⟨vp_in_nI h3 (by decide), ?_⟩)))
  · rw [h1] at z
    rcases z with z | z
    · exact absurd z (nI_pos (by omega))
    · exact absurd z (nI_ge (b := 1024) hc (by omega))
  · rw [nI_clamp (show s < 2 ^ 31 by omega), hS.2.1]
    refine br_f (nI_ne0 (by omega) (by omega)) ⟨vp_in_nI h3 (by decide), nm_r (nI_pred k) (br_t (by decide) (br_t (by decide) (nm_r (e' := (1 : Int32)) (by decide) ⟨2, ?_⟩)))⟩
    refine ⟨vp_in_nI h3 (by decide), ?_⟩
    rw [nI_clamp (show s < 2 ^ 31 by omega), hS.2.2]
    refine br_f (by decide) ?_
    refine mt_recAt1 (o := none) h h3 hS h17 hn.1 (mt_Mval hM).1 (fun b5 b6 b19 b20 g1 => br_f (by decide) ?_)
    refine mt_entry (s := 0) (c := 1) g1 (by omega) (by omega) hz rfl (fun c5 c6 g2 => br_c (fun z => nm_r (e' := (2 : Int32)) (by decide) ?_) (fun z => ?_))
    · exact mt_s69e h3 hS (H (-2) ⟨fun y => absurd z y, fun _ => rfl⟩ c5 c6 b19 b20 g2)
    · refine mt_entry (s := 0) (c := 2) g2 (by omega) (by omega) hfl rfl (fun d5 d6 g3 => ?_)
      refine mt_fits (fun y => br_f (by decide) (H 1 ⟨fun _ _ => rfl, fun y2 => absurd y2 z⟩ d5 d6 b19 b20 g3)) (fun y => br_t rfl (nm_r (e' := (2 : Int32)) (by decide) ?_))
      exact mt_s69e h3 hS (H (-2) ⟨fun _ y2 => absurd y2 y, fun _ => rfl⟩ d5 d6 b19 b20 g3)
theorem mt_search1 {post : Int32 → St2 → Prop} {p2 : Int32} (hk : k < 4) (h3 : s < 3) (hS : mt_SE k s 1 a15 a16) (H : post (-2) (w, hf, gd, uk, un, wt, wr, sn, sk, a1, a2, a3, a4, a5, a6, a7, a8, a9, a10, a11, a12, a13, a14, a15, a16, a17, a18, a19, a20, a21, a22, a23, a24, a25, a26)) : wpX_search post (w, hf, gd, uk, un, wt, wr, sn, sk, a1, a2, a3, a4, a5, a6, a7, a8, a9, a10, a11, a12, a13, a14, a15, a16, a17, a18, a19, a20, a21, a22, a23, a24, a25, a26) (nI s) 0 p2 1 := by
  unfold wpX_search
  refine mt_ses h3 (br_f (by decide) (ml_code (fun z => absurd z (by decide)) (fun _ _ => br_f (by decide) ⟨vp_in_nI h3 (by decide), ?_⟩)))
  rw [nI_clamp (show s < 2 ^ 31 by omega), hS.2.1]
  exact br_f (nI_ne0 (by omega) (by omega)) ⟨vp_in_nI h3 (by decide), nm_e (br_t (by decide) (br_t (by decide) (nm_r (e' := (2 : Int32)) (by decide) ⟨1, mt_s69e h3 hS H⟩)))⟩
theorem mt_expungeM {post : Int32 → St2 → Prop} {f : Nat} {C' : List (List Nat)} (h : mt_TB ρ k C C False T a1 a2 a3 a4 a5 a6 a7 a8 a9 a10 a11 a12 a13 a14) (hT : T < 2 ^ 28) (hM : mt_M C 1 ch) (h3 : s < 3) (hS : mt_SE k s 1 a15 a16) (h17 : a17 (16 * s) = nI 1) (hfl : mt_gt C 2 2 = f) (hodd : mt_den ρ f &&& 1 = 1) (ep : mt_takeO C 1 C = some C') (e0 : mt_gc C' 0 0 = some 0) (e1 : mt_gc C' 0 1 = some 0) (ev : mt_val 0 1 C' = some none)
    (H : ∀ (w hf gd : Int32) (b1 b2 b3 b4 b5 b6 b7 b8 b9 b10 b11 b12 b13 b14 b16 a18 a19 a20 : Nat → Int32), mt_TB ρ k C' C' False (T + 2) b1 b2 b3 b4 b5 b6 b7 b8 b9 b10 b11 b12 b13 b14 → b16 s = nI 0 → post 1 (w, hf, gd, uk, un, wt, wr, sn, sk, b1, b2, b3, b4, b5, b6, b7, b8, b9, b10, b11, b12, b13, b14, a15, b16, a17, a18, a19, a20, a21, a22, a23, a24, a25, a26)) : wpX_expunge post (w, hf, gd, uk, un, wt, wr, sn, sk, a1, a2, a3, a4, a5, a6, a7, a8, a9, a10, a11, a12, a13, a14, a15, a16, a17, a18, a19, a20, a21, a22, a23, a24, a25, a26) (nI s) := by
  have vs : vp_in (nI s) 3 := vp_in_nI h3 (by decide)
  unfold wpX_expunge
  refine mt_idn h3 h.1 hS (br_t (by decide) ⟨vs, ?_⟩)
  rw [nI_clamp (show s < 2 ^ 31 by omega), hS.2.1]
  refine nm_r (nI_pred k) ?_
  refine mt_kaM h hM (fun z => absurd z (by decide)) (fun _ b5 b6 g1 => ⟨2, ?_⟩)
  refine br_f (by decide) (br_f (by decide) ?_)
  refine mt_recM g1 hM (fun c5 c6 c19 c20 g2 => ?_)
  refine mt_entry (s := 0) (c := 2) g2 (by omega) (by omega) hfl rfl (fun d5 d6 g3 => br_t hodd ?_)
  refine mt_takeOut (key := 1) (mt_dirty g3) ep (fun i5 i6 i7 i19 i20 g4 => nm_r (e' := (1 : Int32)) (by decide) ?_)
  unfold wX_expunge_81
  refine mt_keyAfter0 (t := 0) g4 (by omega) rfl e0 e1 (fun j5 j6 g5 => nm_r (e' := (1 : Int32)) (by decide) ?_)
  refine br_f (by decide) (br_t (by decide) ?_)
  unfold wX_expunge_97
  refine mt_save g5 hT (fun w2 hf2 gd2 r1 r2 r3 r4 r7 r8 r9 r10 r11 r12 r13 r14 r18 g6 => ?_)
  refine ⟨2, vs, ?_⟩
  rw [nI_clamp (show s < 2 ^ 31 by omega), hS.2.2, show (16 : Int32) * nI s + 0 = nI (16 * s) from mt_16 s 0, nI_clamp (show 16 * s < 2 ^ 31 by omega), h17]
  refine br_f (by decide) ⟨vp_in_nI (by omega) (by decide), nm_e ?_⟩
  refine mt_recordOf (key := 1) g6 (by omega) ev (fun l5 l6 l19 l20 g7 => br_t (by decide) (nm_r (e' := (1 : Int32)) (by decide) ⟨vs, ?_⟩))
  rw [nI_clamp (show s < 2 ^ 31 by omega), hS.2.2]
  refine br_t (by decide) ⟨vs, nm_e ⟨vs, nm_e ?_⟩⟩
  exact H w2 hf2 gd2 r1 r2 r3 r4 l5 l6 r7 r8 r9 r10 r11 r12 r13 r14 _ r18 l19 l20 g7 pk_us
theorem mt_pollM {post : Int32 → St2 → Prop} (h : mt_TB ρ k C S dd T a1 a2 a3 a4 a5 a6 a7 a8 a9 a10 a11 a12 a13 a14) (hM : mt_M C num ch) (h3 : s < 3) (hS : mt_SE k s 0 a15 a16)
    (H : ∀ b5 b6 b16 b17 : Nat → Int32, mt_TB ρ k C S dd T a1 a2 a3 a4 b5 b6 a7 a8 a9 a10 a11 a12 a13 a14 → b16 s = nI 1 → b17 (16 * s) = nI num → post 1 (w, hf, gd, uk, un, wt, wr, sn, sk, a1, a2, a3, a4, b5, b6, a7, a8, a9, a10, a11, a12, a13, a14, a15, b16, b17, a18, a19, a20, a21, a22, a23, a24, a25, a26)) : wpX_poll post (w, hf, gd, uk, un, wt, wr, sn, sk, a1, a2, a3, a4, a5, a6, a7, a8, a9, a10, a11, a12, a13, a14, a15, a16, a17, a18, a19, a20, a21, a22, a23, a24, a25, a26) (nI s) := by
  have hn := mt_Mnum hM
  have vs : vp_in (nI s) 3 := vp_in_nI h3 (by decide)
  unfold wpX_poll
  refine mt_idn h3 h.1 hS (br_t (by decide) ⟨vs, ?_⟩)
  rw [nI_clamp (show s < 2 ^ 31 by omega), hS.2.1, hS.2.2]
  refine nm_r (nI_pred k) ⟨vs, br_t rfl ?_⟩
  unfold wX_poll_52
  refine ⟨1, vs, ?_⟩
  rw [nI_clamp (show s < 2 ^ 31 by omega), hS.2.2]
  refine br_t (by decide) ⟨vs, nm_r (e' := (0 : Int32)) (by decide) ⟨vs, nm_e ?_⟩⟩
  exact mt_tellM h hM h3 pk_us (nI_nle (by omega) (by omega)) (fun c5 c6 g2 => H c5 c6 _ _ g2 pk_us pk_us)
theorem mt_copyFull {post : Int32 → St2 → Prop} {v n : Nat} (h : mt_TB ρ k C S dd T a1 a2 a3 a4 a5 a6 a7 a8 a9 a10 a11 a12 a13 a14) (h3 : s < 3) (hS : mt_SE k s 1 a15 a16) (h17 : a17 (16 * s) = nI v) (hv : v < 16777216) (ev : mt_val 0 v C = some (some 0)) (e0 : mt_gc C 1 0 = some 1) (e : mt_gc C 0 2 = some n) (hn : 14 ≤ n)
    (H : ∀ b5 b6 b19 b20 : Nat → Int32, mt_TB ρ k C S dd T a1 a2 a3 a4 b5 b6 a7 a8 a9 a10 a11 a12 a13 a14 → post (-3) (w, hf, gd, uk, un, wt, wr, sn, sk, a1, a2, a3, a4, b5, b6, a7, a8, a9, a10, a11, a12, a13, a14, a15, a16, a17, a18, b19, b20, a21, a22, a23, a24, a25, a26)) : wpX_copy post (w, hf, gd, uk, un, wt, wr, sn, sk, a1, a2, a3, a4, a5, a6, a7, a8, a9, a10, a11, a12, a13, a14, a15, a16, a17, a18, a19, a20, a21, a22, a23, a24, a25, a26) (nI s) 1 (nI k) := by
  have m := mt_gc_s e
  unfold wpX_copy
  refine mt_ses h3 (br_f (by decide) (mt_box h.1 (br_f (by decide) ?_)))
  refine mt_recAt1 (o := none) h h3 hS h17 hv ev (fun b5 b6 b19 b20 g1 => br_t (by decide) ?_)
  refine mt_isThere g1 e0 (fun _ c5 c6 g2 => br_f (by decide) ?_) (fun z => absurd rfl z)
  exact mt_messages g2 e (fun d5 d6 g3 => pk_lt n 14 (fun z => absurd z (by omega)) (fun _ => H d5 d6 b19 b20 g3))
end
end
section
/-! faults: no fault -/
def mt_E (D : List (List Nat)) : Prop := mt_gc D 0 0 = some 0 ∧ mt_gc D 0 1 = some 0 ∧ mt_gc D 0 2 = some 0 ∧ mt_gc D 0 3 = some 0 ∧ mt_gc D 0 4 = some 0 ∧ mt_gc D 0 5 = some 0 ∧ mt_gc D 0 6 = some 0 ∧ mt_gc D 1 5 = some 0
def mt_F (D : List (List Nat)) (num ch : Nat) : Prop := mt_M D num ch ∧ mt_gc D 0 5 = some 1 ∧ mt_gc D 0 6 = some 3 ∧ mt_gc D 1 5 = some 1 ∧ num < 1000000 ∧ ch < 1000000 ∧ ∃ hi, mt_gc D 1 3 = some hi ∧ ch ≤ hi
theorem mt_fnf {ρ : mt_R} {k j : Nat} {C : List (List Nat)} (hjk : j ≠ k) (hz : ∀ j b c, ρ.2 j b c = 0) : mt_fn (ρ.1, mt_fn ρ k C) j mt_ZL = mt_fn ρ k C := by
  funext i b c
  by_cases e : i = j
  · subst e
    rw [mt_fn_k, mt_gtZ, mt_fn_o hjk, hz]
    rfl
  · rw [mt_fn_o e]
theorem mt_focus {ρ : mt_R} {k j T : Nat} {C : List (List Nat)} {a1 a2 a3 a4 a5 a6 a7 a8 a9 a10 a11 a12 a13 a14 : Nat → Int32} (h : mt_TB ρ k C C False T a1 a2 a3 a4 a5 a6 a7 a8 a9 a10 a11 a12 a13 a14) (hj : j < 4) (hjk : j ≠ k) (hz : ∀ j b c, ρ.2 j b c = 0) : mt_TB (ρ.1, mt_fn ρ k C) j mt_ZL mt_ZL False T a1 a2 a3 a4 a5 a6 a7 a8 a9 a10 a11 a12 a13 a14 := by
  refine ⟨hj, mt_shpZ, mt_shpZ, ?_⟩
  rw [mt_fnf hjk hz]
  exact mj_AB_d h.2.2.2 (fun _ z => z.2.elim)
theorem mt_unfocus {ρ : mt_R} {k j T : Nat} {C : List (List Nat)} {a1 a2 a3 a4 a5 a6 a7 a8 a9 a10 a11 a12 a13 a14 : Nat → Int32} (hk : k < 4) (hC : mt_shp C) (hjk : j ≠ k) (hz : ∀ j b c, ρ.2 j b c = 0) (h : mt_TB (ρ.1, mt_fn ρ k C) j mt_ZL mt_ZL False T a1 a2 a3 a4 a5 a6 a7 a8 a9 a10 a11 a12 a13 a14) : mt_TB ρ k C C False T a1 a2 a3 a4 a5 a6 a7 a8 a9 a10 a11 a12 a13 a14 := by
  obtain ⟨h1, h2, h3, h4⟩ := h
  rw [mt_fnf hjk hz] at h4
  exact ⟨hk, hC, hC, mj_AB_d h4 (fun _ z => z.2.elim)⟩
section
variable {w hf gd uk un wt wr sn sk : Int32} {a1 a2 a3 a4 a5 a6 a7 a8 a9 a10 a11 a12 a13 a14 a15 a16 a17 a18 a19 a20 a21 a22 a23 a24 a25 a26 : Nat → Int32} {ρ : mt_R} {k j T num ch s : Nat} {C D S : List (List Nat)} {dd : Prop}
theorem mt_exp {post : St2 → Prop} (hw : wr = 0) (H : post (w, hf, gd, uk, un, wt, 0, sn, sk, a1, a2, a3, a4, a5, a6, a7, a8, a9, a10, a11, a12, a13, a14, a15, a16, a17, a18, a19, a20, a21, a22, a23, a24, a25, a26)) : wpX_expect post (w, hf, gd, uk, un, wt, wr, sn, sk, a1, a2, a3, a4, a5, a6, a7, a8, a9, a10, a11, a12, a13, a14, a15, a16, a17, a18, a19, a20, a21, a22, a23, a24, a25, a26) 1 := by
  subst hw
  unfold wpX_expect
  exact br_f (by decide) (nm_r (e' := (0 : Int32)) (by decide) H)
theorem mt_ct156 {post : St2 → Prop} {t n : Nat} (h : mt_TB ρ j D S dd T a1 a2 a3 a4 a5 a6 a7 a8 a9 a10 a11 a12 a13 a14) (ht : t < 2) (h1 : wt = 0) (h2 : sk = nI n) (h3 : wr = 0) (e : mt_gc D 0 (3 * t + 2) = some n) (hn : n ≤ 14)
    (H : ∀ b5 b6 : Nat → Int32, mt_TB ρ j D S dd T a1 a2 a3 a4 b5 b6 a7 a8 a9 a10 a11 a12 a13 a14 → post (w, hf, gd, uk, un, wt, 0, sn, sk, a1, a2, a3, a4, b5, b6, a7, a8, a9, a10, a11, a12, a13, a14, a15, a16, a17, a18, a19, a20, a21, a22, a23, a24, a25, a26)) : wX_checkTree_156 post (nI j) (nI t) w hf gd uk un wt wr sn sk a1 a2 a3 a4 a5 a6 a7 a8 a9 a10 a11 a12 a13 a14 a15 a16 a17 a18 a19 a20 a21 a22 a23 a24 a25 a26 := by
  unfold wX_checkTree_156
  refine mt_cell h e rfl (mt_t3p t 2 rfl) (fun b5 b6 g1 => br_t h1 (br_t h2.symm (br_f (nI_nlt (a := 14) hn (by omega)) ?_)))
  unfold wX_checkTree_198
  exact mt_exp h3 (H b5 b6 g1)
theorem mt_ctE {post : St2 → Prop} {t : Nat} {p1 : Int32} (h : mt_TB ρ j D S dd T a1 a2 a3 a4 a5 a6 a7 a8 a9 a10 a11 a12 a13 a14) (ht : t < 2) (h1 : p1 = nI t) (hw : wr = 0) (e0 : mt_gc D 0 (3 * t) = some 0) (e1 : mt_gc D 0 (3 * t + 1) = some 0) (e2 : mt_gc D 0 (3 * t + 2) = some 0)
    (H : ∀ (wt sk : Int32) (b5 b6 : Nat → Int32), mt_TB ρ j D S dd T a1 a2 a3 a4 b5 b6 a7 a8 a9 a10 a11 a12 a13 a14 → post (w, hf, gd, uk, un, wt, 0, sn, sk, a1, a2, a3, a4, b5, b6, a7, a8, a9, a10, a11, a12, a13, a14, a15, a16, a17, a18, a19, a20, a21, a22, a23, a24, a25, a26)) : wpX_checkTree post (w, hf, gd, uk, un, wt, wr, sn, sk, a1, a2, a3, a4, a5, a6, a7, a8, a9, a10, a11, a12, a13, a14, a15, a16, a17, a18, a19, a20, a21, a22, a23, a24, a25, a26) (nI j) p1 := by
  subst h1
  unfold wpX_checkTree
  refine mt_cell h e0 rfl (mt_t3 t) (fun b5 b6 g1 => ?_)
  refine mt_cell g1 e1 rfl (mt_t3p t 1 rfl) (fun c5 c6 g2 => br_t rfl ?_)
  unfold wX_checkTree_33
  refine br_t rfl ?_
  unfold wX_checkTree_43
  refine br_t rfl ?_
  unfold wX_checkTree_51
  refine mt_exp hw (br_t rfl ⟨1, ?_⟩)
  refine br_f (by decide) (br_t (by decide) ?_)
  exact mt_ct156 (n := 0) g2 ht rfl rfl rfl e2 (by omega) (fun d5 d6 g3 => H 0 0 d5 d6 g3)
theorem mt_ctM {post : St2 → Prop} {t x kv m0 m1 : Nat} {p1 : Int32} (h : mt_TB ρ j D S dd T a1 a2 a3 a4 a5 a6 a7 a8 a9 a10 a11 a12 a13 a14) (ht : t < 2) (h1 : p1 = nI t) (hw : wr = 0) (hsn : sn = nI m0) (hx : x < 2) (hb0 : nI m0 &&& ((1 : Int32) <<< ((nI (9 + x) - 9) &&& 31)) = 0) (hb1 : nI m0 ||| ((1 : Int32) <<< ((nI (9 + x) - 9) &&& 31)) = nI m1) (e0 : mt_gc D 0 (3 * t) = some (9 + x)) (e1 : mt_gc D 0 (3 * t + 1) = some 1) (e2 : mt_gc D 0 (3 * t + 2) = some 1) (e3 : mt_gc D (9 + x) 0 = some 1) (e4 : mt_gc D (9 + x) (1 + 0) = some kv) (e5 : mt_gc D (9 + x) (4 + 0) = some 0) (hkv : kv < 1000000)
    (H : ∀ (wt sk : Int32) (b5 b6 a23 a24 a25 a26 : Nat → Int32), mt_TB ρ j D S dd T a1 a2 a3 a4 b5 b6 a7 a8 a9 a10 a11 a12 a13 a14 → post (w, hf, gd, uk, un, wt, 0, (nI m1), sk, a1, a2, a3, a4, b5, b6, a7, a8, a9, a10, a11, a12, a13, a14, a15, a16, a17, a18, a19, a20, a21, a22, a23, a24, a25, a26)) : wpX_checkTree post (w, hf, gd, uk, un, wt, wr, sn, sk, a1, a2, a3, a4, a5, a6, a7, a8, a9, a10, a11, a12, a13, a14, a15, a16, a17, a18, a19, a20, a21, a22, a23, a24, a25, a26) (nI j) p1 := by
  subst h1 hsn
  unfold wpX_checkTree
  refine mt_cell h e0 rfl (mt_t3 t) (fun b5 b6 g1 => ?_)
  refine mt_cell g1 e1 rfl (mt_t3p t 1 rfl) (fun c5 c6 g2 => br_f (nI_ne0 (by omega) (by omega)) ?_)
  unfold wX_checkTree_33
  refine br_f (by decide) ?_
  unfold wX_checkTree_43
  refine br_t rfl ?_
  unfold wX_checkTree_51
  refine mt_exp hw (br_f (nI_ne0 (by omega) (by omega)) ?_)
  unfold wpX_push
  refine br_f (by decide) ⟨vp_in_nI (n := 0) (by omega) (by decide), nm_e ⟨vp_in_nI (n := 0) (by omega) (by decide), nm_e ⟨vp_in_nI (n := 0) (by omega) (by decide), nm_e ⟨vp_in_nI (n := 0) (by omega) (by decide), nm_e (nm_r (e' := (1 : Int32)) (by decide) ⟨2, ?_⟩)⟩⟩⟩⟩
  refine br_f (by decide) (br_f (by decide) (nm_r (e' := (0 : Int32)) (by decide) ⟨vp_in_nI (n := 0) (by omega) (by decide), vp_in_nI (n := 0) (by omega) (by decide), vp_in_nI (n := 0) (by omega) (by decide), vp_in_nI (n := 0) (by omega) (by decide), ?_⟩))
  show wpX_checkNode _ _ (nI j) (nI (9 + x)) (nI 1 - 1) 0 1000000 (nI (9 + x))
  rw [show nI 1 - 1 = (0 : Int32) by decide]
  unfold wpX_checkNode
  refine br_f (nI_nlt (b := 9) (by omega) (by omega)) (br_f (nI_ge (b := 41) (by omega) (by omega)) (br_t (by decide) (nm_e (br_t hb0 ?_))))
  unfold wX_checkNode_51
  refine mt_exp rfl (nm_r hb1 ?_)
  refine mt_cell g2 e3 rfl rfl (fun d5 d6 g3 => br_t rfl (br_t rfl ?_))
  unfold wX_checkNode_89
  refine br_f (by decide) (br_t rfl ?_)
  unfold wX_checkNode_110
  refine br_f (by decide) ?_
  unfold wX_checkNode_118
  refine mt_exp rfl (br_t rfl ?_)
  unfold wpX_checkLeaf
  refine nm_r (e' := (-1 : Int32)) (by decide) ⟨2, ?_⟩
  refine br_f (by decide) (br_f (by decide) ?_)
  refine mt_keyOf g3 e4 rfl rfl (fun f5 f6 g4 => ?_)
  refine mt_itemOf g4 e5 rfl rfl (fun i5 i6 g5 => ?_)
  refine br_f (fun z => ?_) (br_f (nI_ge (b := 1000000) hkv (by omega)) (br_f (by decide) (br_f (by decide) ?_)))
  · have := Int32.le_trans (nI_pos' (n := kv) (by omega)) z
    exact absurd this (by decide)
  · unfold wX_checkLeaf_73
    refine mt_exp rfl (nm_r (e' := nI 1) (by decide) (nm_r (e' := (1 : Int32)) (by decide) ?_))
    refine br_t (by decide) (nm_r (e' := (1 : Int32)) (by decide) ?_)
    refine br_f (by decide) (br_t (by decide) ?_)
    exact mt_ct156 (n := 1) g5 ht rfl rfl rfl e2 (by omega) (fun l5 l6 g6 => H _ _ l5 l6 _ _ _ _ g6)
theorem mt_cr131 {post : St2 → Prop} {n v : Nat} {x2 : Int32} (h : mt_TB ρ j D S dd T a1 a2 a3 a4 a5 a6 a7 a8 a9 a10 a11 a12 a13 a14) (hw : wr = 0) (h2 : x2 = nI v) (e5 : mt_gc D 1 5 = some v) (e2 : mt_gc D 0 2 = some n) (e3 : mt_gc D 0 5 = some n)
    (H : ∀ b5 b6 : Nat → Int32, mt_TB ρ j D S dd T a1 a2 a3 a4 b5 b6 a7 a8 a9 a10 a11 a12 a13 a14 → post (w, hf, gd, uk, un, wt, 0, sn, sk, a1, a2, a3, a4, b5, b6, a7, a8, a9, a10, a11, a12, a13, a14, a15, a16, a17, a18, a19, a20, a21, a22, a23, a24, a25, a26)) : wX_checkRecords_131 post (nI j) x2 w hf gd uk un wt wr sn sk a1 a2 a3 a4 a5 a6 a7 a8 a9 a10 a11 a12 a13 a14 a15 a16 a17 a18 a19 a20 a21 a22 a23 a24 a25 a26 := by
  unfold wX_checkRecords_131
  refine mt_about h e5 rfl (fun b5 b6 g1 => br_t h2 ?_)
  unfold wX_checkRecords_147
  refine mt_exp hw ?_
  refine mt_cell g1 e2 rfl rfl (fun c5 c6 g2 => ?_)
  refine mt_cell g2 e3 rfl rfl (fun d5 d6 g3 => br_t rfl ?_)
  unfold wX_checkRecords_173
  exact mt_exp rfl (H d5 d6 g3)
theorem mt_crE {post : St2 → Prop} (h : mt_TB ρ j D S dd T a1 a2 a3 a4 a5 a6 a7 a8 a9 a10 a11 a12 a13 a14) (hw : wr = 0) (hE : mt_E D)
    (H : ∀ b5 b6 : Nat → Int32, mt_TB ρ j D S dd T a1 a2 a3 a4 b5 b6 a7 a8 a9 a10 a11 a12 a13 a14 → post (w, hf, gd, uk, un, wt, 0, sn, sk, a1, a2, a3, a4, b5, b6, a7, a8, a9, a10, a11, a12, a13, a14, a15, a16, a17, a18, a19, a20, a21, a22, a23, a24, a25, a26)) : wpX_checkRecords post (w, hf, gd, uk, un, wt, wr, sn, sk, a1, a2, a3, a4, a5, a6, a7, a8, a9, a10, a11, a12, a13, a14, a15, a16, a17, a18, a19, a20, a21, a22, a23, a24, a25, a26) (nI j) := by
  obtain ⟨e0, e1, e2, e3, e4, e5, e6, e7⟩ := hE
  unfold wpX_checkRecords
  refine mt_keyAfter0 (t := 0) h (by omega) rfl e0 e1 (fun b5 b6 g1 => ⟨1, ?_⟩)
  exact br_f (by decide) (br_t (by decide) (mt_cr131 (n := 0) (v := 0) g1 hw rfl e7 e2 e5 H))
theorem mt_crM {post : St2 → Prop} (h : mt_TB ρ j D S dd T a1 a2 a3 a4 a5 a6 a7 a8 a9 a10 a11 a12 a13 a14) (hw : wr = 0) (hF : mt_F D num ch)
    (H : ∀ b5 b6 b19 b20 : Nat → Int32, mt_TB ρ j D S dd T a1 a2 a3 a4 b5 b6 a7 a8 a9 a10 a11 a12 a13 a14 → post (w, hf, gd, uk, un, wt, 0, sn, sk, a1, a2, a3, a4, b5, b6, a7, a8, a9, a10, a11, a12, a13, a14, a15, a16, a17, a18, b19, b20, a21, a22, a23, a24, a25, a26)) : wpX_checkRecords post (w, hf, gd, uk, un, wt, wr, sn, sk, a1, a2, a3, a4, a5, a6, a7, a8, a9, a10, a11, a12, a13, a14, a15, a16, a17, a18, a19, a20, a21, a22, a23, a24, a25, a26) (nI j) := by
  obtain ⟨hM, f1, f2, f3, f4, f5, hi, f6, f7⟩ := hF
  have hn := mt_Mnum hM
  have hMM := hM
  obtain ⟨m0, m1, m2, m3, m4, m5, m6, m7, m8, m9, m10, m11, m12, m13, m14, m15, m16⟩ := hM
  have hhi := mt_gc_s f6
  unfold wpX_checkRecords
  refine mt_kaM h hMM (fun z => absurd z (nI_nle (by omega) (by omega))) (fun _ b5 b6 g1 => ⟨2, ?_⟩)
  refine br_f (by decide) (br_f (nI_nle (by omega) (by omega)) ?_)
  refine mt_recM g1 hMM (fun c5 c6 c19 c20 g2 => ?_)
  refine mt_entry (s := 0) (c := 3) g2 (by omega) (by omega) (mt_gc_s m13).2.2.2 rfl (fun d5 d6 g3 => ?_)
  rw [mt_den_c hn.2.1]
  refine mt_valueOf (t := 1) g3 (by omega) rfl hn.2.1 (mt_Mval hMM).2 (fun i5 i6 i19 i20 g4 => ?_)
  refine mt_entry (s := 0) (c := 0) g4 (by omega) (by omega) (mt_gc_s m12).2.2.2 rfl (fun j5 j6 g5 => ?_)
  rw [mt_den_c hn.1]
  refine br_t rfl (br_t rfl ?_)
  unfold wX_checkRecords_77
  refine mt_exp hw ?_
  refine mt_about g5 m14 rfl (fun l5 l6 g6 => br_f (nI_ge (by omega) (by omega)) ?_)
  refine mt_about g6 f6 rfl (fun p5 p6 g7 => br_f (nI_nlt f7 (by omega)) ?_)
  unfold wX_checkRecords_107
  refine mt_exp rfl (nm_r (e' := nI 1) (by decide) ?_)
  refine mt_kaM g7 hMM (fun _ q5 q6 g8 => nm_r (e' := (1 : Int32)) (by decide) ?_) (fun z => absurd (Int32.le_refl _) z)
  refine br_f (by decide) (br_t (by decide) ?_)
  exact mt_cr131 (n := 1) (v := 1) g8 rfl rfl f3 m3 f1 (fun r5 r6 g9 => H r5 r6 i19 i20 g9)
theorem mt_clean (h : mt_TB ρ j D S False T a1 a2 a3 a4 a5 a6 a7 a8 a9 a10 a11 a12 a13 a14) : mj_ct a7 j 41 = 0 := by
  refine mj_ct_0 41 (fun b hb => ?_)
  rcases h.2.2.2.2 j b h.1 hb with ⟨_, x, _⟩ | ⟨_, _, ⟨x, _⟩ | ⟨_, _, x⟩⟩
  · exact x
  · exact x
  · exact x.elim
theorem mt_f52 {post : Int32 → St2 → Prop} {J7 : Int32 → Int32 → Int32 → Int32 → Int32 → Int32 → Int32 → Int32 → Int32 → Int32 → (Nat → Int32) → (Nat → Int32) → (Nat → Int32) → (Nat → Int32) → (Nat → Int32) → (Nat → Int32) → (Nat → Int32) → (Nat → Int32) → (Nat → Int32) → (Nat → Int32) → (Nat → Int32) → (Nat → Int32) → (Nat → Int32) → (Nat → Int32) → (Nat → Int32) → (Nat → Int32) → (Nat → Int32) → (Nat → Int32) → (Nat → Int32) → (Nat → Int32) → (Nat → Int32) → (Nat → Int32) → (Nat → Int32) → (Nat → Int32) → (Nat → Int32) → (Nat → Int32) → Prop} (h : mt_TB ρ j D D False T a1 a2 a3 a4 a5 a6 a7 a8 a9 a10 a11 a12 a13 a14) (hw : wr = 0) (hC : mt_E D ∨ ∃ num ch, mt_F D num ch)
    (H : ∀ b5 b6 b19 b20 : Nat → Int32, mt_TB ρ j D D False T a1 a2 a3 a4 b5 b6 a7 a8 a9 a10 a11 a12 a13 a14 → J7 (nI (j + 1)) w hf gd uk un wt 0 sn sk a1 a2 a3 a4 b5 b6 a7 a8 a9 a10 a11 a12 a13 a14 a15 a16 a17 a18 b19 b20 a21 a22 a23 a24 a25 a26) : wX_faults_52 post J7 (nI j) 1 w hf gd uk un wt wr sn sk a1 a2 a3 a4 a5 a6 a7 a8 a9 a10 a11 a12 a13 a14 a15 a16 a17 a18 a19 a20 a21 a22 a23 a24 a25 a26 := by
  unfold wX_faults_52
  refine mt_exp hw ?_
  rcases hC with hE | ⟨num, ch, hF⟩
  · refine mt_crE h rfl hE (fun b5 b6 g1 => ?_)
    refine mj_changedBlocks h.1 ?_
    rw [mt_clean g1]
    refine br_t rfl ?_
    unfold wX_faults_76
    exact mt_exp rfl (nm_r (nI_1 j) (H b5 b6 a19 a20 g1))
  · refine mt_crM h rfl hF (fun b5 b6 b19 b20 g1 => ?_)
    refine mj_changedBlocks h.1 ?_
    rw [mt_clean g1]
    refine br_t rfl ?_
    unfold wX_faults_76
    exact mt_exp rfl (nm_r (nI_1 j) (H b5 b6 b19 b20 g1))
theorem mt_f7 {post : Int32 → St2 → Prop} {n : Nat} (h : mt_TB ρ j D D False T a1 a2 a3 a4 a5 a6 a7 a8 a9 a10 a11 a12 a13 a14) (hw : wr = 0) (hC : mt_E D ∨ ∃ num ch, mt_F D num ch)
    (H : ∀ (wt sn sk : Int32) (b5 b6 a19 a20 a23 a24 a25 a26 : Nat → Int32), mt_TB ρ j D D False T a1 a2 a3 a4 b5 b6 a7 a8 a9 a10 a11 a12 a13 a14 → wX_faults_7 post n (nI (j + 1)) w hf gd uk un wt 0 sn sk a1 a2 a3 a4 b5 b6 a7 a8 a9 a10 a11 a12 a13 a14 a15 a16 a17 a18 a19 a20 a21 a22 a23 a24 a25 a26) : wX_faults_7 post (n + 1) (nI j) w hf gd uk un wt wr sn sk a1 a2 a3 a4 a5 a6 a7 a8 a9 a10 a11 a12 a13 a14 a15 a16 a17 a18 a19 a20 a21 a22 a23 a24 a25 a26 := by
  refine br_f (nI_ge (b := 4) h.1 (by omega)) ?_
  rcases hC with hE | ⟨num, ch, hF⟩
  · have hEE := hE
    obtain ⟨e0, e1, e2, e3, e4, e5, e6, e7⟩ := hE
    refine mt_ctE (t := 0) h (by omega) rfl hw e0 e1 e2 (fun wt1 sk1 b5 b6 g1 => ?_)
    refine mt_ctE (t := 1) g1 (by omega) rfl rfl e3 e4 e5 (fun wt2 sk2 c5 c6 g2 => ?_)
    refine mt_cell g2 e6 rfl rfl (fun d5 d6 g3 => br_t rfl ?_)
    exact mt_f52 g3 rfl (Or.inl hEE) (fun f5 f6 f19 f20 g4 => H wt2 0 sk2 f5 f6 f19 f20 a23 a24 a25 a26 g4)
  · have hFF := hF
    obtain ⟨hM, f1, f2, f3, f4, f5, hi, f6, f7⟩ := hF
    obtain ⟨m0, m1, m2, m3, m4, m5, m6, m7, m8, m9, m10, m11, m12, m13, m14, m15, m16⟩ := hM
    refine mt_ctM (t := 0) (x := 0) (m0 := 0) (m1 := 1) h (by omega) rfl hw rfl (by omega) (by decide) (by decide) m1 m2 m3 m6 m7 m8 f4 (fun wt1 sk1 b5 b6 b23 b24 b25 b26 g1 => ?_)
    refine mt_ctM (t := 1) (x := 1) (m0 := 1) (m1 := 3) g1 (by omega) rfl rfl rfl (by omega) (by decide) (by decide) m4 m5 f1 m9 m10 m11 f5 (fun wt2 sk2 c5 c6 c23 c24 c25 c26 g2 => ?_)
    refine mt_cell g2 f2 rfl rfl (fun d5 d6 g3 => br_t rfl ?_)
    exact mt_f52 g3 rfl (Or.inr ⟨num, ch, hFF⟩) (fun i5 i6 i19 i20 g4 => H wt2 _ sk2 i5 i6 i19 i20 c23 c24 c25 c26 g4)
theorem mt_EZ : mt_E mt_ZL := ⟨mt_gcZ (by omega) (by omega), mt_gcZ (by omega) (by omega), mt_gcZ (by omega) (by omega), mt_gcZ (by omega) (by omega), mt_gcZ (by omega) (by omega), mt_gcZ (by omega) (by omega), mt_gcZ (by omega) (by omega), mt_gcZ (by omega) (by omega)⟩
theorem mt_f87 {post : Int32 → St2 → Prop} (h : mt_TB ρ k C C False T a1 a2 a3 a4 a5 a6 a7 a8 a9 a10 a11 a12 a13 a14) (hw : wr = 0) (hs : ∀ i, i < 3 → a15 i = 0 ∨ (a15 i = nI (k + 1) ∧ a16 i = 0 ∧ mt_gc C 1 0 = some 1 ∧ ∃ nx, 0 < nx ∧ mt_gc C 1 2 = some nx))
    (H : ∀ b5 b6 : Nat → Int32, mt_TB ρ k C C False T a1 a2 a3 a4 b5 b6 a7 a8 a9 a10 a11 a12 a13 a14 → post 0 (w, hf, gd, uk, un, wt, 0, sn, sk, a1, a2, a3, a4, b5, b6, a7, a8, a9, a10, a11, a12, a13, a14, a15, a16, a17, a18, a19, a20, a21, a22, a23, a24, a25, a26)) : ∃ n, wX_faults_87 post n 0 w hf gd uk un wt wr sn sk a1 a2 a3 a4 a5 a6 a7 a8 a9 a10 a11 a12 a13 a14 a15 a16 a17 a18 a19 a20 a21 a22 a23 a24 a25 a26 := by
  subst hw
  refine pk_loop (σ := (Nat → Int32) × (Nat → Int32)) (fun m i s => wX_faults_87 post m (nI i) w hf gd uk un wt 0 sn sk a1 a2 a3 a4 s.1 s.2 a7 a8 a9 a10 a11 a12 a13 a14 a15 a16 a17 a18 a19 a20 a21 a22 a23 a24 a25 a26) (fun i s => mt_TB ρ k C C False T a1 a2 a3 a4 s.1 s.2 a7 a8 a9 a10 a11 a12 a13 a14) 3 0 (a5, a6) (by omega) h ?_ ?_
  · intro m s hI
    exact pk_le 3 3 (fun _ => H s.1 s.2 hI) (fun z => absurd z (by omega))
  · intro m i s hi hI hw
    obtain ⟨s5, s6⟩ := s
    show wX_faults_87 post (m + 1) (nI i) w hf gd uk un wt 0 sn sk a1 a2 a3 a4 s5 s6 a7 a8 a9 a10 a11 a12 a13 a14 a15 a16 a17 a18 a19 a20 a21 a22 a23 a24 a25 a26
    refine pk_le 3 i (fun z => absurd z (by omega)) (fun _ => ?_)
    unfold wpX_checkView
    show vp_in (nI i) 3 ∧ _
    rw [nI_clamp (show i < 2 ^ 31 by omega)]
    refine ⟨vp_in_nI hi (by decide), ?_⟩
    rcases hs i hi with e | ⟨e, e16, e0, nx, hx, e2⟩
    · exact br_t e (nm_r (nI_1 i) (hw (s5, s6) hI))
    · have hk := h.1
      have hnx := mt_gc_s e2
      rw [e]
      refine br_f (nI_ne0 (by omega) (by omega)) ⟨vp_in_nI hi (by decide), ?_⟩
      rw [show nI (k + 1) - 1 = nI k from nI_pred k]
      refine mt_isThere hI e0 (fun _ c5 c6 g1 => ?_) (fun z => absurd rfl z)
      refine mt_exp rfl ⟨1, vp_in_nI hi (by decide), ?_⟩
      rw [nI_clamp (show i < 2 ^ 31 by omega), e16, e, show nI (k + 1) - 1 = nI k from nI_pred k]
      refine br_t (by decide) ⟨vp_in_nI hi (by decide), ?_⟩
      refine mt_about g1 e2 rfl (fun d5 d6 g2 => br_f (nI_nle hx (by omega)) ?_)
      unfold wX_checkView_105
      exact mt_exp rfl (nm_r (nI_1 i) (hw (d5, d6) g2))
theorem mt_faults {post : Int32 → St2 → Prop} (h : mt_TB ρ k C C False T a1 a2 a3 a4 a5 a6 a7 a8 a9 a10 a11 a12 a13 a14) (hz : ∀ j b c, ρ.2 j b c = 0) (hC : mt_E C ∨ ∃ num ch, mt_F C num ch) (hs : ∀ i, i < 3 → a15 i = 0 ∨ (a15 i = nI (k + 1) ∧ a16 i = 0 ∧ mt_gc C 1 0 = some 1 ∧ ∃ nx, 0 < nx ∧ mt_gc C 1 2 = some nx))
    (H : ∀ (wt sn sk : Int32) (b5 b6 a19 a20 a23 a24 a25 a26 : Nat → Int32), mt_TB ρ k C C False T a1 a2 a3 a4 b5 b6 a7 a8 a9 a10 a11 a12 a13 a14 → post 0 (w, hf, gd, uk, un, wt, 0, sn, sk, a1, a2, a3, a4, b5, b6, a7, a8, a9, a10, a11, a12, a13, a14, a15, a16, a17, a18, a19, a20, a21, a22, a23, a24, a25, a26)) : wpX_faults post (w, hf, gd, uk, un, wt, wr, sn, sk, a1, a2, a3, a4, a5, a6, a7, a8, a9, a10, a11, a12, a13, a14, a15, a16, a17, a18, a19, a20, a21, a22, a23, a24, a25, a26) := by
  have hk := h.1
  have hC' := h.2.1
  unfold wpX_faults
  refine pk_loop (σ := Int32 × Int32 × Int32 × (Nat → Int32) × (Nat → Int32) × (Nat → Int32) × (Nat → Int32) × (Nat → Int32) × (Nat → Int32) × (Nat → Int32) × (Nat → Int32))
    (fun m i s => wX_faults_7 post m (nI i) w hf gd uk un s.1 0 s.2.1 s.2.2.1 a1 a2 a3 a4 s.2.2.2.1 s.2.2.2.2.1 a7 a8 a9 a10 a11 a12 a13 a14 a15 a16 a17 a18 s.2.2.2.2.2.1 s.2.2.2.2.2.2.1 a21 a22 s.2.2.2.2.2.2.2.1 s.2.2.2.2.2.2.2.2.1 s.2.2.2.2.2.2.2.2.2.1 s.2.2.2.2.2.2.2.2.2.2)
    (fun i s => mt_TB ρ k C C False T a1 a2 a3 a4 s.2.2.2.1 s.2.2.2.2.1 a7 a8 a9 a10 a11 a12 a13 a14) 4 0 (wt, sn, sk, a5, a6, a19, a20, a23, a24, a25, a26) (by omega) h ?_ ?_
  · intro m s hI
    obtain ⟨wt1, sn1, sk1, s5, s6, s19, s20, s23, s24, s25, s26⟩ := s
    show wX_faults_7 post (m + 1) (nI 4) w hf gd uk un wt1 0 sn1 sk1 a1 a2 a3 a4 s5 s6 a7 a8 a9 a10 a11 a12 a13 a14 a15 a16 a17 a18 s19 s20 a21 a22 s23 s24 s25 s26
    exact pk_le 4 4 (fun _ => mt_f87 hI rfl hs (fun b5 b6 g => H wt1 sn1 sk1 b5 b6 s19 s20 s23 s24 s25 s26 g)) (fun z => absurd z (by omega))
  · intro m i s hi hI hw
    obtain ⟨wt1, sn1, sk1, s5, s6, s19, s20, s23, s24, s25, s26⟩ := s
    show wX_faults_7 post (m + 1) (nI i) w hf gd uk un wt1 0 sn1 sk1 a1 a2 a3 a4 s5 s6 a7 a8 a9 a10 a11 a12 a13 a14 a15 a16 a17 a18 s19 s20 a21 a22 s23 s24 s25 s26
    by_cases e : i = k
    · subst e
      exact mt_f7 hI rfl hC (fun wt2 sn2 sk2 b5 b6 b19 b20 b23 b24 b25 b26 g => hw (wt2, sn2, sk2, b5, b6, b19, b20, b23, b24, b25, b26) g)
    · exact mt_f7 (mt_focus hI hi e hz) rfl (Or.inl mt_EZ) (fun wt2 sn2 sk2 b5 b6 b19 b20 b23 b24 b25 b26 g => hw (wt2, sn2, sk2, b5, b6, b19, b20, b23, b24, b25, b26) (mt_unfocus hk hC' e hz g))
end
end
section
/-! the states that the law passes through, evaluated -/
def mt_X1 : List (List Nat) := mt_ZL.set 1 [1, 1, 1, 1, 1, 0, 0, 0]
def mt_M1 (fl ch : Nat) : List (List Nat) := ((((mt_ZL.set 0 [9, 1, 1, 10, 1, 1, 3, 0]).set 1 [1, 1, 2, ch, 1, 1, 0, 0]).set 2 [1, 16777216, fl, ch, 0, 0, 0, 0]).set 9 [1, 1, 0, 0, 0, 0, 0, 0]).set 10 [1, ch, 0, 0, 0, 0, 0, 0]
def mt_X5 (ch : Nat) : List (List Nat) := (((mt_ZL.set 1 [1, 1, 2, ch + 1, 1, 0, 0, 0]).set 2 [1, 16777216, 16777219, ch, 0, 0, 0, 0]).set 9 [1, 1, 0, 0, 0, 0, 0, 0]).set 10 [1, ch, 0, 0, 0, 0, 0, 0]
def mt_X6 (ch : Nat) : List (List Nat) := ((((mt_ZL.set 0 [9, 1, 1, 10, 1, 1, 3, 0]).set 1 [1, 1, 3, ch + 2, 1, 1, 0, 0]).set 2 [2, 1000, 31, ch + 2, 0, 0, 0, 0]).set 9 [1, 2, 0, 0, 0, 0, 0, 0]).set 10 [1, ch + 2, 0, 0, 0, 0, 0, 0]
theorem mt_ev1 : mt_cre 1 mt_ZL = mt_X1 := by decide +kernel
theorem mt_ev2 : mt_put 16777216 16777217 mt_X1 = some (1, mt_M1 16777217 2) := by decide +kernel
theorem mt_ev3 : mt_chF (mt_M1 16777217 2) 0 16777218 (mt_M1 16777217 2) = some (mt_M1 16777218 3) := by decide +kernel
theorem mt_ev4 : ∀ ch, ch < 4 → 2 ≤ ch → mt_chF (mt_M1 16777218 ch) 0 16777219 (mt_M1 16777218 ch) = some (mt_M1 16777219 (ch + 1)) := by decide +kernel
theorem mt_ev5 : ∀ ch, ch < 5 → 2 ≤ ch → mt_takeO (mt_M1 16777219 ch) 1 (mt_M1 16777219 ch) = some (mt_X5 ch) := by decide +kernel
theorem mt_ev5b : ∀ ch, ch < 5 → mt_gc (mt_X5 ch) 0 0 = some 0 ∧ mt_gc (mt_X5 ch) 0 1 = some 0 ∧ mt_val 0 1 (mt_X5 ch) = some none ∧ mt_gc (mt_X5 ch) 1 0 = some 1 ∧ mt_gc (mt_X5 ch) 1 2 = some 2 ∧ mt_gc (mt_X5 ch) 0 2 = some 0 := by decide +kernel
theorem mt_ev6 : ∀ ch, ch < 5 → mt_put 1000 31 (mt_X5 ch) = some (2, mt_X6 ch) := by decide +kernel
def mt_Mb (C : List (List Nat)) (num ch : Nat) : Bool := mt_gc C 1 0 == some 1 && mt_gc C 0 0 == some 9 && mt_gc C 0 1 == some 1 && mt_gc C 0 2 == some 1 && mt_gc C 0 3 == some 10 && mt_gc C 0 4 == some 1 && mt_gc C 9 0 == some 1 && mt_gc C 9 1 == some num && mt_gc C 9 4 == some 0 && mt_gc C 10 0 == some 1 && mt_gc C 10 1 == some ch && mt_gc C 10 4 == some 0 && mt_gc C 2 0 == some num && mt_gc C 2 3 == some ch && mt_gc C 1 2 == some (num + 1) && decide (0 < num) && decide (0 < ch)
theorem mt_Mof {C : List (List Nat)} {num ch : Nat} (h : mt_Mb C num ch = true) : mt_M C num ch := by
  unfold mt_Mb at h
  simp only [Bool.and_eq_true, beq_iff_eq, decide_eq_true_eq] at h
  obtain ⟨⟨⟨⟨⟨⟨⟨⟨⟨⟨⟨⟨⟨⟨⟨⟨m0, m1⟩, m2⟩, m3⟩, m4⟩, m5⟩, m6⟩, m7⟩, m8⟩, m9⟩, m10⟩, m11⟩, m12⟩, m13⟩, m14⟩, m15⟩, m16⟩ := h
  exact ⟨m0, m1, m2, m3, m4, m5, m6, m7, m8, m9, m10, m11, m12, m13, m14, m15, m16⟩
theorem mt_MM1 : ∀ ch, ch < 5 → 2 ≤ ch → mt_Mb (mt_M1 16777217 ch) 1 ch = true ∧ mt_Mb (mt_M1 16777218 ch) 1 ch = true ∧ mt_Mb (mt_M1 16777219 ch) 1 ch = true := by decide +kernel
theorem mt_MX6 : ∀ ch, ch < 5 → mt_Mb (mt_X6 ch) 2 (ch + 2) = true := by decide +kernel
def mt_run : Nat → Nat → List (List Nat) → Option (List (List Nat))
  | 0, _, C => some C
  | n + 1, i, C => (mt_gc C 1 0).bind fun th => (mt_gc C 0 2).bind fun cn => if th = 1 ∧ cn < 14 then (mt_put i 0 C).bind fun p => if p.1 = i then mt_run n (i + 1) p.2 else none else none
def mt_finb (Y : List (List Nat)) : Bool := mt_gc Y 1 0 == some 1 && mt_gc Y 0 2 == some 14 && mt_val 0 2 Y == some (some 0) && mt_gc (mt_rem Y) 1 0 == some 0 && mt_gc (mt_rem Y) 1 4 == some 1 && mt_gc (mt_cre 2 (mt_rem Y)) 1 0 == some 1 && mt_gc (mt_cre 2 (mt_rem Y)) 0 2 == some 0 && (match mt_put 1 0 (mt_cre 2 (mt_rem Y)) with
  | none => false
  | some p => p.1 == 1 && mt_Mb p.2 1 2 && mt_gc p.2 0 5 == some 1 && mt_gc p.2 0 6 == some 3 && mt_gc p.2 1 5 == some 1 && mt_gc p.2 1 3 == some 2)
def mt_chk (ch : Nat) : Bool := match mt_run 13 3 (mt_X6 ch) with
  | none => false
  | some Y => mt_finb Y
theorem mt_ev7a : mt_chk 2 = true := by decide +kernel
theorem mt_ev7b : mt_chk 3 = true := by decide +kernel
theorem mt_ev7c : mt_chk 4 = true := by decide +kernel
theorem mt_ev7 {ch : Nat} (h : ch < 5) (h2 : 2 ≤ ch) : ∃ Y, mt_run 13 3 (mt_X6 ch) = some Y ∧ mt_gc Y 1 0 = some 1 ∧ mt_gc Y 0 2 = some 14 ∧ mt_val 0 2 Y = some (some 0) ∧ mt_gc (mt_rem Y) 1 0 = some 0 ∧ mt_gc (mt_rem Y) 1 4 = some 1 ∧ mt_gc (mt_cre 2 (mt_rem Y)) 1 0 = some 1 ∧ mt_gc (mt_cre 2 (mt_rem Y)) 0 2 = some 0 ∧ ∃ W, mt_put 1 0 (mt_cre 2 (mt_rem Y)) = some (1, W) ∧ mt_F W 1 2 := by
  have hc : mt_chk ch = true := by
    rcases (show ch = 2 ∨ ch = 3 ∨ ch = 4 by omega) with e | e | e
    · rw [e]; exact mt_ev7a
    · rw [e]; exact mt_ev7b
    · rw [e]; exact mt_ev7c
  unfold mt_chk at hc
  cases hr : mt_run 13 3 (mt_X6 ch) with
  | none => rw [hr] at hc; exact absurd hc (by decide)
  | some Y =>
    rw [hr] at hc
    have hc2 : mt_finb Y = true := hc
    unfold mt_finb at hc2
    cases hp : mt_put 1 0 (mt_cre 2 (mt_rem Y)) with
    | none => rw [hp] at hc2; simp at hc2
    | some p =>
      rw [hp] at hc2
      simp only [Bool.and_eq_true, beq_iff_eq] at hc2
      obtain ⟨⟨⟨⟨⟨⟨⟨c1, c2⟩, c3⟩, c4⟩, c5⟩, c6⟩, c7⟩, ⟨⟨⟨⟨p1, p2⟩, p3⟩, p4⟩, p5⟩, p6⟩ := hc2
      obtain ⟨n, W⟩ := p
      dsimp only at p1 p2 p3 p4 p5 p6
      subst p1
      exact ⟨Y, rfl, c1, c2, c3, c4, c5, c6, c7, W, hp, mt_Mof p2, p3, p4, p5, by omega, by omega, 2, p6, by omega⟩
/-! other names for the same contents -/
theorem mj_AB_cg {F F' Cu Cu' : Nat → Nat → Nat → Int32} {d : Nat → Prop} {T : Nat} {a1 a2 a3 a4 a5 a6 a7 a8 a9 a10 a11 a12 a13 a14 : Nat → Int32} (h : mj_AB F Cu d T a1 a2 a3 a4 a5 a6 a7 a8 a9 a10 a11 a12 a13 a14) (e1 : ∀ j b c, b < 41 → c < 8 → F' j b c = F j b c) (e2 : ∀ j b c, b < 41 → c < 8 → Cu' j b c = Cu j b c) : mj_AB F' Cu' d T a1 a2 a3 a4 a5 a6 a7 a8 a9 a10 a11 a12 a13 a14 := by
  refine ⟨fun j hj => mj_JR_sv (h.1 j hj) (e1 j), fun j b hj hb => ?_⟩
  rcases h.2 j b hj hb with ⟨x1, x2, x3⟩ | ⟨x1, x2, ⟨x3, x4⟩ | x3⟩
  · exact Or.inl ⟨x1, x2, fun c hc => by rw [e1 j b c hb hc, e2 j b c hb hc]; exact x3 c hc⟩
  · exact Or.inr ⟨x1, fun c hc => by rw [e2 j b c hb hc]; exact x2 c hc, Or.inl ⟨x3, fun c hc => by rw [e1 j b c hb hc, e2 j b c hb hc]; exact x4 c hc⟩⟩
  · exact Or.inr ⟨x1, fun c hc => by rw [e2 j b c hb hc]; exact x2 c hc, Or.inr x3⟩
theorem mt_shpM1 : ∀ ch, ch < 5 → (mt_M1 16777217 ch).length = 41 ∧ ∀ b, b < 41 → ((mt_M1 16777217 ch).getD b []).length = 8 := by decide +kernel
theorem mt_shpM2 : ∀ ch, ch < 5 → (mt_M1 16777218 ch).length = 41 ∧ ∀ b, b < 41 → ((mt_M1 16777218 ch).getD b []).length = 8 := by decide +kernel
theorem mt_shpM3 : ∀ ch, ch < 5 → (mt_M1 16777219 ch).length = 41 ∧ ∀ b, b < 41 → ((mt_M1 16777219 ch).getD b []).length = 8 := by decide +kernel
theorem mt_eqM12 : ∀ ch, ch < 5 → ∀ b, b < 41 → ∀ c, c < 8 → (mt_gt (mt_M1 16777218 ch) b c = mt_gt (mt_M1 16777217 ch) b c ∨ (mt_gt (mt_M1 16777218 ch) b c = 16777218 ∧ mt_gt (mt_M1 16777217 ch) b c = 16777217)) := by decide +kernel
theorem mt_eqM23 : ∀ ch, ch < 5 → ∀ b, b < 41 → ∀ c, c < 8 → (mt_gt (mt_M1 16777219 ch) b c = mt_gt (mt_M1 16777218 ch) b c ∨ (mt_gt (mt_M1 16777219 ch) b c = 16777219 ∧ mt_gt (mt_M1 16777218 ch) b c = 16777218)) := by decide +kernel
theorem mt_TB_cg {ρ : mt_R} {k T : Nat} {C C' : List (List Nat)} {a1 a2 a3 a4 a5 a6 a7 a8 a9 a10 a11 a12 a13 a14 : Nat → Int32} (h : mt_TB ρ k C C False T a1 a2 a3 a4 a5 a6 a7 a8 a9 a10 a11 a12 a13 a14) (hs : mt_shp C') (e : ∀ b c, b < 41 → c < 8 → mt_den ρ (mt_gt C' b c) = mt_den ρ (mt_gt C b c)) : mt_TB ρ k C' C' False T a1 a2 a3 a4 a5 a6 a7 a8 a9 a10 a11 a12 a13 a14 := by
  have ef : ∀ j b c, b < 41 → c < 8 → mt_fn ρ k C' j b c = mt_fn ρ k C j b c := by
    intro j b c hb hc
    unfold mt_fn
    by_cases q : j = k
    · rw [if_pos q, if_pos q, e b c hb hc]
    · rw [if_neg q, if_neg q]
  exact ⟨h.1, hs, hs, mj_AB_cg h.2.2.2 ef ef⟩
end
section
/-! the law: its last part -/
def ml_ρ (sz fl nw : Int32) : mt_R := ((fun i => if i = 0 then sz else if i = 1 then fl else if i = 2 then nw else nw ||| 1), fun _ _ _ => 0)
theorem ml_d0 {sz fl nw : Int32} : mt_den (ml_ρ sz fl nw) 16777216 = sz := rfl
theorem ml_d1 {sz fl nw : Int32} : mt_den (ml_ρ sz fl nw) 16777217 = fl := rfl
theorem ml_d2 {sz fl nw : Int32} : mt_den (ml_ρ sz fl nw) 16777218 = nw := rfl
theorem ml_d3 {sz fl nw : Int32} : mt_den (ml_ρ sz fl nw) 16777219 = nw ||| 1 := rfl
section
variable {post : Int32 → St0 → Prop} {mc ms kc ks : Nat} {ρ : mt_R} {k s : Nat}
theorem ml_1482 {wt wr sn sk : Int32} {a15 a16 a17 a23 a24 a25 a26 : Nat → Int32} {Y W : List (List Nat)} (hpost : post 1 ()) (hz : ∀ j b c, ρ.2 j b c = 0) (h3 : s < 3) (hS : mt_SE k s 1 a15 a16) (h17 : a17 (16 * s) = nI 2)
    (y1 : mt_gc Y 1 0 = some 1) (y2 : mt_gc Y 0 2 = some 14) (y3 : mt_val 0 2 Y = some (some 0)) (y4 : mt_gc (mt_rem Y) 1 0 = some 0) (y5 : mt_gc (mt_rem Y) 1 4 = some 1) (y6 : mt_gc (mt_cre 2 (mt_rem Y)) 1 0 = some 1) (y7 : mt_gc (mt_cre 2 (mt_rem Y)) 0 2 = some 0) (y8 : mt_put 1 0 (mt_cre 2 (mt_rem Y)) = some (1, W)) (y9 : mt_F W 1 2) :
    ∀ (n i T : Nat) (C : List (List Nat)) (w hf gd uk un : Int32) (a1 a2 a3 a4 a5 a6 a7 a8 a9 a10 a11 a12 a13 a14 a18 a19 a20 a21 a22 : Nat → Int32), mt_TB ρ k C C False T a1 a2 a3 a4 a5 a6 a7 a8 a9 a10 a11 a12 a13 a14 → T + 2 * n < 1000000 → mt_run n i C = some Y → i + n = 16 → 3 ≤ i → wL_lawOf_1482 post mc ms (nI k) (nI s) kc ks (n + 1) (nI i) w hf gd uk un wt wr sn sk a1 a2 a3 a4 a5 a6 a7 a8 a9 a10 a11 a12 a13 a14 a15 a16 a17 a18 a19 a20 a21 a22 a23 a24 a25 a26
  | 0, i, T, C, w, hf, gd, uk, un, a1, a2, a3, a4, a5, a6, a7, a8, a9, a10, a11, a12, a13, a14, a18, a19, a20, a21, a22, h, hT, hr, hi, hi3 => by
    have e := Option.some.inj hr
    subst e
    have hk := h.1
    refine pk_le 16 i (fun _ => ?_) (fun z => absurd z (by omega))
    refine mt_appendFull (sz := 1) (fl := 0) h (by omega) (by omega) (by omega) rfl rfl y1 y2 (by omega) (fun b5 b6 g1 => br_t rfl ?_)
    refine mt_copyFull g1 h3 hS h17 (by omega) y3 y1 y2 (by omega) (fun c5 c6 c19 c20 g2 => br_t rfl ?_)
    refine mt_aacFull (sz := 1) (fl := 0) g2 (by decide) (by omega) (by omega) (by omega) (by decide) (by decide) y1 y2 (by omega) (fun d5 d6 g3 => br_t rfl ?_)
    refine mt_length h3 hk hS (br_t rfl ?_)
    refine mt_remove1 g3 (by omega) y1 y2 (fun i hi => ?_) (fun w1 hf1 gd1 e1 e2 e3 e4 e5 e6 e7 e8 e9 e10 e11 e12 e13 e14 e15 e18 g4 z15 => br_t rfl ?_)
    · by_cases q : i = s
      · rw [q]; exact Or.inr hS.2.1
      · exact Or.inl (hS.1 i hi q)
    · refine ml0_length (s := s) (x10 := 1) (x12 := -2) (Or.inr ⟨rfl, rfl, rfl⟩) h3 z15 (br_t rfl ?_)
      refine mt_create1 g4 (by omega) hz y4 y5 (by omega) (fun w2 hf2 gd2 f1 f2 f3 f4 f5 f6 f7 f8 f9 f10 f11 f12 f13 f14 f18 g5 => br_t rfl ?_)
      refine mt_append1 (sz := 1) (fl := 0) (tz := 1) (tf := 0) g5 (by omega) (by omega) (by omega) (by omega) rfl rfl rfl rfl y6 y7 (by omega) y8 (fun w3 hf3 gd3 uk3 un3 i1 i2 i3 i4 i5 i6 i7 i8 i9 i10 i11 i12 i13 i14 i18 i19 i20 i21 i22 g6 => br_t rfl ?_)
      refine mt_vanM g6 y9.1 (fun j5 j6 j19 j20 g7 => br_t rfl ?_)
      exact mt_faults g7 hz (Or.inr ⟨1, 2, y9⟩) (fun i hi => Or.inl (z15 i hi)) (fun _ _ _ _ _ _ _ _ _ _ _ _ => br_t rfl hpost)
  | n + 1, i, T, C, w, hf, gd, uk, un, a1, a2, a3, a4, a5, a6, a7, a8, a9, a10, a11, a12, a13, a14, a18, a19, a20, a21, a22, h, hT, hr, hi, hi3 => by
    replace hr := mt_ob hr
    obtain ⟨th, r1, hr⟩ := hr
    replace hr := mt_ob hr
    obtain ⟨cn, r2, hr⟩ := hr
    replace hr := mt_og hr
    obtain ⟨⟨r3, r4⟩, hr⟩ := hr
    replace hr := mt_ob hr
    obtain ⟨⟨nm, C2⟩, r5, hr⟩ := hr
    replace hr := mt_og hr
    obtain ⟨r6, hr⟩ := hr
    dsimp only at r6 hr
    subst r3 r6
    refine pk_le 16 nm (fun z => absurd z (by omega)) (fun _ => ?_)
    refine mt_append1 (sz := nm) (fl := 0) (tz := nm) (tf := 0) h (by omega) (by omega) (by omega) (by omega) rfl rfl (mt_den_c (by omega)).symm rfl r1 r2 r4 r5 (fun w3 hf3 gd3 uk3 un3 i1 i2 i3 i4 i5 i6 i7 i8 i9 i10 i11 i12 i13 i14 i18 i19 i20 i21 i22 g6 => br_t rfl (nm_r (nI_1 nm) ?_))
    exact ml_1482 hpost hz h3 hS h17 y1 y2 y3 y4 y5 y6 y7 y8 y9 n (nm + 1) (T + 2) C2 w3 hf3 gd3 uk3 un3 i1 i2 i3 i4 i5 i6 i7 i8 i9 i10 i11 i12 i13 i14 i18 i19 i20 i21 i22 g6 (by omega) hr (by omega) (by omega)
end
theorem ml_fits : ∀ nw, nw < 32 → (nI nw &&& (nI (992 + nw) >>> ((5 : Int32) &&& 31)) = (nI (992 + nw) &&& 31) &&& (nI (992 + nw) >>> ((5 : Int32) &&& 31))) ∧ (nI nw &&& (nI 0 >>> ((5 : Int32) &&& 31)) = (nI 0 &&& 31) &&& (nI 0 >>> ((5 : Int32) &&& 31))) ∧ nI nw ^^^ 4 = nI (nw ^^^ 4) ∧ nw ^^^ 4 < 32 ∧ ¬ (nI nw &&& (nI (992 + (nw ^^^ 4)) >>> ((5 : Int32) &&& 31)) = (nI (992 + (nw ^^^ 4)) &&& 31) &&& (nI (992 + (nw ^^^ 4)) >>> ((5 : Int32) &&& 31))) ∧ (nI nw ||| 1) &&& 1 = 1 := by decide +kernel
theorem ml_now : ∀ fl, fl < 32 → ∀ cd, cd < 96 → (ml_nf (nI fl) cd).toNatClampNeg < 32 ∧ ml_nf (nI fl) cd = nI (ml_nf (nI fl) cd).toNatClampNeg := by decide +kernel
theorem mt_ev8 : ∀ ch, ch < 4 → 2 ≤ ch → (mt_put 16777216 16777217 (mt_M1 16777218 ch)).isSome = true := by decide +kernel
theorem mt_gtM : ∀ ch, ch < 5 → mt_gt (mt_M1 16777217 ch) 2 2 = 16777217 ∧ mt_gt (mt_M1 16777218 ch) 2 2 = 16777218 ∧ mt_gt (mt_M1 16777219 ch) 2 2 = 16777219 ∧ mt_gt (mt_M1 16777217 ch) 2 1 = 16777216 ∧ mt_gt (mt_M1 16777218 ch) 2 1 = 16777216 ∧ mt_gt (mt_M1 16777217 ch) 2 3 = ch ∧ mt_gt (mt_M1 16777218 ch) 2 3 = ch ∧ mt_gc (mt_M1 16777217 ch) 1 3 = some ch ∧ mt_gc (mt_M1 16777218 ch) 1 3 = some ch ∧ mt_gc (mt_M1 16777217 ch) 1 2 = some 2 ∧ mt_gc (mt_M1 16777218 ch) 1 2 = some 2 := by decide +kernel
section
variable {w hf gd uk un wt wr sn sk : Int32} {a1 a2 a3 a4 a5 a6 a7 a8 a9 a10 a11 a12 a13 a14 a15 a16 a17 a18 a19 a20 a21 a22 a23 a24 a25 a26 : Nat → Int32} {ρ : mt_R} {k s T ch : Nat} {sz fl nw : Nat}
theorem mt_store33 {post : Int32 → St2 → Prop} (h : mt_TB (ml_ρ (nI sz) (nI fl) (nI nw)) k (mt_M1 16777218 ch) (mt_M1 16777218 ch) False T a1 a2 a3 a4 a5 a6 a7 a8 a9 a10 a11 a12 a13 a14) (hT : T < 1000000) (h3 : s < 3) (hS : mt_SE k s 1 a15 a16) (h17 : a17 (16 * s) = nI 1) (c2 : 2 ≤ ch) (c4 : ch < 4)
    (H : ∀ (ch' : Nat) (w hf gd uk un : Int32) (b1 b2 b3 b4 b5 b6 b7 b8 b9 b10 b11 b12 b13 b14 a18 a19 a20 a21 a22 : Nat → Int32), 2 ≤ ch' → ch' < 5 → mt_TB (ml_ρ (nI sz) (nI fl) (nI nw)) k (mt_M1 16777219 ch') (mt_M1 16777219 ch') False (T + 2) b1 b2 b3 b4 b5 b6 b7 b8 b9 b10 b11 b12 b13 b14 → post (nI nw ||| 1) (w, hf, gd, uk, un, wt, wr, sn, sk, b1, b2, b3, b4, b5, b6, b7, b8, b9, b10, b11, b12, b13, b14, a15, a16, a17, a18, a19, a20, a21, a22, a23, a24, a25, a26)) : wpX_store post (w, hf, gd, uk, un, wt, wr, sn, sk, a1, a2, a3, a4, a5, a6, a7, a8, a9, a10, a11, a12, a13, a14, a15, a16, a17, a18, a19, a20, a21, a22, a23, a24, a25, a26) (nI s) 1 33 := by
  have hM := mt_Mof (mt_MM1 ch (by omega) c2).2.1
  have hg := mt_gtM ch (by omega)
  have e33 : ml_nf (mt_den (ml_ρ (nI sz) (nI fl) (nI nw)) 16777218) 33 = nI nw ||| 1 := rfl
  refine mt_storeM (cd := 33) (f := 16777218) (f' := 16777219) (C' := mt_M1 16777219 (ch + 1)) h (by omega) hM h3 hS h17 hg.2.1 rfl (by omega) rfl (fun z b5 b6 b19 b20 g => ?_) (fun _ => mt_ev4 ch c4 c2) (fun _ w1 hf1 gd1 uk1 un1 b1 b2 b3 b4 b5 b6 b7 b8 b9 b10 b11 b12 b13 b14 b18 b19 b20 b21 b22 g => ?_)
  · rw [e33] at z ⊢
    refine H ch w hf gd uk un a1 a2 a3 a4 b5 b6 a7 a8 a9 a10 a11 a12 a13 a14 a18 b19 b20 a21 a22 c2 (by omega) (mt_T (mt_TB_cg g (mt_shpM3 ch (by omega)) (fun b c hb hc => ?_)) (by omega))
    rcases mt_eqM23 ch (by omega) b hb c hc with q | ⟨q1, q2⟩
    · rw [q]
    · rw [q1, q2, ml_d3, ml_d2]
      exact z
  · rw [e33]
    exact H (ch + 1) w1 hf1 gd1 uk1 un1 b1 b2 b3 b4 b5 b6 b7 b8 b9 b10 b11 b12 b13 b14 b18 b19 b20 b21 b22 (by omega) (by omega) g
theorem mt_storeC {post : Int32 → St2 → Prop} {cd : Nat} {p2 : Int32} (h : mt_TB (ml_ρ (nI sz) (nI fl) (nI nw)) k (mt_M1 16777217 2) (mt_M1 16777217 2) False T a1 a2 a3 a4 a5 a6 a7 a8 a9 a10 a11 a12 a13 a14) (hT : T < 1000000) (h3 : s < 3) (hS : mt_SE k s 1 a15 a16) (h17 : a17 (16 * s) = nI 1) (h2 : p2 = nI cd) (hc : cd < 96) (hn : ml_nf (nI fl) cd = nI nw)
    (H : ∀ (ch : Nat) (w hf gd uk un : Int32) (b1 b2 b3 b4 b5 b6 b7 b8 b9 b10 b11 b12 b13 b14 a18 a19 a20 a21 a22 : Nat → Int32), (nI nw = nI fl ∧ ch = 2) ∨ (¬ nI nw = nI fl ∧ ch = 3) → mt_TB (ml_ρ (nI sz) (nI fl) (nI nw)) k (mt_M1 16777218 ch) (mt_M1 16777218 ch) False (T + 2) b1 b2 b3 b4 b5 b6 b7 b8 b9 b10 b11 b12 b13 b14 → post (nI nw) (w, hf, gd, uk, un, wt, wr, sn, sk, b1, b2, b3, b4, b5, b6, b7, b8, b9, b10, b11, b12, b13, b14, a15, a16, a17, a18, a19, a20, a21, a22, a23, a24, a25, a26)) : wpX_store post (w, hf, gd, uk, un, wt, wr, sn, sk, a1, a2, a3, a4, a5, a6, a7, a8, a9, a10, a11, a12, a13, a14, a15, a16, a17, a18, a19, a20, a21, a22, a23, a24, a25, a26) (nI s) 1 p2 := by
  have hM := mt_Mof (mt_MM1 2 (by omega) (by omega)).1
  have hg := mt_gtM 2 (by omega)
  have ed : ml_nf (mt_den (ml_ρ (nI sz) (nI fl) (nI nw)) 16777217) cd = nI nw := hn
  refine mt_storeM (cd := cd) (f := 16777217) (f' := 16777218) (C' := mt_M1 16777218 3) h (by omega) hM h3 hS h17 hg.1 h2 hc ed.symm (fun z b5 b6 b19 b20 g => ?_) (fun _ => mt_ev3) (fun z w1 hf1 gd1 uk1 un1 b1 b2 b3 b4 b5 b6 b7 b8 b9 b10 b11 b12 b13 b14 b18 b19 b20 b21 b22 g => ?_)
  · rw [ed] at z ⊢
    refine H 2 w hf gd uk un a1 a2 a3 a4 b5 b6 a7 a8 a9 a10 a11 a12 a13 a14 a18 b19 b20 a21 a22 (Or.inl ⟨z, rfl⟩) (mt_T (mt_TB_cg g (mt_shpM2 2 (by omega)) (fun b c hb hc => ?_)) (by omega))
    rcases mt_eqM12 2 (by omega) b hb c hc with q | ⟨q1, q2⟩
    · rw [q]
    · rw [q1, q2, ml_d2, ml_d1]
      exact z
  · rw [ed] at z ⊢
    exact H 3 w1 hf1 gd1 uk1 un1 b1 b2 b3 b4 b5 b6 b7 b8 b9 b10 b11 b12 b13 b14 b18 b19 b20 b21 b22 (Or.inr ⟨z, rfl⟩) g
theorem mt_vanX {post : Int32 → St2 → Prop} {C S : List (List Nat)} {dd : Prop} (h : mt_TB ρ k C S dd T a1 a2 a3 a4 a5 a6 a7 a8 a9 a10 a11 a12 a13 a14) (e0 : mt_gc C 1 0 = some 1) (e2 : mt_gc C 1 2 = some 2) (ev : mt_val 0 1 C = some none)
    (H : ∀ b5 b6 b19 b20 : Nat → Int32, mt_TB ρ k C S dd T a1 a2 a3 a4 b5 b6 a7 a8 a9 a10 a11 a12 a13 a14 → post 1 (w, hf, gd, uk, un, wt, wr, sn, sk, a1, a2, a3, a4, b5, b6, a7, a8, a9, a10, a11, a12, a13, a14, a15, a16, a17, a18, b19, b20, a21, a22, a23, a24, a25, a26)) : wpX_vanished post (w, hf, gd, uk, un, wt, wr, sn, sk, a1, a2, a3, a4, a5, a6, a7, a8, a9, a10, a11, a12, a13, a14, a15, a16, a17, a18, a19, a20, a21, a22, a23, a24, a25, a26) (nI k) 1 := by
  unfold wpX_vanished
  refine mt_trouble h e0 (fun _ b5 b6 g1 => br_t (by decide) (br_f (by decide) ?_)) (fun z => absurd rfl z)
  refine mt_about g1 e2 rfl (fun c5 c6 g2 => br_f (by decide) ?_)
  exact mt_recordOf (key := 1) g2 (by omega) ev (fun d5 d6 d19 d20 g3 => br_f (by decide) (H d5 d6 d19 d20 g3))
set_option maxHeartbeats 8000000 in
theorem ml_1183 {post : Int32 → St0 → Prop} {mc ms kc ks : Nat} {x0 x3 : Int32} (hpost : post 1 ()) (h : mt_TB (ml_ρ (nI sz) (nI fl) (nI nw)) k (mt_M1 16777218 ch) (mt_M1 16777218 ch) False T a1 a2 a3 a4 a5 a6 a7 a8 a9 a10 a11 a12 a13 a14) (hT : T < 1000) (h3 : s < 3) (hS : mt_SE k s 1 a15 a16) (h17 : a17 (16 * s) = nI 1) (s1 : 1 ≤ sz) (s2 : sz ≤ 1000) (f1 : fl < 32) (n1 : nw < 32) (c2 : 2 ≤ ch) (c4 : ch < 4) :
    wL_lawOf_1183 post mc ms x0 x3 (nI k) (nI s) (nI sz) (nI fl) (nI nw) (nI ch) kc ks w hf gd uk un wt wr sn sk a1 a2 a3 a4 a5 a6 a7 a8 a9 a10 a11 a12 a13 a14 a15 a16 a17 a18 a19 a20 a21 a22 a23 a24 a25 a26 := by
  have hk := h.1
  have hz : ∀ j b c, (ml_ρ (nI sz) (nI fl) (nI nw)).2 j b c = 0 := fun _ _ _ => rfl
  have hM := mt_Mof (mt_MM1 ch (by omega) c2).2.1
  have hg := mt_gtM ch (by omega)
  have hft := ml_fits nw n1
  unfold wL_lawOf_1183
  refine mt_fetch1 (c := 3) h hM h3 hS h17 hg.2.2.2.2.2.2.1 (Or.inr (Or.inr ⟨rfl, rfl⟩)) (fun b5 b6 b19 b20 g1 => br_t (mt_den_c (by omega)) ?_)
  refine mt_statusA (q := 2) g1 (by omega) rfl hM.1 hg.2.2.2.2.2.2.2.2.1 (fun c5 c6 g2 => br_t rfl ?_)
  refine mt_searchM (cd := 992 + nw) g2 hM h3 hS h17 hg.2.1 hg.2.2.2.2.1 (mj_q nw 992 rfl) (by omega) (fun r hr d5 d6 d19 d20 g3 => br_t (hr.1 (nI_nlt (Nat.le_refl sz) (by omega)) ?_) ?_)
  · rw [show 992 + nI nw = nI (992 + nw) from mj_q nw 992 rfl]; exact hft.1
  refine mt_searchM (cd := 0) g3 hM h3 hS h17 hg.2.1 hg.2.2.2.2.1 rfl (by omega) (fun r hr e5 e6 e19 e20 g4 => br_t (hr.2 ?_) ?_)
  · rw [ml_d0, nI_1]; exact nI_lt (by omega) (by omega)
  refine mt_search1 hk h3 hS (br_t rfl ?_)
  refine mt_aacBad g4 (Or.inl (by decide)) (br_t rfl ?_)
  refine mt_aacBad g4 (Or.inr (fun a b q1 q2 q3 q4 q5 => ?_)) (br_t rfl ?_)
  · have := (nI_eq (a := 0) (by omega) (by omega)).mp ((show nI 0 = (31 : Int32) >>> ((5 : Int32) &&& 31) by decide).trans q4)
    omega
  refine mt_aacBad g4 (Or.inr (fun a b q1 q2 q3 q4 q5 => ?_)) (br_t rfl ?_)
  · have := (nI_eq (a := 1001) (by omega) (by omega)).mp ((show nI 1001 = (32032 : Int32) >>> ((5 : Int32) &&& 31) by decide).trans q4)
    omega
  refine mt_length h3 hk hS (br_t rfl ?_)
  obtain ⟨⟨pn, pC⟩, hput⟩ := Option.isSome_iff_exists.mp (mt_ev8 ch c4 c2)
  have ecode : (32 : Int32) * nI sz + nI fl = nI (32 * sz + fl) := by rw [show (32 : Int32) = nI 32 from rfl, pk_mul, nI_add]
  have esh : nI (32 * sz + fl) >>> ((5 : Int32) &&& 31) = nI sz := by
    rw [pk_shrN (by omega) _ 5 (by decide)]
    congr 1
    omega
  have ean : nI (32 * sz + fl) &&& 31 = nI fl := by
    rw [pk_andN (by omega) 5 (by decide)]
    congr 1
    omega
  rw [ecode]
  refine mt_aac1 (sz := sz) (fl := fl) (tz := 16777216) (tf := 16777217) g4 (by omega) (nI_pos (by omega)) s1 s2 (by omega) esh ean esh ean hM.1 hM.2.2.2.1 (by omega) hput (fun w1 hf1 gd1 uk1 un1 i1 i2 i3 i4 i5 i6 i7 i8 i9 i10 i11 i12 i13 i14 i15 i18 i19 i20 i21 i22 g5 z15 => br_t rfl ?_)
  refine ml0_length (s := s) (x10 := 1) (x12 := -2) (Or.inr ⟨rfl, rfl, rfl⟩) h3 z15 (br_t rfl ?_)
  refine mt_status3 g5 hM.1 hM.2.2.2.1 (fun j5 j6 g6 => br_t rfl ?_)
  refine mt_statusA (q := 1) g6 (by omega) rfl hM.1 hg.2.2.2.2.2.2.2.2.2.2 (fun l5 l6 g7 => br_t rfl ?_)
  refine mt_selM g7 hM h3 (fun p5 p6 p16 p17 g8 q16 q17 => br_t rfl ?_)
  have hS2 : mt_SE k s 1 (upd i15 s (nI (k + 1))) p16 := ⟨fun i hi hne => by rw [pk_un hne]; exact z15 i hi, pk_us, q16⟩
  refine mt_store33 g8 (by omega) h3 hS2 q17 c2 c4 (fun ch' w2 hf2 gd2 uk2 un2 r1 r2 r3 r4 r5 r6 r7 r8 r9 r10 r11 r12 r13 r14 r18 r19 r20 r21 r22 d2 d5 g9 => br_t rfl ?_)
  have hM3 := mt_Mof (mt_MM1 ch' d5 d2).2.2
  have hx5 := mt_ev5b ch' d5
  refine mt_expungeM g9 (by omega) hM3 h3 hS2 q17 (mt_gtM ch' d5).2.2.1 hft.2.2.2.2.2 (mt_ev5 ch' d5 d2) hx5.1 hx5.2.1 hx5.2.2.1 (fun w3 hf3 gd3 t1 t2 t3 t4 t5 t6 t7 t8 t9 t10 t11 t12 t13 t14 t16 t18 t19 t20 g10 z16 => br_t rfl ?_)
  have hS3 : mt_SE k s 0 (upd i15 s (nI (k + 1))) t16 := ⟨hS2.1, hS2.2.1, z16⟩
  refine mt_length h3 hk hS3 (br_t rfl ?_)
  refine mt_vanX g10 hx5.2.2.2.1 hx5.2.2.2.2.1 hx5.2.2.1 (fun u5 u6 u19 u20 g11 => br_t rfl ?_)
  refine mt_append1 (sz := 1000) (fl := 31) (tz := 1000) (tf := 31) g11 (by omega) (by omega) (by omega) (by omega) rfl rfl rfl rfl hx5.2.2.2.1 hx5.2.2.2.2.2 (by omega) (mt_ev6 ch' d5) (fun w4 hf4 gd4 uk4 un4 v1 v2 v3 v4 v5 v6 v7 v8 v9 v10 v11 v12 v13 v14 v18 v19 v20 v21 v22 g12 => br_t rfl ?_)
  refine mt_pollM g12 (mt_Mof (mt_MX6 ch' d5)) h3 hS3 (fun o5 o6 o16 o17 g13 q16 q17 => br_t rfl ?_)
  have hS4 : mt_SE k s 1 (upd i15 s (nI (k + 1))) o16 := ⟨hS2.1, hS2.2.1, q16⟩
  refine mt_numAt h3 (mt_told1 h3 hk hS4 q17 (br_t rfl ?_))
  obtain ⟨Y, y0, y1, y2, y3, y4, y5, y6, y7, W, y8, y9⟩ := mt_ev7 d5 d2
  exact ⟨14, ml_1482 hpost hz h3 hS4 q17 y1 y2 y3 y4 y5 y6 y7 y8 y9 13 3 _ _ _ _ _ _ _ _ _ _ _ _ _ _ _ _ _ _ _ _ _ _ _ _ _ _ g13 (by omega) y0 (by omega) (by omega)⟩
end
end
section
section
variable {w hf gd uk un wt wr sn sk : Int32} {a1 a2 a3 a4 a5 a6 a7 a8 a9 a10 a11 a12 a13 a14 a15 a16 a17 a18 a19 a20 a21 a22 a23 a24 a25 a26 : Nat → Int32} {post : Int32 → St0 → Prop} {mc ms kc ks : Nat} {ρ : mt_R} {k s T : Nat} {sz fl nw : Nat} {x0 x1 x2 x3 x5 x6 x7 x8 x9 x10 x11 x12 x13 : Int32}
theorem ml_1009 {cd : Nat} {z0 : Int32} (hpost : post 1 ()) (h : mt_TB (ml_ρ (nI sz) (nI fl) (nI nw)) k (mt_M1 16777217 2) (mt_M1 16777217 2) False T a1 a2 a3 a4 a5 a6 a7 a8 a9 a10 a11 a12 a13 a14) (hT : T < 900) (h3 : s < 3) (hS : mt_SE k s 1 a15 a16) (h17 : a17 (16 * s) = nI 1) (s1 : 1 ≤ sz) (s2 : sz ≤ 1000) (f1 : fl < 32) (n1 : nw < 32) (hc : cd < 96) (hn : ml_nf (nI fl) cd = nI nw) (hz0 : z0 = nI nw) :
    wL_lawOf_1009 post mc ms x0 x3 (nI k) (nI s) (nI sz) (nI fl) (nI cd) z0 kc ks w hf gd uk un wt wr sn sk a1 a2 a3 a4 a5 a6 a7 a8 a9 a10 a11 a12 a13 a14 a15 a16 a17 a18 a19 a20 a21 a22 a23 a24 a25 a26 := by
  subst hz0
  have hk := h.1
  have hM := mt_Mof (mt_MM1 2 (by omega) (by omega)).1
  have hg := mt_gtM 2 (by omega)
  unfold wL_lawOf_1009
  refine mt_length h3 hk hS (br_t rfl ?_)
  refine mt_numAt h3 (mt_told1 h3 hk hS h17 (br_t rfl ?_))
  refine mt_numAt h3 (mt_told0 h3 hk hS (br_t rfl ?_))
  refine mt_place1 h3 hk hS h17 (br_t rfl ?_)
  refine mt_place2 h3 hk hS h17 (br_t rfl ?_)
  refine mt_fetch1 (c := 2) h hM h3 hS h17 hg.1 (Or.inl ⟨rfl, rfl⟩) (fun b5 b6 b19 b20 g1 => br_t rfl ?_)
  refine mt_fetch1 (c := 1) g1 hM h3 hS h17 hg.2.2.2.1 (Or.inr (Or.inl ⟨rfl, rfl⟩)) (fun c5 c6 c19 c20 g2 => br_t rfl ?_)
  refine mt_fetch1 (c := 3) g2 hM h3 hS h17 hg.2.2.2.2.2.1 (Or.inr (Or.inr ⟨rfl, rfl⟩)) (fun d5 d6 d19 d20 g3 => br_t rfl ?_)
  refine mt_fetch2 hk h3 hS (br_t rfl ?_)
  refine mt_fetch3 h3 (br_t rfl ?_)
  refine mt_storeBad h3 (br_t rfl ?_)
  refine mt_storeC g3 (by omega) h3 hS h17 rfl hc hn (fun ch w1 hf1 gd1 uk1 un1 b1 b2 b3 b4 b5 b6 b7 b8 b9 b10 b11 b12 b13 b14 b18 b19 b20 b21 b22 hch g4 => br_t rfl ?_)
  rcases hch with ⟨e, ec⟩ | ⟨e, ec⟩
  · subst ec
    exact br_t e (ml_1183 (ch := 2) hpost g4 (by omega) h3 hS h17 s1 s2 f1 n1 (by omega) (by omega))
  · subst ec
    exact br_f e (ml_1183 (ch := 3) hpost g4 (by omega) h3 hS h17 s1 s2 f1 n1 (by omega) (by omega))
theorem ml_sm : ∀ cd, cd < 32 → nI cd &&& 31 = nI cd := by decide +kernel
/-- what code and flags make -/
def ml_cd (x0 : Int32) (cd : Nat) : Prop := ((x0 >>> ((3 : Int32) &&& 31)) &&& 255) - ((x0 >>> ((3 : Int32) &&& 31)) &&& 255) / 96 * 96 = nI cd ∧ cd < 96
theorem ml_cdE (x0 : Int32) : ∃ cd, ml_cd x0 cd := by
  obtain ⟨j, hj, e⟩ := pk_andE (x0 >>> ((3 : Int32) &&& 31)) (m := 255) 8 (by decide)
  refine ⟨j % 96, ?_, by omega⟩
  rw [e]
  exact pk_rem (d := 96) (by omega) (by omega) (by omega)
theorem ml_922 {cd : Nat} {z0 : Int32} (hpost : post 1 ()) (h : mt_TB (ml_ρ (nI sz) (nI fl) (nI nw)) k (mt_M1 16777217 2) (mt_M1 16777217 2) False T a1 a2 a3 a4 a5 a6 a7 a8 a9 a10 a11 a12 a13 a14) (hT : T < 800) (h3 : s < 3) (hs : (x10 = 0 ∧ ∀ i, i < 3 → a15 i = 0) ∨ (x10 = 1 ∧ x6 = nI s ∧ mt_SE k s 1 a15 a16 ∧ a17 (16 * s) = nI 1)) (s1 : 1 ≤ sz) (s2 : sz ≤ 1000) (f1 : fl < 32) (n1 : nw < 32) (hc : ml_cd x0 cd) (hn : ml_nf (nI fl) cd = nI nw) :
    wL_lawOf_922 post mc ms x0 x3 (nI k) x6 (nI sz) (nI fl) x10 z0 z0 kc ks w hf gd uk un wt wr sn sk a1 a2 a3 a4 a5 a6 a7 a8 a9 a10 a11 a12 a13 a14 a15 a16 a17 a18 a19 a20 a21 a22 a23 a24 a25 a26 := by
  have hM := mt_Mof (mt_MM1 2 (by omega) (by omega)).1
  unfold wL_lawOf_922
  refine br_t rfl ?_
  rcases hs with ⟨e, hz⟩ | ⟨e, e6, hS, h17⟩
  · refine br_t e ?_
    refine mt_crash h (by omega) (fun r w1 hf1 b1 b4 b6 b7 b8 b9 b10 b11 b12 b13 b14 b15 g1 z15 hr => br_t (hr hz) ?_)
    exact mt_remove1 g1 (by omega) hM.1 hM.2.2.2.1 (fun i hi => Or.inl (z15 i hi)) (fun _ _ _ _ _ _ _ _ _ _ _ _ _ _ _ _ _ _ _ _ _ => br_t rfl hpost)
  · subst e6
    refine br_f (by rw [e]; decide) ⟨by decide, nm_r hc.1 ?_⟩
    have hcd := hc.2
    have go : ∀ z : Int32, z = nI nw → wL_lawOf_1009 post mc ms x0 x3 (nI k) (nI s) (nI sz) (nI fl) (nI cd) z kc ks w hf gd uk un wt wr sn sk a1 a2 a3 a4 a5 a6 a7 a8 a9 a10 a11 a12 a13 a14 a15 a16 a17 a18 a19 a20 a21 a22 a23 a24 a25 a26 := fun z hz => ml_1009 hpost h (by omega) h3 hS h17 s1 s2 f1 n1 hcd hn hz
    unfold ml_nf at hn
    refine pk_le 32 cd (fun y => pk_le 64 cd (fun y1 => go _ ?_) (fun y1 => go _ ?_)) (fun y => go _ ?_)
    · rw [if_neg (by omega), if_neg (by omega)] at hn
      exact hn
    · rw [if_neg (by omega), if_pos (by omega)] at hn
      exact hn
    · rw [if_pos (by omega), ml_sm cd y] at hn
      exact hn
theorem ml_770 {cd : Nat} (hpost : post 1 ()) (h : mt_TB (ml_ρ (nI sz) (nI fl) (nI nw)) k (mt_M1 16777217 2) (mt_M1 16777217 2) False T a1 a2 a3 a4 a5 a6 a7 a8 a9 a10 a11 a12 a13 a14) (hT : T < 800) (hs : ml_se s x6 x10 x12) (h3 : s < 3) (hz : ∀ i, i < 3 → a15 i = 0) (s1 : 1 ≤ sz) (s2 : sz ≤ 1000) (f1 : fl < 32) (n1 : nw < 32) (hc : ml_cd x0 cd) (hn : ml_nf (nI fl) cd = nI nw) :
    wL_lawOf_770 post mc ms x0 x2 x3 (nI k) x6 (nI sz) (nI fl) x10 kc ks w hf gd uk un wt wr sn sk a1 a2 a3 a4 a5 a6 a7 a8 a9 a10 a11 a12 a13 a14 a15 a16 a17 a18 a19 a20 a21 a22 a23 a24 a25 a26 := by
  have hk := h.1
  have hM := mt_Mof (mt_MM1 2 (by omega) (by omega)).1
  have hg := mt_gtM 2 (by omega)
  have hft := ml_fits fl f1
  unfold wL_lawOf_770
  refine mt_statusA (q := 1) h (by omega) rfl hM.1 hg.2.2.2.2.2.2.2.2.2.1 (fun b5 b6 g1 => br_t rfl ?_)
  refine mt_statusA (q := 2) g1 (by omega) rfl hM.1 hg.2.2.2.2.2.2.2.1 (fun c5 c6 g2 => br_t rfl ?_)
  refine mt_status3 g2 hM.1 hM.2.2.2.1 (fun d5 d6 g3 => br_t rfl ?_)
  refine mt_countM (cd := 0) g3 hM hg.1 rfl (by omega) (fun _ e5 e6 e19 e20 g4 => br_t rfl ?_) (fun z => absurd hft.2.1 z)
  refine mt_countM (cd := 992 + fl) g4 hM hg.1 (mj_q fl 992 rfl) (by omega) (fun _ i5 i6 i19 i20 g5 => br_t rfl ?_) (fun z => absurd (by
    rw [show (992 : Int32) + nI fl = nI (992 + fl) from mj_q fl 992 rfl]; exact hft.1) z)
  have ex : (992 : Int32) + (nI fl ^^^ 4) = nI (992 + (fl ^^^ 4)) := by rw [hft.2.2.1]; exact mj_q (fl ^^^ 4) 992 rfl
  have hx4 := hft.2.2.2.1
  refine mt_countM (cd := 992 + (fl ^^^ 4)) g5 hM hg.1 ex (by omega) (fun z => absurd (by
    rw [ex] at z; exact z) hft.2.2.2.2.1) (fun _ j5 j6 j19 j20 g6 => br_t rfl ?_)
  refine mt_csinceM g6 hM (fun r hr l5 l6 l19 l20 g7 => ?_)
  have tail : ∀ z : Int32, r = z → wL_lawOf_878 post mc ms x0 x3 (nI k) x6 (nI sz) (nI fl) x10 z r kc ks w hf gd uk un wt wr sn sk a1 a2 a3 a4 l5 l6 a7 a8 a9 a10 a11 a12 a13 a14 a15 a16 a17 a18 l19 l20 a21 a22 a23 a24 a25 a26 := by
    intro z ez
    unfold wL_lawOf_878
    refine br_t ez ?_
    refine mt_vanM g7 hM (fun o5 o6 o19 o20 g8 => br_t rfl ?_)
    refine mt_vanM g8 hM (fun p5 p6 p19 p20 g9 => br_t rfl ?_)
    rcases hs with ⟨e, hne, _⟩ | ⟨e, e6, _⟩
    · exact mt_selN hne (br_t e (ml_922 hpost g9 hT h3 (Or.inl ⟨e, hz⟩) s1 s2 f1 n1 hc hn))
    · subst e6
      refine mt_selM g9 hM h3 (fun q5 q6 q16 q17 g10 y16 y17 => br_f (by rw [e]; decide) ?_)
      exact ml_922 hpost g10 hT h3 (Or.inr ⟨e, rfl, ⟨fun i hi hne => by rw [pk_un hne]; exact hz i hi, pk_us, y16⟩, y17⟩) s1 s2 f1 n1 hc hn
  refine br_c (fun y => ?_) (fun y => br_c (fun y1 => ?_) (fun y1 => tail 1 (hr.1 y y1)))
  · unfold wL_lawOf_876
    exact tail (-2) (hr.2 (Or.inl y))
  · unfold wL_lawOf_876
    exact tail (-2) (hr.2 (Or.inr y1))
/-- the message that is kept in the end -/
def ml_kp (x7 x8 x13 : Int32) (sz fl : Nat) : Prop := (x13 = 1 ∧ 1 ≤ sz ∧ sz ≤ 1000 ∧ fl ≤ 31 ∧ x7 = nI sz ∧ x8 = nI fl) ∨ (x13 = 0 ∧ sz = 5 ∧ fl = 2 ∧ ∀ sz fl : Nat, 1 ≤ sz → sz ≤ 1000 → fl ≤ 31 → x7 = nI sz → x8 = nI fl → False)
theorem mt_X1f : mt_gc mt_X1 1 0 = some 1 ∧ mt_gc mt_X1 0 2 = some 0 ∧ mt_gc mt_X1 1 1 = some 1 ∧ mt_gc mt_X1 1 2 = some 1 ∧ mt_gc mt_X1 1 3 = some 1 := by decide +kernel
theorem ml_598b {cd : Nat} (hpost : post 1 ()) (h : mt_TB (ml_ρ (nI sz) (nI fl) (nI nw)) k mt_X1 mt_X1 False T a1 a2 a3 a4 a5 a6 a7 a8 a9 a10 a11 a12 a13 a14) (hT : T < 700) (hs : ml_se s x6 x10 x12) (h3 : s < 3) (hz : ∀ i, i < 3 → a15 i = 0) (hkp : ml_kp x7 x8 x13 sz fl) (n1 : nw < 32) (hc : ml_cd x0 cd) (hn : ml_nf (nI fl) cd = nI nw) {z : Int32} (h9 : x9 = 1) :
    wL_lawOf_598 post mc ms x0 x1 x2 x3 (nI k) x6 x7 x8 x9 x10 x13 z z kc ks w hf gd uk un wt wr sn sk a1 a2 a3 a4 a5 a6 a7 a8 a9 a10 a11 a12 a13 a14 a15 a16 a17 a18 a19 a20 a21 a22 a23 a24 a25 a26 := by
  have hX := mt_X1f
  unfold wL_lawOf_598
  refine br_t rfl ?_
  refine mt_idle h (by omega) (fun w1 hf1 b1 b4 b6 b8 b9 b10 b11 b12 b14 g1 => br_f (by rw [h9]; decide) ?_)
  refine mt_statusA (q := 0) g1 (by omega) rfl hX.1 hX.2.2.1 (fun c5 c6 g2 => br_t rfl ?_)
  refine mt_statusA (q := 1) g2 (by omega) rfl hX.1 hX.2.2.2.1 (fun d5 d6 g3 => br_t rfl ?_)
  refine mt_statusA (q := 2) g3 (by omega) rfl hX.1 hX.2.2.2.2 (fun e5 e6 g4 => br_t rfl ?_)
  refine mt_status3 g4 hX.1 hX.2.1 (fun i5 i6 g5 => br_t rfl ?_)
  rcases hkp with ⟨e, s1, s2, f1, e7, e8⟩ | ⟨e, es, ef, hbad⟩
  · subst e7 e8
    refine mt_append1 (sz := sz) (fl := fl) (tz := 16777216) (tf := 16777217) g5 (by omega) s1 s2 f1 rfl rfl rfl rfl hX.1 hX.2.1 (by omega) mt_ev2 (fun w2 hf2 gd2 uk2 un2 r1 r2 r3 r4 r5 r6 r7 r8 r9 r10 r11 r12 r13 r14 r18 r19 r20 r21 r22 g6 => br_f (by rw [e]; decide) ?_)
    unfold wL_lawOf_717
    refine br_t rfl (br_f (by rw [e]; decide) ?_)
    unfold wL_lawOf_733
    refine br_f (by rw [e]; decide) ?_
    unfold wL_lawOf_746
    refine br_f (by rw [e]; decide) ?_
    exact ml_770 (cd := cd) hpost g6 (by omega) hs h3 hz s1 s2 (by omega) n1 hc hn
  · subst es ef
    refine mt_appendBad g5 hbad (br_t e ?_)
    unfold wL_lawOf_717
    refine br_t rfl (br_t e ?_)
    unfold wL_lawOf_733
    refine br_t e ?_
    unfold wL_lawOf_746
    refine br_t e ?_
    refine mt_append1 (sz := 5) (fl := 2) (tz := 16777216) (tf := 16777217) g5 (by omega) (by omega) (by omega) (by omega) rfl rfl rfl rfl hX.1 hX.2.1 (by omega) mt_ev2 (fun w2 hf2 gd2 uk2 un2 r1 r2 r3 r4 r5 r6 r7 r8 r9 r10 r11 r12 r13 r14 r18 r19 r20 r21 r22 g6 => br_t rfl ?_)
    exact ml_770 (cd := cd) (sz := 5) (fl := 2) hpost g6 (by omega) hs h3 hz (by omega) (by omega) (by omega) n1 hc hn
theorem mt_X1g : mt_gc mt_X1 0 0 = some 0 ∧ mt_gc mt_X1 0 1 = some 0 ∧ mt_gc mt_X1 0 2 = some 0 ∧ mt_gc mt_X1 0 3 = some 0 ∧ mt_gc mt_X1 0 4 = some 0 ∧ mt_gc mt_X1 0 5 = some 0 ∧ mt_gc mt_X1 0 6 = some 0 ∧ mt_gc mt_X1 1 5 = some 0 := by decide +kernel
theorem mt_selE {post : Int32 → St2 → Prop} {C S : List (List Nat)} {dd : Prop} (h : mt_TB ρ k C S dd T a1 a2 a3 a4 a5 a6 a7 a8 a9 a10 a11 a12 a13 a14) (h3 : s < 3) (e0 : mt_gc C 1 0 = some 1) (e1 : mt_gc C 0 0 = some 0) (e2 : mt_gc C 0 1 = some 0)
    (H : ∀ b5 b6 : Nat → Int32, mt_TB ρ k C S dd T a1 a2 a3 a4 b5 b6 a7 a8 a9 a10 a11 a12 a13 a14 → post 0 (w, hf, gd, uk, un, wt, wr, sn, sk, a1, a2, a3, a4, b5, b6, a7, a8, a9, a10, a11, a12, a13, a14, (upd a15 s (nI (k + 1))), (upd a16 s 0), a17, a18, a19, a20, a21, a22, a23, a24, a25, a26)) : wpX_select post (w, hf, gd, uk, un, wt, wr, sn, sk, a1, a2, a3, a4, a5, a6, a7, a8, a9, a10, a11, a12, a13, a14, a15, a16, a17, a18, a19, a20, a21, a22, a23, a24, a25, a26) (nI s) (nI k) := by
  unfold wpX_select
  refine mt_ses h3 (br_f (by decide) (mt_box h.1 (br_f (by decide) ?_)))
  refine mt_isThere h e0 (fun _ b5 b6 g1 => br_f (by decide) ?_) (fun z => absurd rfl z)
  rw [nI_clamp (show s < 2 ^ 31 by omega), nI_1]
  refine ⟨vp_in_nI h3 (by decide), nm_e ⟨vp_in_nI h3 (by decide), nm_e ?_⟩⟩
  unfold wpX_tell
  exact mt_keyAfter0 (t := 0) g1 (by omega) rfl e1 e2 (fun c5 c6 g2 => ⟨1, br_f (by decide) (br_t (by decide) (H c5 c6 g2))⟩)
theorem ml_598a (hpost : post 1 ()) (hr : ∀ j b c, ρ.2 j b c = 0) (h : mt_TB ρ 0 mt_ZL mt_ZL False T a1 a2 a3 a4 a5 a6 a7 a8 a9 a10 a11 a12 a13 a14) (hT : T < 700) (hz : ∀ i, i < 3 → a15 i = 0) {z : Int32} (h9 : x9 = 0) :
    wL_lawOf_598 post mc ms x0 x1 x2 x3 x5 x6 x7 x8 x9 x10 x13 z z kc ks w hf gd uk un wt wr sn sk a1 a2 a3 a4 a5 a6 a7 a8 a9 a10 a11 a12 a13 a14 a15 a16 a17 a18 a19 a20 a21 a22 a23 a24 a25 a26 := by
  unfold wL_lawOf_598
  refine br_t rfl ?_
  refine mt_idle h (by omega) (fun w1 hf1 b1 b4 b6 b8 b9 b10 b11 b12 b14 g1 => br_t h9 ?_)
  refine mt_create1 (k := 0) (v := 0) g1 (by omega) hr (mt_gcZ (by omega) (by omega)) (mt_gcZ (by omega) (by omega)) (by omega) (fun w2 hf2 gd2 c1 c2 c3 c4 c5 c6 c7 c8 c9 c10 c11 c12 c13 c14 c18 g2 => br_t rfl ?_)
  rw [mt_ev1] at g2
  refine mt_selE (k := 0) (s := 0) g2 (by omega) mt_X1f.1 mt_X1g.1 mt_X1g.2.1 (fun d5 d6 g3 => br_t rfl ?_)
  refine mt_faults (k := 0) g3 hr (Or.inl mt_X1g) (fun i hi => ?_) (fun _ _ _ _ _ _ _ _ _ _ _ _ => br_t rfl hpost)
  by_cases q : i = 0
  · subst q
    exact Or.inr ⟨pk_us, pk_us, mt_X1f.1, 1, by omega, mt_X1f.2.2.2.1⟩
  · exact Or.inl (by rw [pk_un q]; exact hz i hi)
/-- from the first crash on -/
theorem ml_541 {cd : Nat} {z : Int32} (hpost : post 1 ()) (h : mt_TB (ml_ρ (nI sz) (nI fl) (nI nw)) k mt_ZL mt_ZL False T a1 a2 a3 a4 a5 a6 a7 a8 a9 a10 a11 a12 a13 a14) (hk0 : x9 = 0 → k = 0) (hT : T < 600) (hb : ml_bx k x5 x9 x11) (hs : ml_se s x6 x10 x12) (h3 : s < 3) (hz : ∀ i, i < 3 → a15 i = 0) (hkp : ml_kp x7 x8 x13 sz fl) (n1 : nw < 32) (hc : ml_cd x0 cd) (hn : ml_nf (nI fl) cd = nI nw) :
    wL_lawOf_541 post mc ms x0 x1 x2 x3 x5 x6 x7 x8 x9 x10 x13 z z kc ks w hf gd uk un wt wr sn sk a1 a2 a3 a4 a5 a6 a7 a8 a9 a10 a11 a12 a13 a14 a15 a16 a17 a18 a19 a20 a21 a22 a23 a24 a25 a26 := by
  have hr : ∀ j b c, (ml_ρ (nI sz) (nI fl) (nI nw)).2 j b c = 0 := fun _ _ _ => rfl
  unfold wL_lawOf_541
  refine br_t rfl ?_
  refine mt_crash h (by omega) (fun r w1 hf1 b1 b4 b6 b7 b8 b9 b10 b11 b12 b13 b14 b15 g1 z15 hr0 => br_t (hr0 hz) ?_)
  refine mt_faults g1 hr (Or.inl mt_EZ) (fun i hi => Or.inl (z15 i hi)) (fun wt2 sn2 sk2 c5 c6 c19 c20 c23 c24 c25 c26 g2 => br_t rfl ?_)
  rcases hb with ⟨e9, hne, _⟩ | ⟨e9, e5, _⟩
  · have ek := hk0 e9
    subst ek
    refine mt_createN hne (br_t e9 ?_)
    unfold wL_lawOf_577
    refine br_t rfl ?_
    refine mt_createN hne (br_t e9 ?_)
    exact ml_598a hpost hr g2 (by omega) z15 e9
  · subst e5
    refine mt_create1 (v := 0) g2 (by omega) hr (mt_gcZ (by omega) (by omega)) (mt_gcZ (by omega) (by omega)) (by omega) (fun w3 hf3 gd3 d1 d2 d3 d4 d5 d6 d7 d8 d9 d10 d11 d12 d13 d14 d18 g3 => br_f (by rw [e9]; decide) ?_)
    rw [mt_ev1] at g3
    unfold wL_lawOf_577
    refine br_t rfl ?_
    refine mt_createE g3 mt_X1f.1 (fun i5 i6 g4 => br_f (by rw [e9]; decide) ?_)
    exact ml_598b (cd := cd) hpost g4 (by omega) hs h3 z15 hkp n1 hc hn e9
end
end
section
section
variable {w hf gd uk un wt wr sn sk : Int32} {a1 a2 a3 a4 a5 a6 a7 a8 a9 a10 a11 a12 a13 a14 a15 a16 a17 a18 a19 a20 a21 a22 a23 a24 a25 a26 : Nat → Int32} {post : Int32 → St0 → Prop} {mc ms kc ks : Nat} {k s T cd : Nat} {sz fl nw : Nat} {x0 x1 x2 x3 x5 x6 x7 x8 x9 x10 x11 x12 x13 z : Int32}
theorem ml_506 (hpost : post 1 ()) (h : mt_TB (ml_ρ (nI sz) (nI fl) (nI nw)) k mt_ZL mt_ZL False T a1 a2 a3 a4 a5 a6 a7 a8 a9 a10 a11 a12 a13 a14) (hk0 : x9 = 0 → k = 0) (hT : T < 600) (hb : ml_bx k x5 x9 x11) (hs : ml_se s x6 x10 x12) (h3 : s < 3) (hz : ∀ i, i < 3 → a15 i = 0) (hkp : ml_kp x7 x8 x13 sz fl) (n1 : nw < 32) (hc : ml_cd x0 cd) (hn : ml_nf (nI fl) cd = nI nw) :
    wL_lawOf_506 post mc ms x0 x1 x2 x3 x5 x6 x7 x8 x9 x10 x13 z z kc ks w hf gd uk un wt wr sn sk a1 a2 a3 a4 a5 a6 a7 a8 a9 a10 a11 a12 a13 a14 a15 a16 a17 a18 a19 a20 a21 a22 a23 a24 a25 a26 := by
  have nx : ∀ r : Int32, wL_lawOf_541 post mc ms x0 x1 x2 x3 x5 x6 x7 x8 x9 x10 x13 r r kc ks w hf gd uk un wt wr sn sk a1 a2 a3 a4 a5 a6 a7 a8 a9 a10 a11 a12 a13 a14 a15 a16 a17 a18 a19 a20 a21 a22 a23 a24 a25 a26 := fun r => ml_541 hpost h hk0 hT hb hs h3 hz hkp n1 hc hn
  unfold wL_lawOf_506
  refine br_t rfl (ml0_search hs h3 hz (fun y => ?_) (fun y0 y1 y2 => ?_))
  · have a : wL_lawOf_540 post mc ms x0 x1 x2 x3 x5 x6 x7 x8 x9 x10 x13 (-1) kc ks w hf gd uk un wt wr sn sk a1 a2 a3 a4 a5 a6 a7 a8 a9 a10 a11 a12 a13 a14 a15 a16 a17 a18 a19 a20 a21 a22 a23 a24 a25 a26 := by
      unfold wL_lawOf_540
      exact nx (-1)
    exact br_c (fun _ => a) (fun q0 => br_c (fun _ => a) (fun q1 => br_c (fun _ => a) (fun q2 => (y.elim q0 (fun y => y.elim q1 q2)).elim)))
  · exact br_f (by rw [y0]; decide) (br_f y1 (br_f y2 (nx (-2))))
theorem ml_451 (hpost : post 1 ()) (h : mt_TB (ml_ρ (nI sz) (nI fl) (nI nw)) k mt_ZL mt_ZL False T a1 a2 a3 a4 a5 a6 a7 a8 a9 a10 a11 a12 a13 a14) (hk0 : x9 = 0 → k = 0) (hT : T < 600) (hb : ml_bx k x5 x9 x11) (hs : ml_se s x6 x10 x12) (h3 : s < 3) (hz : ∀ i, i < 3 → a15 i = 0) (hkp : ml_kp x7 x8 x13 sz fl) (n1 : nw < 32) (hc : ml_cd x0 cd) (hn : ml_nf (nI fl) cd = nI nw) :
    wL_lawOf_451 post mc ms x0 x1 x2 x3 x5 x6 x7 x8 x9 x10 x12 x13 z z kc ks w hf gd uk un wt wr sn sk a1 a2 a3 a4 a5 a6 a7 a8 a9 a10 a11 a12 a13 a14 a15 a16 a17 a18 a19 a20 a21 a22 a23 a24 a25 a26 := by
  have nx : ∀ r : Int32, wL_lawOf_506 post mc ms x0 x1 x2 x3 x5 x6 x7 x8 x9 x10 x13 r r kc ks w hf gd uk un wt wr sn sk a1 a2 a3 a4 a5 a6 a7 a8 a9 a10 a11 a12 a13 a14 a15 a16 a17 a18 a19 a20 a21 a22 a23 a24 a25 a26 := fun r => ml_506 hpost h hk0 hT hb hs h3 hz hkp n1 hc hn
  unfold wL_lawOf_451
  refine br_t rfl (ml0_expunge hs h3 hz (br_t rfl (ml0_poll hs h3 hz (br_t rfl (ml0_copy h.1 hs h3 hz hb (fun y => ?_) (fun y0 y1 => ?_))))))
  · have a : wL_lawOf_505 post mc ms x0 x1 x2 x3 x5 x6 x7 x8 x9 x10 x13 (-1) kc ks w hf gd uk un wt wr sn sk a1 a2 a3 a4 a5 a6 a7 a8 a9 a10 a11 a12 a13 a14 a15 a16 a17 a18 a19 a20 a21 a22 a23 a24 a25 a26 := by
      unfold wL_lawOf_505
      exact nx (-1)
    exact br_c (fun _ => a) (fun q0 => br_c (fun _ => a) (fun q1 => (y.elim q0 q1).elim))
  · exact br_f (by rw [y0]; decide) (br_f (by rw [y1]; decide) (nx (-2)))
theorem ml_418 (hpost : post 1 ()) (h : mt_TB (ml_ρ (nI sz) (nI fl) (nI nw)) k mt_ZL mt_ZL False T a1 a2 a3 a4 a5 a6 a7 a8 a9 a10 a11 a12 a13 a14) (hk0 : x9 = 0 → k = 0) (hT : T < 600) (hb : ml_bx k x5 x9 x11) (hs : ml_se s x6 x10 x12) (h3 : s < 3) (hz : ∀ i, i < 3 → a15 i = 0) (hkp : ml_kp x7 x8 x13 sz fl) (n1 : nw < 32) (hc : ml_cd x0 cd) (hn : ml_nf (nI fl) cd = nI nw) :
    wL_lawOf_418 post mc ms x0 x1 x2 x3 x5 x6 x7 x8 x9 x10 x12 x13 z z kc ks w hf gd uk un wt wr sn sk a1 a2 a3 a4 a5 a6 a7 a8 a9 a10 a11 a12 a13 a14 a15 a16 a17 a18 a19 a20 a21 a22 a23 a24 a25 a26 := by
  have nx : ∀ r : Int32, wL_lawOf_451 post mc ms x0 x1 x2 x3 x5 x6 x7 x8 x9 x10 x12 x13 r r kc ks w hf gd uk un wt wr sn sk a1 a2 a3 a4 a5 a6 a7 a8 a9 a10 a11 a12 a13 a14 a15 a16 a17 a18 a19 a20 a21 a22 a23 a24 a25 a26 := fun r => ml_451 hpost h hk0 hT hb hs h3 hz hkp n1 hc hn
  unfold wL_lawOf_418
  refine br_t rfl (ml0_store hs h3 hz (fun y => ?_) (fun y0 y1 y2 => ?_))
  · have a : wL_lawOf_450 post mc ms x0 x1 x2 x3 x5 x6 x7 x8 x9 x10 x12 x13 (-1) kc ks w hf gd uk un wt wr sn sk a1 a2 a3 a4 a5 a6 a7 a8 a9 a10 a11 a12 a13 a14 a15 a16 a17 a18 a19 a20 a21 a22 a23 a24 a25 a26 := by
      unfold wL_lawOf_450
      exact nx (-1)
    exact br_c (fun _ => a) (fun q0 => br_c (fun _ => a) (fun q1 => br_c (fun _ => a) (fun q2 => (y.elim q0 (fun y => y.elim q1 q2)).elim)))
  · exact br_f (by rw [y0]; decide) (br_f y1 (br_f y2 (nx (-2))))
theorem ml_336 (hpost : post 1 ()) (h : mt_TB (ml_ρ (nI sz) (nI fl) (nI nw)) k mt_ZL mt_ZL False T a1 a2 a3 a4 a5 a6 a7 a8 a9 a10 a11 a12 a13 a14) (hk0 : x9 = 0 → k = 0) (hT : T < 600) (hb : ml_bx k x5 x9 x11) (hs : ml_se s x6 x10 x12) (h3 : s < 3) (hz : ∀ i, i < 3 → a15 i = 0) (hkp : ml_kp x7 x8 x13 sz fl) (n1 : nw < 32) (hc : ml_cd x0 cd) (hn : ml_nf (nI fl) cd = nI nw) :
    wL_lawOf_336 post mc ms x0 x1 x2 x3 x5 x6 x7 x8 x9 x10 x12 x13 z z kc ks w hf gd uk un wt wr sn sk a1 a2 a3 a4 a5 a6 a7 a8 a9 a10 a11 a12 a13 a14 a15 a16 a17 a18 a19 a20 a21 a22 a23 a24 a25 a26 := by
  have nx : ∀ r : Int32, wL_lawOf_418 post mc ms x0 x1 x2 x3 x5 x6 x7 x8 x9 x10 x12 x13 r r kc ks w hf gd uk un wt wr sn sk a1 a2 a3 a4 a5 a6 a7 a8 a9 a10 a11 a12 a13 a14 a15 a16 a17 a18 a19 a20 a21 a22 a23 a24 a25 a26 := fun r => ml_418 hpost h hk0 hT hb hs h3 hz hkp n1 hc hn
  unfold wL_lawOf_336
  refine br_t rfl (ml0_leave hs h3 hz (br_t rfl (ml0_length hs h3 hz (br_t rfl (ml0_numberAt hs h3 hz (br_t rfl (ml0_placeOf hs h3 hz (br_t rfl (ml0_fetch hs h3 hz (fun y => ?_) (fun y0 y1 y2 => ?_))))))))))
  · have a : wL_lawOf_417 post mc ms x0 x1 x2 x3 x5 x6 x7 x8 x9 x10 x12 x13 (-1) kc ks w hf gd uk un wt wr sn sk a1 a2 a3 a4 a5 a6 a7 a8 a9 a10 a11 a12 a13 a14 a15 a16 a17 a18 a19 a20 a21 a22 a23 a24 a25 a26 := by
      unfold wL_lawOf_417
      exact nx (-1)
    exact br_c (fun _ => a) (fun q0 => br_c (fun _ => a) (fun q1 => br_c (fun _ => a) (fun q2 => (y.elim q0 (fun y => y.elim q1 q2)).elim)))
  · exact br_f (by rw [y0]; decide) (br_f y1 (br_f y2 (nx (-2))))
theorem ml_279 (hpost : post 1 ()) (h : mt_TB (ml_ρ (nI sz) (nI fl) (nI nw)) k mt_ZL mt_ZL False T a1 a2 a3 a4 a5 a6 a7 a8 a9 a10 a11 a12 a13 a14) (hk0 : x9 = 0 → k = 0) (hT : T < 600) (hb : ml_bx k x5 x9 x11) (hs : ml_se s x6 x10 x12) (h3 : s < 3) (hz : ∀ i, i < 3 → a15 i = 0) (hkp : ml_kp x7 x8 x13 sz fl) (n1 : nw < 32) (hc : ml_cd x0 cd) (hn : ml_nf (nI fl) cd = nI nw) :
    wL_lawOf_279 post mc ms x0 x1 x2 x3 x5 x6 x7 x8 x9 x10 x11 x12 x13 z z kc ks w hf gd uk un wt wr sn sk a1 a2 a3 a4 a5 a6 a7 a8 a9 a10 a11 a12 a13 a14 a15 a16 a17 a18 a19 a20 a21 a22 a23 a24 a25 a26 := by
  unfold wL_lawOf_279
  refine br_t rfl (ml0_changedSince h hb (fun b5 b6 g1 => br_t rfl (ml0_vanished g1 hb (fun c5 c6 g2 => br_t rfl (ml0_select g2 hs h3 hb (fun y d5 d6 g3 => ?_) (fun y0 y1 d5 d6 g3 => ?_))))))
  · have a : wL_lawOf_335 post mc ms x0 x1 x2 x3 x5 x6 x7 x8 x9 x10 x12 x13 (-1) kc ks w hf gd uk un wt wr sn sk a1 a2 a3 a4 d5 d6 a7 a8 a9 a10 a11 a12 a13 a14 a15 a16 a17 a18 a19 a20 a21 a22 a23 a24 a25 a26 := by
      unfold wL_lawOf_335
      exact ml_336 hpost g3 hk0 hT hb hs h3 hz hkp n1 hc hn
    exact br_c (fun _ => a) (fun q0 => br_c (fun _ => a) (fun q1 => (y.elim q0 q1).elim))
  · exact br_f (by rw [y0]; decide) (br_f (by rw [y1]; decide) (ml_336 hpost g3 hk0 hT hb hs h3 hz hkp n1 hc hn))
theorem ml_246 (hpost : post 1 ()) (h : mt_TB (ml_ρ (nI sz) (nI fl) (nI nw)) k mt_ZL mt_ZL False T a1 a2 a3 a4 a5 a6 a7 a8 a9 a10 a11 a12 a13 a14) (hk0 : x9 = 0 → k = 0) (hT : T < 600) (hb : ml_bx k x5 x9 x11) (hs : ml_se s x6 x10 x12) (h3 : s < 3) (hz : ∀ i, i < 3 → a15 i = 0) (hkp : ml_kp x7 x8 x13 sz fl) (n1 : nw < 32) (hc : ml_cd x0 cd) (hn : ml_nf (nI fl) cd = nI nw) :
    wL_lawOf_246 post mc ms x0 x1 x2 x3 x5 x6 x7 x8 x9 x10 x11 x12 x13 z z kc ks w hf gd uk un wt wr sn sk a1 a2 a3 a4 a5 a6 a7 a8 a9 a10 a11 a12 a13 a14 a15 a16 a17 a18 a19 a20 a21 a22 a23 a24 a25 a26 := by
  unfold wL_lawOf_246
  refine br_t rfl (ml0_counting h hb (fun y d5 d6 g3 => ?_) (fun y0 y1 y2 d5 d6 g3 => ?_))
  · have a : wL_lawOf_278 post mc ms x0 x1 x2 x3 x5 x6 x7 x8 x9 x10 x11 x12 x13 (-1) kc ks w hf gd uk un wt wr sn sk a1 a2 a3 a4 d5 d6 a7 a8 a9 a10 a11 a12 a13 a14 a15 a16 a17 a18 a19 a20 a21 a22 a23 a24 a25 a26 := by
      unfold wL_lawOf_278
      exact ml_279 hpost g3 hk0 hT hb hs h3 hz hkp n1 hc hn
    exact br_c (fun _ => a) (fun q0 => br_c (fun _ => a) (fun q1 => br_c (fun _ => a) (fun q2 => (y.elim q0 (fun y => y.elim q1 q2)).elim)))
  · exact br_f (by rw [y0]; decide) (br_f y1 (br_f y2 (ml_279 hpost g3 hk0 hT hb hs h3 hz hkp n1 hc hn)))
theorem ml_215 (hpost : post 1 ()) (h : mt_TB (ml_ρ (nI sz) (nI fl) (nI nw)) k mt_ZL mt_ZL False T a1 a2 a3 a4 a5 a6 a7 a8 a9 a10 a11 a12 a13 a14) (hk0 : x9 = 0 → k = 0) (hT : T < 600) (hb : ml_bx k x5 x9 x11) (hs : ml_se s x6 x10 x12) (h3 : s < 3) (hz : ∀ i, i < 3 → a15 i = 0) (hkp : ml_kp x7 x8 x13 sz fl) (n1 : nw < 32) (hc : ml_cd x0 cd) (hn : ml_nf (nI fl) cd = nI nw) :
    wL_lawOf_215 post mc ms x0 x1 x2 x3 x5 x6 x7 x8 x9 x10 x11 x12 x13 z z kc ks w hf gd uk un wt wr sn sk a1 a2 a3 a4 a5 a6 a7 a8 a9 a10 a11 a12 a13 a14 a15 a16 a17 a18 a19 a20 a21 a22 a23 a24 a25 a26 := by
  unfold wL_lawOf_215
  refine br_t rfl (ml0_status h hb (fun y d5 d6 g3 => ?_) (fun y0 y1 y2 d5 d6 g3 => ?_))
  · have a : wL_lawOf_245 post mc ms x0 x1 x2 x3 x5 x6 x7 x8 x9 x10 x11 x12 x13 (-1) kc ks w hf gd uk un wt wr sn sk a1 a2 a3 a4 d5 d6 a7 a8 a9 a10 a11 a12 a13 a14 a15 a16 a17 a18 a19 a20 a21 a22 a23 a24 a25 a26 := by
      unfold wL_lawOf_245
      exact ml_246 hpost g3 hk0 hT hb hs h3 hz hkp n1 hc hn
    exact br_c (fun _ => a) (fun q0 => br_c (fun _ => a) (fun q1 => br_c (fun _ => a) (fun q2 => (y.elim q0 (fun y => y.elim q1 q2)).elim)))
  · exact br_f (by rw [y0]; decide) (br_f y1 (br_f y2 (ml_246 hpost g3 hk0 hT hb hs h3 hz hkp n1 hc hn)))
theorem ml_kpg (hkp : ml_kp x7 x8 x13 sz fl) : ml_good x7 x8 x13 := by
  rcases hkp with ⟨e, h⟩ | ⟨e, _, _, h⟩
  · exact Or.inl ⟨e, sz, fl, h⟩
  · exact Or.inr ⟨e, h⟩
theorem ml_174t (hpost : post 1 ()) (h : mt_TB (ml_ρ (nI sz) (nI fl) (nI nw)) k mt_ZL mt_ZL False T a1 a2 a3 a4 a5 a6 a7 a8 a9 a10 a11 a12 a13 a14) (hk0 : x9 = 0 → k = 0) (hT : T < 600) (hb : ml_bx k x5 x9 x11) (hs : ml_se s x6 x10 x12) (h3 : s < 3) (hz : ∀ i, i < 3 → a15 i = 0) (hkp : ml_kp x7 x8 x13 sz fl) (n1 : nw < 32) (hc : ml_cd x0 cd) (hn : ml_nf (nI fl) cd = nI nw) :
    wL_lawOf_174 post mc ms x0 x1 x2 x3 x5 x6 x7 x8 x9 x10 x11 x12 x13 kc ks w hf gd uk un wt wr sn sk a1 a2 a3 a4 a5 a6 a7 a8 a9 a10 a11 a12 a13 a14 a15 a16 a17 a18 a19 a20 a21 a22 a23 a24 a25 a26 := by
  unfold wL_lawOf_174
  refine ml0_remove h hb (fun b5 b6 g1 => br_t rfl (ml0_append g1 hb (ml_kpg hkp) (fun y d5 d6 g3 => ?_) (fun y0 y1 d5 d6 g3 => ?_)))
  · have a : wL_lawOf_214 post mc ms x0 x1 x2 x3 x5 x6 x7 x8 x9 x10 x11 x12 x13 (-1) kc ks w hf gd uk un wt wr sn sk a1 a2 a3 a4 d5 d6 a7 a8 a9 a10 a11 a12 a13 a14 a15 a16 a17 a18 a19 a20 a21 a22 a23 a24 a25 a26 := by
      unfold wL_lawOf_214
      exact ml_215 hpost g3 hk0 hT hb hs h3 hz hkp n1 hc hn
    exact br_c (fun _ => a) (fun q0 => br_c (fun _ => a) (fun q1 => (y.elim q0 q1).elim))
  · exact br_f (by rw [y0]; decide) (br_f (by rw [y1]; decide) (ml_215 hpost g3 hk0 hT hb hs h3 hz hkp n1 hc hn))
theorem ml_174 (hpost : post 1 ()) (hk : k < 4) (h : mj_AB mj_Z mj_Z (fun _ => False) 1 a1 a2 a3 a4 a5 a6 a7 a8 a9 a10 a11 a12 a13 a14) (hk0 : x9 = 0 → k = 0) (hb : ml_bx k x5 x9 x11) (hs : ml_se s x6 x10 x12) (h3 : s < 3) (hz : ∀ i, i < 3 → a15 i = 0) (hg : ml_good x7 x8 x13) :
    wL_lawOf_174 post mc ms x0 x1 x2 x3 x5 x6 x7 x8 x9 x10 x11 x12 x13 kc ks w hf gd uk un wt wr sn sk a1 a2 a3 a4 a5 a6 a7 a8 a9 a10 a11 a12 a13 a14 a15 a16 a17 a18 a19 a20 a21 a22 a23 a24 a25 a26 := by
  have main : ∀ sz fl : Nat, ml_kp x7 x8 x13 sz fl → fl < 32 → wL_lawOf_174 post mc ms x0 x1 x2 x3 x5 x6 x7 x8 x9 x10 x11 x12 x13 kc ks w hf gd uk un wt wr sn sk a1 a2 a3 a4 a5 a6 a7 a8 a9 a10 a11 a12 a13 a14 a15 a16 a17 a18 a19 a20 a21 a22 a23 a24 a25 a26 := by
    intro sz fl hkp hfl
    obtain ⟨cd, hc⟩ := ml_cdE x0
    have hw := ml_now fl hfl cd hc.2
    exact ml_174t (T := 1) (cd := cd) hpost (mt_TBZ hk (fun _ _ _ => rfl) h) hk0 (by omega) hb hs h3 hz hkp hw.1 hc hw.2
  rcases hg with ⟨e, sz, fl, g1, g2, g3, g4, g5⟩ | ⟨e, hbad⟩
  · exact main sz fl (Or.inl ⟨e, g1, g2, g3, g4, g5⟩) (by omega)
  · exact main 5 2 (Or.inr ⟨e, rfl, rfl, hbad⟩) (by omega)
theorem ml_141 (hpost : post 1 ()) (hk : k < 4) (h : mj_AB mj_Z mj_Z (fun _ => False) 1 a1 a2 a3 a4 a5 a6 a7 a8 a9 a10 a11 a12 a13 a14) (hk0 : x9 = 0 → k = 0) (hb : ml_bx k x5 x9 x11) (hs : ml_se s x6 x10 x12) (h3 : s < 3) (hz : ∀ i, i < 3 → a15 i = 0) :
    wL_lawOf_141 post mc ms x0 x1 x2 x3 x5 x6 x7 x8 x9 x10 x11 x12 kc ks w hf gd uk un wt wr sn sk a1 a2 a3 a4 a5 a6 a7 a8 a9 a10 a11 a12 a13 a14 a15 a16 a17 a18 a19 a20 a21 a22 a23 a24 a25 a26 := by
  have bad : (∀ sz fl : Nat, 1 ≤ sz → sz ≤ 1000 → fl ≤ 31 → x7 = nI sz → x8 = nI fl → False) → wL_lawOf_173 post mc ms x0 x1 x2 x3 x5 x6 x7 x8 x9 x10 x11 x12 kc ks w hf gd uk un wt wr sn sk a1 a2 a3 a4 a5 a6 a7 a8 a9 a10 a11 a12 a13 a14 a15 a16 a17 a18 a19 a20 a21 a22 a23 a24 a25 a26 := by
    intro hbad
    unfold wL_lawOf_173
    exact ml_174 hpost hk h hk0 hb hs h3 hz (Or.inr ⟨rfl, hbad⟩)
  unfold wL_lawOf_141
  refine br_c (fun y => bad (fun sz fl h1 h2 h3 e1 e2 => ?_)) (fun y => br_c (fun y1 => bad (fun sz fl h1 h2 h3 e1 e2 => ?_)) (fun y1 => br_c (fun y2 => bad (fun sz fl h1 h2 h3 e1 e2 => ?_)) (fun y2 => br_c (fun y3 => bad (fun sz fl h1 h2 h3 e1 e2 => ?_)) (fun y3 => ?_))))
  · rw [e1] at y; exact nI_nlt (b := 1) h1 (by omega) y
  · rw [e1] at y1; exact nI_nlt (a := 1000) h2 (by omega) y1
  · rw [e2] at y2; exact nI_pos (by omega) y2
  · rw [e2] at y3; exact nI_ge (b := 32) (by omega) (by omega) y3
  · obtain ⟨sz, hsz, e1⟩ := nI_of2 (n := 1000) (M := 1000) (by decide) (fun q => y (Int32.lt_trans q (by decide))) (Int32.not_lt.mp y1)
    obtain ⟨fl, hfl, e2⟩ := nI_of y2
    refine ml_174 hpost hk h hk0 hb hs h3 hz (Or.inl ⟨rfl, sz, fl, ?_, hsz, ?_, e1, e2⟩)
    · rcases Nat.eq_zero_or_pos sz with q | q
      · rw [e1, q] at y; exact absurd (by decide) y
      · exact q
    · rw [e2] at y3
      rcases Nat.lt_or_ge fl 32 with q | q
      · omega
      · exact absurd (nI_le (a := 32) q hfl) y3
theorem ml_115 (hpost : post 1 ()) (hk : k < 4) (h : mj_AB mj_Z mj_Z (fun _ => False) 1 a1 a2 a3 a4 a5 a6 a7 a8 a9 a10 a11 a12 a13 a14) (hz : ∀ i, i < 3 → a15 i = 0) (h3 : s < 3) (hb : (x9 = 0 ∧ k = 0 ∧ ∀ j, j < 4 → ¬ x5 = nI j) ∨ (x9 = 1 ∧ x5 = nI k)) (hs : (x10 = 0 ∧ ∀ j, j < 3 → ¬ x6 = nI j) ∨ (x10 = 1 ∧ x6 = nI s)) :
    wL_lawOf_115 post mc ms x0 x1 x2 x3 x5 x6 x7 x8 x9 x10 kc ks w hf gd uk un wt wr sn sk a1 a2 a3 a4 a5 a6 a7 a8 a9 a10 a11 a12 a13 a14 a15 a16 a17 a18 a19 a20 a21 a22 a23 a24 a25 a26 := by
  have go : ∀ r : Int32, ml_bx k x5 x9 r → wL_lawOf_128 post mc ms x0 x1 x2 x3 x5 x6 x7 x8 x9 x10 r kc ks w hf gd uk un wt wr sn sk a1 a2 a3 a4 a5 a6 a7 a8 a9 a10 a11 a12 a13 a14 a15 a16 a17 a18 a19 a20 a21 a22 a23 a24 a25 a26 := by
    intro r hr
    have hk0 : x9 = 0 → k = 0 := by
      intro e
      rcases hb with ⟨_, e2, _⟩ | ⟨e2, _⟩
      · exact e2
      · exact absurd (e.symm.trans e2) (by decide)
    unfold wL_lawOf_128
    rcases hs with ⟨e, hne⟩ | ⟨e, e6⟩
    · exact br_t e (ml_141 hpost hk h hk0 hr (Or.inl ⟨e, hne, rfl⟩) h3 hz)
    · exact br_f (by rw [e]; decide) (ml_141 hpost hk h hk0 hr (Or.inr ⟨e, e6, rfl⟩) h3 hz)
  unfold wL_lawOf_115
  rcases hb with ⟨e, _, hne⟩ | ⟨e, e5⟩
  · exact br_t e (go _ (Or.inl ⟨e, hne, rfl⟩))
  · exact br_f (by rw [e]; decide) (go _ (Or.inr ⟨e, e5, rfl⟩))
theorem ml_97 (hpost : post 1 ()) (hk : k < 4) (h : mj_AB mj_Z mj_Z (fun _ => False) 1 a1 a2 a3 a4 a5 a6 a7 a8 a9 a10 a11 a12 a13 a14) (hz : ∀ i, i < 3 → a15 i = 0) (hb : (x9 = 0 ∧ k = 0 ∧ ∀ j, j < 4 → ¬ x5 = nI j) ∨ (x9 = 1 ∧ x5 = nI k)) :
    wL_lawOf_97 post mc ms x0 x1 x2 x3 x5 x6 x7 x8 x9 kc ks w hf gd uk un wt wr sn sk a1 a2 a3 a4 a5 a6 a7 a8 a9 a10 a11 a12 a13 a14 a15 a16 a17 a18 a19 a20 a21 a22 a23 a24 a25 a26 := by
  have no : (∀ j, j < 3 → ¬ x6 = nI j) → wL_lawOf_114 post mc ms x0 x1 x2 x3 x5 x6 x7 x8 x9 kc ks w hf gd uk un wt wr sn sk a1 a2 a3 a4 a5 a6 a7 a8 a9 a10 a11 a12 a13 a14 a15 a16 a17 a18 a19 a20 a21 a22 a23 a24 a25 a26 := by
    intro hne
    unfold wL_lawOf_114
    exact ml_115 (s := 0) hpost hk h hz (by omega) hb (Or.inl ⟨rfl, hne⟩)
  unfold wL_lawOf_97
  refine br_c (fun y => no (fun j hj e => ?_)) (fun y => br_c (fun y1 => no (fun j hj e => ?_)) (fun y1 => ?_))
  · rw [e] at y; exact nI_pos (by omega) y
  · rw [e] at y1; exact nI_ge (b := 3) hj (by omega) y1
  · rcases pk_ix x6 (n := 3) (by decide) with q | q | ⟨j, hj, e⟩
    · exact absurd q y
    · exact absurd q y1
    · exact ml_115 (s := j) hpost hk h hz hj hb (Or.inr ⟨rfl, e⟩)
theorem ml_79 (hpost : post 1 ()) (h : mj_AB mj_Z mj_Z (fun _ => False) 1 a1 a2 a3 a4 a5 a6 a7 a8 a9 a10 a11 a12 a13 a14) (hz : ∀ i, i < 3 → a15 i = 0) :
    wL_lawOf_79 post mc ms x0 x1 x2 x3 x5 x6 x7 x8 kc ks w hf gd uk un wt wr sn sk a1 a2 a3 a4 a5 a6 a7 a8 a9 a10 a11 a12 a13 a14 a15 a16 a17 a18 a19 a20 a21 a22 a23 a24 a25 a26 := by
  have no : (∀ j, j < 4 → ¬ x5 = nI j) → wL_lawOf_96 post mc ms x0 x1 x2 x3 x5 x6 x7 x8 kc ks w hf gd uk un wt wr sn sk a1 a2 a3 a4 a5 a6 a7 a8 a9 a10 a11 a12 a13 a14 a15 a16 a17 a18 a19 a20 a21 a22 a23 a24 a25 a26 := by
    intro hne
    unfold wL_lawOf_96
    exact ml_97 (k := 0) hpost (by omega) h hz (Or.inl ⟨rfl, rfl, hne⟩)
  unfold wL_lawOf_79
  refine br_c (fun y => no (fun j hj e => ?_)) (fun y => br_c (fun y1 => no (fun j hj e => ?_)) (fun y1 => ?_))
  · rw [e] at y; exact nI_pos (by omega) y
  · rw [e] at y1; exact nI_ge (b := 4) hj (by omega) y1
  · rcases pk_ix x5 (n := 4) (by decide) with q | q | ⟨j, hj, e⟩
    · exact absurd q y
    · exact absurd q y1
    · exact ml_97 (k := j) hpost hj h hz (Or.inr ⟨rfl, e⟩)
theorem ml_25 (hpost : post 1 ()) (h : mj_AB mj_Z mj_Z (fun _ => False) 1 a1 a2 a3 a4 a5 a6 a7 a8 a9 a10 a11 a12 a13 a14) (hz : ∀ i, i < 3 → a15 i = 0) :
    wL_lawOf_25 post mc ms x0 x1 x2 x3 x5 kc ks w hf gd uk un wt wr sn sk a1 a2 a3 a4 a5 a6 a7 a8 a9 a10 a11 a12 a13 a14 a15 a16 a17 a18 a19 a20 a21 a22 a23 a24 a25 a26 := by
  have c3 : ∀ y6 y7 : Int32, wL_lawOf_61 post mc ms x0 x1 x2 x3 x5 y6 y7 kc ks w hf gd uk un wt wr sn sk a1 a2 a3 a4 a5 a6 a7 a8 a9 a10 a11 a12 a13 a14 a15 a16 a17 a18 a19 a20 a21 a22 a23 a24 a25 a26 := by
    intro y6 y7
    unfold wL_lawOf_61
    exact br_c (fun _ => ml_79 hpost h hz) (fun _ => ml_79 hpost h hz)
  have c2 : ∀ y6 : Int32, wL_lawOf_42 post mc ms x0 x1 x2 x3 x5 y6 kc ks w hf gd uk un wt wr sn sk a1 a2 a3 a4 a5 a6 a7 a8 a9 a10 a11 a12 a13 a14 a15 a16 a17 a18 a19 a20 a21 a22 a23 a24 a25 a26 := by
    intro y6
    unfold wL_lawOf_42
    exact br_c (fun _ => c3 _ _) (fun _ => c3 _ _)
  unfold wL_lawOf_25
  exact br_c (fun _ => c2 _) (fun _ => c2 _)
end
end
section
theorem ml_lawOf {post : Int32 → St0 → Prop} {x0 x1 x2 x3 : Int32} (hpost : post 1 ()) : wpL_lawOf post 2656 42480 () x0 x1 x2 x3 := by
  unfold wpL_lawOf
  refine ⟨by omega, by omega, 2655, 42445, by omega, by omega, ?_⟩
  refine mj_init (by omega) (by omega) (fun a4 a6 a7 a8 a9 a10 a11 a12 a13 a14 h => ?_)
  exact br_c (fun _ => ml_25 hpost h (fun _ _ => rfl)) (fun _ => ml_25 hpost h (fun _ _ => rfl))
theorem ml_cellAt {post : Int32 → Prop} {L i : Nat} {xs : Nat → Int32} {u : St0} {p1 : Int32} (hL : L ≤ 4) (hi : i < 4) (h1 : p1 = nI i) (H : ∀ r, post r) : wpL_cellAt post L xs u p1 := by
  subst h1
  unfold wpL_cellAt
  exact pk_le L i (fun _ => H 0) (fun z => ⟨vp_in_nI z (by omega), H _⟩)
theorem i_vc (xs : Nat → Int32) (L : Nat) (hL : L ≤ 4) : wpL_law (fun r => r = 1) L xs := by
  unfold wpL_law
  refine ml_cellAt (i := 0) hL (by omega) rfl (fun r1 => ml_cellAt (i := 1) hL (by omega) rfl (fun r2 => ml_cellAt (i := 2) hL (by omega) rfl (fun r3 => ml_cellAt (i := 3) hL (by omega) rfl (fun r4 => ⟨2656, 42480, by omega, by omega, ?_⟩))))
  exact ml_lawOf rfl
end
