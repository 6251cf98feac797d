section
/-! FleetDesk: pure rows -/
theorem fd_b8 : ∀ n, n < 128 → (nI n).toInt8.toInt32 = nI n := by decide +kernel
theorem fd_nb {n : Nat} (h : n < 128) : vp_nar .byte (nI n) = nI n := by
  rw [vp_nar_byte, fd_b8 n h]
/-- taker i takes what giver g has -/
def fd_S (a8 a9 a10 a11 : Nat → Int32) (i g : Nat) : Prop := ¬ (a9 i < a11 g) ∧ ¬ ((a10 g &&& a8 i) = 0)
/-- how many of the first takers have nobody in the picture -/
def fd_cnt (as : Nat → Option Nat) : Nat → Nat
  | 0 => 0
  | j + 1 => if as j = none then fd_cnt as j + 1 else fd_cnt as j
theorem fd_cnt_none {as : Nat → Option Nat} {j : Nat} (h : as j = none) : fd_cnt as (j + 1) = fd_cnt as j + 1 := by
  show (if as j = none then fd_cnt as j + 1 else fd_cnt as j) = _
  rw [if_pos h]
theorem fd_cnt_some {as : Nat → Option Nat} {j g : Nat} (h : as j = some g) : fd_cnt as (j + 1) = fd_cnt as j := by
  show (if as j = none then fd_cnt as j + 1 else fd_cnt as j) = _
  rw [if_neg (by rw [h]; exact Option.some_ne_none g)]
theorem fd_cnt_le (as : Nat → Option Nat) (j : Nat) : fd_cnt as j ≤ j := by
  induction j with
  | zero => exact Nat.le_refl 0
  | succ j ih =>
    cases h : as j with
    | none => rw [fd_cnt_none h]; omega
    | some g => rw [fd_cnt_some h]; omega
theorem fd_cnt_0 {as : Nat → Option Nat} : ∀ j : Nat, (∀ i, i < j → as i ≠ none) → fd_cnt as j = 0 := by
  intro j
  induction j with
  | zero => exact fun _ => rfl
  | succ j ih =>
    intro h
    cases e : as j with
    | none => exact absurd e (h j (by omega))
    | some g => rw [fd_cnt_some e]; exact ih (fun i hi => h i (by omega))
theorem fd_cnt_pos {as : Nat → Option Nat} {i : Nat} (h : as i = none) : ∀ j : Nat, i < j → 0 < fd_cnt as j := by
  intro j
  induction j with
  | zero => exact fun z => absurd z (by omega)
  | succ j ih =>
    intro hj
    cases e : as j with
    | none => rw [fd_cnt_none e]; omega
    | some g =>
      rw [fd_cnt_some e]
      refine ih ?_
      have : i ≠ j := fun z => by
        rw [z, e] at h
        exact absurd h (Option.some_ne_none g)
      omega
theorem fd_m1 : ¬ (0 : Int32) ≤ -1 := by decide
theorem fd_upd {f : Nat → Int32} {k k' : Nat} {v v' : Int32} (hk : k = k') (hv : v = v') : upd f k v = upd f k' v' := by
  rw [hk, hv]
theorem fd_fill {s : Nat → Int32} {i : Nat} {v : Int32} (h : ∀ k, k < i → s k = v) : ∀ k, k < i + 1 → upd s i v k = v := by
  intro k hk
  by_cases e : k = i
  · rw [e, pk_us]
  · rw [pk_un e]
    exact h k (by omega)
end
section
/-! FleetDesk: the matching -/
theorem fd_suits {post : Int32 → Prop} {f0 f1 f2 f3 f4 f5 : Int32} {a1 a2 a3 a4 a5 a6 a7 a8 a9 a10 a11 a12 a13 a14 a15 a16 a17 : Nat → Int32} {i g : Nat} (hi : i < 24) (hg : g < 24) (h1 : fd_S a8 a9 a10 a11 i g → post 1) (h0 : ¬ fd_S a8 a9 a10 a11 i g → post 0) :
    wpX_suits post (f0, f1, f2, f3, f4, f5, a1, a2, a3, a4, a5, a6, a7, a8, a9, a10, a11, a12, a13, a14, a15, a16, a17) (nI i) (nI g) := by
  unfold wpX_suits
  dsimp only
  rw [nI_clamp (show i < 2 ^ 31 by omega), nI_clamp (show g < 2 ^ 31 by omega)]
  exact ⟨pk_in g 24 hg, pk_in i 24 hi, br_c (fun z => h0 (fun t => t.1 z)) (fun z => ⟨pk_in g 24 hg, pk_in i 24 hi, br_c (fun y => h0 (fun t => t.2 y)) (fun y => h1 ⟨z, y⟩)⟩)⟩
theorem fd_lookA {post : Int32 → St2 → Prop} {f0 f1 f2 f5 : Int32} {a1 a2 a3 a4 a5 a6 a7 a8 a9 a10 a11 a12 a13 a14 a15 a16 a17 : Nat → Int32} {G i g le : Nat} (hG : G ≤ 24) (hi : i < 24) (hg : g < G) (hle : le ≤ 24)
    (hS : fd_S a8 a9 a10 a11 i g) (hf : ¬ 0 ≤ a12 g) (hr : ¬ 0 ≤ a13 g) (hm : ∀ k, k < g → fd_S a8 a9 a10 a11 i k → 0 ≤ a12 k)
    (H : ∀ (le' : Int32) (b13 b15 : Nat → Int32), b13 g = nI i → post (nI g) (f0, f1, f2, nI G, le', f5, a1, a2, a3, a4, a5, a6, a7, a8, a9, a10, a11, a12, b13, a14, b15, a16, a17)) :
    wpX_look post (f0, f1, f2, nI G, nI le, f5, a1, a2, a3, a4, a5, a6, a7, a8, a9, a10, a11, a12, a13, a14, a15, a16, a17) (nI i) := by
  unfold wpX_look
  refine pk_loop (σ := Nat × (Nat → Int32) × (Nat → Int32)) (fun n k s => wX_look_2 post (nI i) f0 f1 f2 (nI G) f5 n (nI k) (nI s.1) a1 a2 a3 a4 a5 a6 a7 a8 a9 a10 a11 a12 s.2.1 a14 s.2.2 a16 a17) (fun k s => s.1 ≤ 24 ∧ ¬ 0 ≤ s.2.1 g) g 0 (le, a13, a15) (by omega) ⟨hle, hr⟩ ?_ ?_
  · intro n s hs
    refine pk_le G g (fun z => absurd z (by omega)) (fun _ => ⟨pk_in g 24 (by omega), ?_⟩)
    rw [nI_clamp (show g < 2 ^ 31 by omega)]
    refine br_f hs.2 (fd_suits hi (by omega) (fun _ => br_f (by decide) ⟨pk_in g 24 (by omega), nm_e ⟨pk_in g 24 (by omega), br_f hf (H _ _ _ ?_)⟩⟩) (fun z => absurd hS z))
    rw [pk_us, fd_b8 i (by omega)]
  · intro n k s hk hs hw
    refine pk_le G k (fun z => absurd z (by omega)) (fun _ => ⟨pk_in k 24 (by omega), ?_⟩)
    rw [nI_clamp (show k < 2 ^ 31 by omega)]
    have hu : ∀ v, ¬ 0 ≤ upd s.2.1 k v g := fun v => by
      rw [pk_un (show g ≠ k by omega)]
      exact hs.2
    refine br_c (fun _ => nm_r (nI_1 k) (hw s hs)) (fun _ => fd_suits hi (by omega) (fun hz => br_f (by decide) ⟨pk_in k 24 (by omega), nm_e ⟨pk_in k 24 (by omega), br_t (hm k hk hz) ?_⟩⟩) (fun _ => br_t rfl (nm_r (nI_1 k) (hw s hs))))
    exact pk_le 24 s.1 (fun _ => nm_r (nI_1 k) (hw (s.1, upd s.2.1 k _, s.2.2) ⟨hs.1, hu _⟩)) (fun z => ⟨pk_in k 24 (by omega), pk_in s.1 24 z, nm_e (nm_r (nI_1 s.1) (nm_r (nI_1 k) (hw (s.1 + 1, upd s.2.1 k _, upd s.2.2 _ _) ⟨z, hu _⟩)))⟩)
theorem fd_lookB {post : Int32 → St2 → Prop} {f0 f1 f2 f5 : Int32} {a1 a2 a3 a4 a5 a6 a7 a8 a9 a10 a11 a12 a13 a14 a15 a16 a17 : Nat → Int32} {G i le : Nat} {Q : Nat → Prop} (hG : G ≤ 24) (hle : le ≤ 24)
    (hQ : ∀ i, Q i → i < 24 ∧ ∀ g, g < G → fd_S a8 a9 a10 a11 i g → ∃ i', Q i' ∧ a12 g = nI i') (hi : Q i) (hl : ∀ q, q < le → ∃ i, Q i ∧ a15 q = nI i)
    (H : ∀ (le' : Nat) (b13 b15 : Nat → Int32), le' ≤ 24 → (∀ q, q < le' → ∃ i, Q i ∧ b15 q = nI i) → post (-1) (f0, f1, f2, nI G, nI le', f5, a1, a2, a3, a4, a5, a6, a7, a8, a9, a10, a11, a12, b13, a14, b15, a16, a17)) :
    wpX_look post (f0, f1, f2, nI G, nI le, f5, a1, a2, a3, a4, a5, a6, a7, a8, a9, a10, a11, a12, a13, a14, a15, a16, a17) (nI i) := by
  unfold wpX_look
  refine pk_loop (σ := Nat × (Nat → Int32) × (Nat → Int32)) (fun n k s => wX_look_2 post (nI i) f0 f1 f2 (nI G) f5 n (nI k) (nI s.1) a1 a2 a3 a4 a5 a6 a7 a8 a9 a10 a11 a12 s.2.1 a14 s.2.2 a16 a17) (fun k s => s.1 ≤ 24 ∧ ∀ q, q < s.1 → ∃ i, Q i ∧ s.2.2 q = nI i) G 0 (le, a13, a15) (by omega) ⟨hle, hl⟩ ?_ ?_
  · intro n s hs
    exact pk_le G G (fun _ => H _ _ _ hs.1 hs.2) (fun z => absurd z (by omega))
  · intro n k s hk hs hw
    refine pk_le G k (fun z => absurd z (by omega)) (fun _ => ⟨pk_in k 24 (by omega), ?_⟩)
    rw [nI_clamp (show k < 2 ^ 31 by omega)]
    refine br_c (fun _ => nm_r (nI_1 k) (hw s hs)) (fun _ => fd_suits (hQ i hi).1 (by omega) (fun hz => ?_) (fun _ => br_t rfl (nm_r (nI_1 k) (hw s hs))))
    obtain ⟨i', q', e'⟩ := (hQ i hi).2 k hk hz
    have hi' := (hQ i' q').1
    refine br_f (by decide) ⟨pk_in k 24 (by omega), nm_e ⟨pk_in k 24 (by omega), br_t (by rw [e']; exact nI_pos' (by omega)) ?_⟩⟩
    refine pk_le 24 s.1 (fun _ => nm_r (nI_1 k) (hw (s.1, upd s.2.1 k _, s.2.2) ⟨hs.1, hs.2⟩)) (fun z => ⟨pk_in k 24 (by omega), pk_in s.1 24 z, nm_e (nm_r (nI_1 s.1) (nm_r (nI_1 k) (hw (s.1 + 1, upd s.2.1 k _, upd s.2.2 _ _) ⟨z, ?_⟩)))⟩)
    intro q hq
    dsimp only at hq ⊢
    rw [nI_clamp (show s.1 < 2 ^ 31 by omega)]
    by_cases e : q = s.1
    · rw [e, pk_us, e', fd_nb (by omega)]
      exact ⟨i', q', rfl⟩
    · rw [pk_un e]
      exact hs.2 q (by omega)
theorem fd_shift {post : St2 → Prop} {f0 f1 f2 f3 f4 f5 : Int32} {a1 a2 a3 a4 a5 a6 a7 a8 a9 a10 a11 a12 a13 a14 a15 a16 a17 : Nat → Int32} {g j : Nat} (hg : g < 24) (hj : j < 24) (h13 : a13 g = nI j) (h14 : a14 j < 0)
    (H : post (f0, f1, f2, f3, f4, f5, a1, a2, a3, a4, a5, a6, a7, a8, a9, a10, a11, upd a12 g (nI j), a13, upd a14 j (nI g), a15, a16, a17)) : wpX_shift post (f0, f1, f2, f3, f4, f5, a1, a2, a3, a4, a5, a6, a7, a8, a9, a10, a11, a12, a13, a14, a15, a16, a17) (nI g) := by
  unfold wpX_shift
  refine ⟨0 + 1 + 1, br_f (by decide) (br_f (nI_pos (by omega)) ⟨pk_in g 24 hg, nm_r (e' := nI j) (by rw [nI_clamp (by omega), h13]) ⟨pk_in j 24 hj, nm_r (e' := a14 j) (by rw [nI_clamp (by omega)]) ⟨pk_in g 24 hg, nm_r (e' := upd a12 g (nI j)) (fd_upd (nI_clamp (by omega)) (fd_b8 j (by omega))) ⟨pk_in j 24 hj, nm_r (e' := upd a14 j (nI g)) (fd_upd (nI_clamp (by omega)) (fd_b8 g (by omega))) (nm_e (br_f (by decide) (br_t h14 H)))⟩⟩⟩⟩)⟩
theorem fd_serveA {post : Int32 → St2 → Prop} {f0 f1 f2 f4 f5 : Int32} {a1 a2 a3 a4 a5 a6 a7 a8 a9 a10 a11 a12 a13 a14 a15 a16 a17 : Nat → Int32} {G j g : Nat} (hG : G ≤ 24) (hj : j < 24) (hg : g < G)
    (hS : fd_S a8 a9 a10 a11 j g) (hf : ¬ 0 ≤ a12 g) (hm : ∀ k, k < g → fd_S a8 a9 a10 a11 j k → 0 ≤ a12 k) (h14 : a14 j < 0)
    (H : ∀ (le : Int32) (b13 b15 : Nat → Int32), post 1 (f0, f1, f2, nI G, le, f5, a1, a2, a3, a4, a5, a6, a7, a8, a9, a10, a11, upd a12 g (nI j), b13, upd a14 j (nI g), b15, a16, a17)) :
    wpX_serve post (f0, f1, f2, nI G, f4, f5, a1, a2, a3, a4, a5, a6, a7, a8, a9, a10, a11, a12, a13, a14, a15, a16, a17) (nI j) := by
  unfold wpX_serve
  refine pk_loop (σ := Nat → Int32) (fun n k s => wX_serve_2 post (nI j) f0 f1 f2 (nI G) f4 f5 n (nI k) a1 a2 a3 a4 a5 a6 a7 a8 a9 a10 a11 a12 s a14 a15 a16 a17) (fun k s => ∀ q, q < k → s q = -1) G 0 a13 (by omega) (fun q hq => absurd hq (by omega)) ?_ ?_
  · intro n s hs
    refine pk_le G G (fun _ => nm_r (e' := upd a15 0 (nI j)) (fd_upd rfl (fd_b8 j (by omega))) ⟨0 + 1 + 1, br_f (by decide) (br_f (by decide) (br_f fd_m1 ⟨pk_in 0 24 (by omega), ?_⟩))⟩) (fun z => absurd z (by omega))
    rw [sb_cl0, pk_us]
    refine fd_lookA (le := 1) hG hj hg (by omega) hS hf (by rw [hs g hg]; exact fd_m1) hm (fun le b13 b15 hb => nm_e ?_)
    have E : wX_serve_75 post (nI g) f0 f1 f2 (nI G) le f5 a1 a2 a3 a4 a5 a6 a7 a8 a9 a10 a11 a12 b13 a14 b15 a16 a17 := br_t (nI_pos' (by omega)) (fd_shift (by omega) hj hb h14 (H _ _ _))
    exact br_c (fun _ => E) (fun _ => br_c (fun _ => E) (fun _ => br_t (nI_pos' (by omega)) E))
  · intro n k s hk hs hw
    refine pk_le G k (fun z => absurd z (by omega)) (fun _ => ⟨pk_in k 24 (by omega), nm_e (nm_r (nI_1 k) (hw _ ?_))⟩)
    rw [nI_clamp (show k < 2 ^ 31 by omega)]
    exact fd_fill hs
theorem fd_serveB {post : Int32 → St2 → Prop} {f0 f1 f2 f4 f5 : Int32} {a1 a2 a3 a4 a5 a6 a7 a8 a9 a10 a11 a12 a13 a14 a15 a16 a17 : Nat → Int32} {G j : Nat} {Q : Nat → Prop} (hG : G ≤ 24)
    (hQ : ∀ i, Q i → i < 24 ∧ ∀ g, g < G → fd_S a8 a9 a10 a11 i g → ∃ i', Q i' ∧ a12 g = nI i') (hj : Q j)
    (H : ∀ (le : Int32) (b13 b15 : Nat → Int32), post 0 (f0, f1, f2, nI G, le, f5, a1, a2, a3, a4, a5, a6, a7, a8, a9, a10, a11, a12, b13, a14, b15, a16, a17)) :
    wpX_serve post (f0, f1, f2, nI G, f4, f5, a1, a2, a3, a4, a5, a6, a7, a8, a9, a10, a11, a12, a13, a14, a15, a16, a17) (nI j) := by
  have hj' := (hQ j hj).1
  unfold wpX_serve
  refine pk_loop (σ := Nat → Int32) (fun n k s => wX_serve_2 post (nI j) f0 f1 f2 (nI G) f4 f5 n (nI k) a1 a2 a3 a4 a5 a6 a7 a8 a9 a10 a11 a12 s a14 a15 a16 a17) (fun _ _ => True) G 0 a13 (by omega) trivial ?_ ?_
  · intro n s _
    refine pk_le G G (fun _ => nm_r (e' := upd a15 0 (nI j)) (fd_upd rfl (fd_b8 j (by omega))) ?_) (fun z => absurd z (by omega))
    refine pk_loop (σ := Nat × (Nat → Int32) × (Nat → Int32)) (fun n k s => wX_serve_40 post n (-1) (nI k) f0 f1 f2 (nI G) (nI s.1) f5 a1 a2 a3 a4 a5 a6 a7 a8 a9 a10 a11 a12 s.2.1 a14 s.2.2 a16 a17) (fun k s => s.1 ≤ 24 ∧ ∀ q, q < s.1 → ∃ i, Q i ∧ s.2.2 q = nI i) 24 0 (1, s, upd a15 0 (nI j)) (by omega) ⟨by omega, ?_⟩ ?_ ?_
    · intro q hq
      dsimp only at hq ⊢
      rw [show q = 0 by omega, pk_us]
      exact ⟨j, hj, rfl⟩
    · intro n s hs
      have E : wX_serve_75 post (-1) f0 f1 f2 (nI G) (nI s.1) f5 a1 a2 a3 a4 a5 a6 a7 a8 a9 a10 a11 a12 s.2.1 a14 s.2.2 a16 a17 := br_f fd_m1 (H _ _ _)
      exact br_c (fun _ => E) (fun _ => br_t (by decide) E)
    · intro n k s hk hs hw
      have E : wX_serve_75 post (-1) f0 f1 f2 (nI G) (nI s.1) f5 a1 a2 a3 a4 a5 a6 a7 a8 a9 a10 a11 a12 s.2.1 a14 s.2.2 a16 a17 := br_f fd_m1 (H _ _ _)
      refine pk_le s.1 k (fun _ => E) (fun z => br_f (nI_ge (b := 24) hk (by decide)) (br_f fd_m1 ⟨pk_in k 24 hk, ?_⟩))
      rw [nI_clamp (show k < 2 ^ 31 by omega)]
      obtain ⟨i, qi, ei⟩ := hs.2 k z
      rw [ei]
      exact fd_lookB hG hs.1 hQ qi hs.2 (fun le' b13 b15 h1 h2 => nm_r (nI_1 k) (hw (le', b13, b15) ⟨h1, h2⟩))
  · intro n k s hk hs hw
    exact pk_le G k (fun z => absurd z (by omega)) (fun _ => ⟨pk_in k 24 (by omega), nm_e (nm_r (nI_1 k) (hw _ trivial))⟩)
/-- the picture: as j is the giver that taker j gets, or nobody; then the search does just that -/
def fd_As (a8 a9 a10 a11 : Nat → Int32) (T G : Nat) (as : Nat → Option Nat) : Prop :=
  (∀ j g, j < T → as j = some g → g < G ∧ fd_S a8 a9 a10 a11 j g ∧ (∀ i, i < j → as i ≠ some g) ∧ ∀ k, k < g → fd_S a8 a9 a10 a11 j k → ∃ i, i < j ∧ as i = some k) ∧
  (∀ j, j < T → as j = none → ∃ Q : Nat → Prop, Q j ∧ ∀ i, Q i → i < 24 ∧ ∀ g, g < G → fd_S a8 a9 a10 a11 i g → ∃ i', Q i' ∧ i' < j ∧ as i' = some g)
/-- the matching after j takers -/
def fd_J (T G : Nat) (as : Nat → Option Nat) (j : Nat) (a12 a14 : Nat → Int32) : Prop :=
  (∀ g, g < G → (∀ i, i < j → as i ≠ some g) → a12 g = -1) ∧ (∀ i g, i < j → as i = some g → a12 g = nI i) ∧ (∀ i, j ≤ i → i < T → a14 i = -1)
theorem fd_unm50 {post : Int32 → St2 → Prop} {f0 f1 f4 f5 : Int32} {a1 a2 a3 a4 a5 a6 a7 a8 a9 a10 a11 a12 a13 a14 a15 a16 a17 : Nat → Int32} {T G : Nat} {as : Nat → Option Nat} (hT : T ≤ 24) (hG : G ≤ 24) (hA : fd_As a8 a9 a10 a11 T G as)
    (h12 : ∀ g, g < G → a12 g = -1) (h14 : ∀ i, i < T → a14 i = -1)
    (H : ∀ (le : Int32) (b12 b13 b14 b15 : Nat → Int32), post (nI (fd_cnt as T)) (f0, f1, nI T, nI G, le, f5, a1, a2, a3, a4, a5, a6, a7, a8, a9, a10, a11, b12, b13, b14, b15, a16, a17)) :
    ∃ n, wX_unmatched_50 post n 0 0 f0 f1 (nI T) (nI G) f4 f5 a1 a2 a3 a4 a5 a6 a7 a8 a9 a10 a11 a12 a13 a14 a15 a16 a17 := by
  refine pk_loop (σ := Int32 × (Nat → Int32) × (Nat → Int32) × (Nat → Int32) × (Nat → Int32)) (fun n j s => wX_unmatched_50 post n (nI (fd_cnt as j)) (nI j) f0 f1 (nI T) (nI G) s.1 f5 a1 a2 a3 a4 a5 a6 a7 a8 a9 a10 a11 s.2.1 s.2.2.1 s.2.2.2.1 s.2.2.2.2 a16 a17) (fun j s => fd_J T G as j s.2.1 s.2.2.2.1) T 0 (f4, a12, a13, a14, a15) (by omega) ⟨fun g hg _ => h12 g hg, fun i g hi => absurd hi (by omega), fun i _ hi => h14 i hi⟩ ?_ ?_
  · intro n s hs
    exact pk_le T T (fun _ => H _ _ _ _ _) (fun z => absurd z (by omega))
  · intro n j s hj hs hw
    obtain ⟨s4, b12, b13, b14, b15⟩ := s
    obtain ⟨j1, j2, j3⟩ := hs
    dsimp only at j1 j2 j3
    refine pk_le T j (fun z => absurd z (by omega)) (fun _ => ?_)
    cases e : as j with
    | none =>
      obtain ⟨Q, q1, q2⟩ := hA.2 j hj e
      refine fd_serveB (Q := Q) hG ?_ q1 (fun le c13 c15 => br_t rfl (nm_r (e' := nI (fd_cnt as (j + 1))) (by rw [fd_cnt_none e, nI_1]) (nm_r (nI_1 j) (hw (le, b12, c13, b14, c15) ⟨?_, ?_, ?_⟩))))
      · intro i hi
        refine ⟨(q2 i hi).1, fun g hg hS => ?_⟩
        obtain ⟨i', h1, h2, h3⟩ := (q2 i hi).2 g hg hS
        exact ⟨i', h1, j2 i' g h2 h3⟩
      · exact fun g hg h => j1 g hg (fun i hi => h i (by omega))
      · intro i g hi h
        by_cases ei : i = j
        · rw [ei, e] at h
          exact absurd h.symm (Option.some_ne_none g)
        · exact j2 i g (by omega) h
      · exact fun i h1 h2 => j3 i (by omega) h2
    | some g =>
      obtain ⟨g1, g2, g3, g4⟩ := hA.1 j g hj e
      have q1 : ¬ 0 ≤ b12 g := by
        rw [j1 g g1 g3]
        exact fd_m1
      have q2 : b14 j < 0 := by
        rw [j3 j (by omega) hj]
        decide
      refine fd_serveA (g := g) hG (by omega) g1 g2 q1 ?_ q2 (fun le c13 c15 => br_f (by decide) (nm_r (nI_1 j) ?_))
      · intro k hk hS
        obtain ⟨i, h1, h2⟩ := g4 k hk hS
        dsimp only
        rw [j2 i k h1 h2]
        exact nI_pos' (by omega)
      · have t := hw (le, upd b12 g (nI j), c13, upd b14 j (nI g), c15) ⟨?_, ?_, ?_⟩
        · dsimp only at t
          rw [fd_cnt_some e] at t
          exact t
        · intro k hk h
          have hne : k ≠ g := fun z => h j (by omega) (by rw [e, z])
          dsimp only
          rw [pk_un hne]
          exact j1 k hk (fun i hi => h i (by omega))
        · intro i k hi h
          dsimp only
          by_cases ei : i = j
          · rw [ei, e] at h
            rw [← Option.some.inj h, pk_us, ei]
          · have hne : k ≠ g := fun z => g3 i (by omega) (by rw [h, z])
            rw [pk_un hne]
            exact j2 i k (by omega) h
        · intro i h1 h2
          dsimp only
          rw [pk_un (show i ≠ j by omega)]
          exact j3 i (by omega) h2
theorem fd_unm {post : Int32 → St2 → Prop} {f0 f1 f4 f5 : Int32} {a1 a2 a3 a4 a5 a6 a7 a8 a9 a10 a11 a12 a13 a14 a15 a16 a17 : Nat → Int32} {T G : Nat} (as : Nat → Option Nat) (hT : T ≤ 24) (hG : G ≤ 24) (hA : fd_As a8 a9 a10 a11 T G as)
    (H : ∀ (le : Int32) (b12 b13 b14 b15 : Nat → Int32), post (nI (fd_cnt as T)) (f0, f1, nI T, nI G, le, f5, a1, a2, a3, a4, a5, a6, a7, a8, a9, a10, a11, b12, b13, b14, b15, a16, a17)) :
    wpX_unmatched post (f0, f1, nI T, nI G, f4, f5, a1, a2, a3, a4, a5, a6, a7, a8, a9, a10, a11, a12, a13, a14, a15, a16, a17) := by
  unfold wpX_unmatched
  refine pk_loop (σ := Nat → Int32) (fun n k s => wX_unmatched_2 post f0 f1 (nI T) (nI G) f4 f5 n (nI k) a1 a2 a3 a4 a5 a6 a7 a8 a9 a10 a11 s a13 a14 a15 a16 a17) (fun k s => ∀ q, q < k → s q = -1) G 0 a12 (by omega) (fun q hq => absurd hq (by omega)) ?_ ?_
  · intro n s hs
    refine pk_le G G (fun _ => ?_) (fun z => absurd z (by omega))
    refine pk_loop (σ := Nat → Int32) (fun n k r => wX_unmatched_25 post f0 f1 (nI T) (nI G) f4 f5 n (nI k) a1 a2 a3 a4 a5 a6 a7 a8 a9 a10 a11 s a13 r a15 a16 a17) (fun k r => ∀ q, q < k → r q = -1) T 0 a14 (by omega) (fun q hq => absurd hq (by omega)) ?_ ?_
    · intro n r hr
      exact pk_le T T (fun _ => fd_unm50 hT hG hA hs hr H) (fun z => absurd z (by omega))
    · intro n k r hk hr hw
      refine pk_le T k (fun z => absurd z (by omega)) (fun _ => ⟨pk_in k 24 (by omega), nm_e (nm_r (nI_1 k) (hw _ ?_))⟩)
      rw [nI_clamp (show k < 2 ^ 31 by omega)]
      exact fd_fill hr
  · intro n k s hk hs hw
    refine pk_le G k (fun z => absurd z (by omega)) (fun _ => ⟨pk_in k 24 (by omega), nm_e (nm_r (nI_1 k) (hw _ ?_))⟩)
    rw [nI_clamp (show k < 2 ^ 31 by omega)]
    exact fd_fill hs
end
section
/-! FleetDesk: putting a question together -/
def fd_St (x y : Nat) (a5 : Nat → Int32) : Prop := x ≤ 3 ∧ y ≤ 3 ∧ a5 0 = nI x ∧ a5 1 = nI y ∧ a5 2 = nI 0 ∧ a5 3 = nI 0
def fd_Gv (x y : Nat) (a10 a11 : Nat → Int32) : Prop := (∀ g, g < x → a10 g = nI 1 ∧ a11 g = nI 0) ∧ (∀ g, x ≤ g → g < x + y → a10 g = nI 2 ∧ a11 g = nI 0)
theorem fd_c1 : (1 : Int32).toNatClampNeg = 1 := by decide
theorem fd_01 : (0 : Int32) + 1 = 1 := by decide
theorem fd_12 : (1 : Int32) + 1 = 2 := by decide
theorem fd_u01 {f : Nat → Int32} {v w : Int32} : upd (upd f (0 : Int32).toNatClampNeg v) (1 : Int32).toNatClampNeg w 0 = v := by
  rw [sb_cl0, fd_c1, pk_un (by decide), pk_us]
theorem fd_askP {post : St2 → Prop} {f1 f2 f3 f4 f5 : Int32} {a1 a2 a3 a4 a5 a6 a7 a8 a9 a10 a11 a12 a13 a14 a15 a16 a17 : Nat → Int32}
    (H : ∀ b6 b7 : Nat → Int32, b6 0 = vp_nar .byte (a1 0) → b7 0 = vp_nar .byte (a3 0) → post (2, f1, f2, f3, f4, f5, a1, a2, a3, a4, a5, b6, b7, a8, a9, a10, a11, a12, a13, a14, a15, a16, a17)) : wpX_askPlainly post (2, f1, f2, f3, f4, f5, a1, a2, a3, a4, a5, a6, a7, a8, a9, a10, a11, a12, a13, a14, a15, a16, a17) := by
  unfold wpX_askPlainly
  refine ⟨0 + 1 + 1 + 1, br_f (by decide) ⟨pk_in 0 8 (by omega), pk_in 0 8 (by omega), nm_e ⟨pk_in 0 8 (by omega), pk_in 0 8 (by omega), nm_e (nm_r fd_01 (br_f (by decide) ⟨pk_in 1 8 (by omega), pk_in 1 8 (by omega), nm_e ⟨pk_in 1 8 (by omega), pk_in 1 8 (by omega), nm_e (nm_r fd_12 (br_t (by decide) (H _ _ ?_ ?_)))⟩⟩))⟩⟩⟩
  · rw [fd_u01, sb_cl0]
  · rw [fd_u01, sb_cl0]
theorem fd_addG {post : St2 → Prop} {f0 f1 f2 f4 f5 : Int32} {a1 a2 a3 a4 a5 a6 a7 a8 a9 a10 a11 a12 a13 a14 a15 a16 a17 : Nat → Int32} {n : Nat} {p0 p1 v w : Int32} (hn : n < 24) (h0 : p0.toInt8.toInt32 = v) (h1 : p1.toInt8.toInt32 = w)
    (H : post (f0, f1, f2, nI (n + 1), f4, f5, a1, a2, a3, a4, a5, a6, a7, a8, a9, upd a10 n v, upd a11 n w, a12, a13, a14, a15, a16, a17)) : wpX_addGiver post (f0, f1, f2, nI n, f4, f5, a1, a2, a3, a4, a5, a6, a7, a8, a9, a10, a11, a12, a13, a14, a15, a16, a17) p0 p1 := by
  unfold wpX_addGiver
  exact br_f (nI_ge (b := 24) hn (by decide)) ⟨pk_in n 24 hn, nm_r (fd_upd (nI_clamp (by omega)) h0) ⟨pk_in n 24 hn, nm_r (fd_upd (nI_clamp (by omega)) h1) (nm_r (nI_1 n) H)⟩⟩
theorem fd_addT {post : St2 → Prop} {f0 f1 f3 f4 f5 : Int32} {a1 a2 a3 a4 a5 a6 a7 a8 a9 a10 a11 a12 a13 a14 a15 a16 a17 : Nat → Int32} {n : Nat} {p0 p1 v w : Int32} (hn : n < 24) (h0 : p0.toInt8.toInt32 = v) (h1 : p1.toInt8.toInt32 = w)
    (H : post (f0, f1, nI (n + 1), f3, f4, f5, a1, a2, a3, a4, a5, a6, a7, upd a8 n v, upd a9 n w, a10, a11, a12, a13, a14, a15, a16, a17)) : wpX_addTaker post (f0, f1, nI n, f3, f4, f5, a1, a2, a3, a4, a5, a6, a7, a8, a9, a10, a11, a12, a13, a14, a15, a16, a17) p0 p1 := by
  unfold wpX_addTaker
  exact br_f (nI_ge (b := 24) hn (by decide)) ⟨pk_in n 24 hn, nm_r (fd_upd (nI_clamp (by omega)) h0) ⟨pk_in n 24 hn, nm_r (fd_upd (nI_clamp (by omega)) h1) (nm_r (nI_1 n) H)⟩⟩
theorem fd_g19 {post : St2 → Prop} {J : Int32 → Int32 → Int32 → Int32 → Int32 → Int32 → Int32 → (Nat → Int32) → (Nat → Int32) → (Nat → Int32) → (Nat → Int32) → (Nat → Int32) → (Nat → Int32) → (Nat → Int32) → (Nat → Int32) → (Nat → Int32) → (Nat → Int32) → (Nat → Int32) → (Nat → Int32) → (Nat → Int32) → (Nat → Int32) → (Nat → Int32) → (Nat → Int32) → (Nat → Int32) → Prop} {f0 f1 f2 f4 f5 : Int32} {a1 a2 a3 a4 a5 a6 a7 a8 a9 a10 a11 a12 a13 a14 a15 a16 a17 : Nat → Int32} {s m n : Nat} {v : Int32} (hs : s < 4) (hm : m + n ≤ 24) (h5 : a5 s = nI n) (hv : ((1 : Int32) <<< (nI s &&& 31)).toInt8.toInt32 = v)
    (H : ∀ b10 b11 : Nat → Int32, (∀ g, g < m → b10 g = a10 g ∧ b11 g = a11 g) → (∀ g, m ≤ g → g < m + n → b10 g = v ∧ b11 g = nI 0) → J (nI (s + 1)) f0 f1 f2 (nI (m + n)) f4 f5 a1 a2 a3 a4 a5 a6 a7 a8 a9 b10 b11 a12 a13 a14 a15 a16 a17) :
    ∃ k, wX_gather_19 post J (nI s) k 0 f0 f1 f2 (nI m) f4 f5 a1 a2 a3 a4 a5 a6 a7 a8 a9 a10 a11 a12 a13 a14 a15 a16 a17 := by
  refine pk_loop (σ := (Nat → Int32) × (Nat → Int32)) (fun k i r => wX_gather_19 post J (nI s) k (nI i) f0 f1 f2 (nI (m + i)) f4 f5 a1 a2 a3 a4 a5 a6 a7 a8 a9 r.1 r.2 a12 a13 a14 a15 a16 a17) (fun i r => (∀ g, g < m → r.1 g = a10 g ∧ r.2 g = a11 g) ∧ (∀ g, m ≤ g → g < m + i → r.1 g = v ∧ r.2 g = nI 0)) n 0 (a10, a11) (by omega) ⟨fun g _ => ⟨rfl, rfl⟩, fun g h1 h2 => absurd h1 (by omega)⟩ ?_ ?_
  · intro k r hr
    refine ⟨pk_in s 4 hs, br_t ?_ (nm_r (nI_1 s) (H _ _ hr.1 hr.2))⟩
    rw [nI_clamp (show s < 2 ^ 31 by omega), h5]
    exact nI_le (Nat.le_refl n) (by omega)
  · intro k i r hi hr hw
    refine ⟨pk_in s 4 hs, br_f ?_ (fd_addG (n := m + i) (v := v) (w := nI 0) (by omega) hv (by decide) (nm_r (nI_1 i) (hw (upd r.1 (m + i) v, upd r.2 (m + i) (nI 0)) ⟨?_, ?_⟩)))⟩
    · rw [nI_clamp (show s < 2 ^ 31 by omega), h5]
      exact nI_ge hi (by omega)
    · intro g hg
      dsimp only
      rw [pk_un (show g ≠ m + i by omega), pk_un (show g ≠ m + i by omega)]
      exact hr.1 g hg
    · intro g h1 h2
      dsimp only
      by_cases e : g = m + i
      · rw [e, pk_us, pk_us]
        exact ⟨rfl, rfl⟩
      · rw [pk_un e, pk_un e]
        exact hr.2 g h1 (by omega)
theorem fd_g12 {post : St2 → Prop} {f0 f1 f4 f5 : Int32} {a1 a2 a3 a4 a5 a6 a7 a8 a9 a10 a11 a12 a13 a14 a15 a16 a17 : Nat → Int32} {x y : Nat} (hs : fd_St x y a5)
    (H : ∀ b10 b11 : Nat → Int32, fd_Gv x y b10 b11 → ∃ n, wX_gather_51 post n 0 f0 f1 0 (nI (x + y)) f4 f5 a1 a2 a3 a4 a5 a6 a7 a8 a9 b10 b11 a12 a13 a14 a15 a16 a17) :
    ∃ n, wX_gather_12 post n 0 f0 f1 0 0 f4 f5 a1 a2 a3 a4 a5 a6 a7 a8 a9 a10 a11 a12 a13 a14 a15 a16 a17 := by
  obtain ⟨hx, hy, h0, h1, h2, h3⟩ := hs
  refine ⟨0 + 1 + 1 + 1 + 1 + 1, br_f (by decide) (fd_g19 (s := 0) (m := 0) (n := x) (v := nI 1) (by omega) (by omega) h0 (by decide) (fun b10 b11 p1 p2 => ?_))⟩
  refine br_f (by decide) (fd_g19 (s := 1) (m := 0 + x) (n := y) (v := nI 2) (by omega) (by omega) h1 (by decide) (fun c10 c11 q1 q2 => ?_))
  refine br_f (by decide) (fd_g19 (s := 2) (m := 0 + x + y) (n := 0) (v := nI 4) (by omega) (by omega) h2 (by decide) (fun d10 d11 r1 r2 => ?_))
  refine br_f (by decide) (fd_g19 (s := 3) (m := 0 + x + y + 0) (n := 0) (v := nI 8) (by omega) (by omega) h3 (by decide) (fun e10 e11 t1 t2 => ?_))
  refine br_t (by decide) ?_
  rw [show 0 + x + y + 0 + 0 = x + y by omega]
  refine H e10 e11 ⟨fun g hg => ?_, fun g h1 h2 => ?_⟩
  · rw [(t1 g (by omega)).1, (t1 g (by omega)).2, (r1 g (by omega)).1, (r1 g (by omega)).2, (q1 g (by omega)).1, (q1 g (by omega)).2]
    exact p2 g (by omega) (by omega)
  · rw [(t1 g (by omega)).1, (t1 g (by omega)).2, (r1 g (by omega)).1, (r1 g (by omega)).2]
    exact q2 g (by omega) (by omega)
/-- no booking -/
theorem fd_gat0 {post : St2 → Prop} {f2 f3 f4 f5 : Int32} {a1 a2 a3 a4 a5 a6 a7 a8 a9 a10 a11 a12 a13 a14 a15 a16 a17 : Nat → Int32} {x y : Nat} (hs : fd_St x y a5)
    (H : ∀ b10 b11 : Nat → Int32, fd_Gv x y b10 b11 → post (2, 0, nI 0, nI (x + y), f4, f5, a1, a2, a3, a4, a5, a6, a7, a8, a9, b10, b11, a12, a13, a14, a15, a16, a17)) : wpX_gather post (2, 0, f2, f3, f4, f5, a1, a2, a3, a4, a5, a6, a7, a8, a9, a10, a11, a12, a13, a14, a15, a16, a17) := by
  unfold wpX_gather
  refine fd_g12 hs (fun b10 b11 hb => ?_)
  exact ⟨0 + 1 + 1 + 1, br_f (by decide) (br_t (by decide) (nm_r fd_01 (br_f (by decide) (br_t (by decide) (nm_r fd_12 (br_t (by decide) (H b10 b11 hb)))))))⟩
/-- booking 0 -/
theorem fd_gat1 {post : St2 → Prop} {f2 f3 f4 f5 : Int32} {a1 a2 a3 a4 a5 a6 a7 a8 a9 a10 a11 a12 a13 a14 a15 a16 a17 : Nat → Int32} {x y pk t bk u : Nat} (hs : fd_St x y a5) (hp : pk < 128) (ht : t < 128) (hb : bk < 128) (hu : u < 128)
    (h6 : a6 0 = nI pk) (h2 : a2 0 = nI t) (h7 : a7 0 = nI bk) (h4 : a4 0 = nI u)
    (H : ∀ b8 b9 b10 b11 : Nat → Int32, b8 0 = nI pk → b9 0 = nI t → fd_Gv x y b10 b11 → b10 (x + y) = nI bk → b11 (x + y) = nI u → post (2, 1, nI 1, nI (x + y + 1), f4, f5, a1, a2, a3, a4, a5, a6, a7, b8, b9, b10, b11, a12, a13, a14, a15, a16, a17)) : wpX_gather post (2, 1, f2, f3, f4, f5, a1, a2, a3, a4, a5, a6, a7, a8, a9, a10, a11, a12, a13, a14, a15, a16, a17) := by
  unfold wpX_gather
  refine fd_g12 hs (fun b10 b11 hg => ?_)
  have hx := hs.1
  have hy := hs.2.1
  refine ⟨0 + 1 + 1 + 1, br_f (by decide) (br_f (by decide) ⟨pk_in 0 8 (by omega), pk_in 0 8 (by omega), ?_⟩)⟩
  rw [sb_cl0, h7, h4]
  refine fd_addG (n := x + y) (by omega) (fd_b8 bk hb) (fd_b8 u hu) ⟨pk_in 0 8 (by omega), pk_in 0 8 (by omega), ?_⟩
  rw [h6, h2]
  refine fd_addT (n := 0) (by omega) (fd_b8 pk hp) (fd_b8 t ht) (nm_r fd_01 (br_f (by decide) (br_t (by decide) (nm_r fd_12 (br_t (by decide) (H _ _ _ _ pk_us pk_us ⟨fun g h => ?_, fun g h h' => ?_⟩ pk_us pk_us))))))
  · rw [pk_un (show g ≠ x + y by omega), pk_un (show g ≠ x + y by omega)]
    exact hg.1 g h
  · rw [pk_un (show g ≠ x + y by omega), pk_un (show g ≠ x + y by omega)]
    exact hg.2 g h h'
end
section
/-! FleetDesk: who gets what, with no program in sight -/
theorem fd_a1 : ∀ p, p < 16 → ((nI 1 &&& nI p) = 0 ↔ p % 2 = 0) := by decide +kernel
theorem fd_a2 : ∀ p, p < 16 → ((nI 2 &&& nI p) = 0 ↔ p / 2 % 2 = 0) := by decide +kernel
theorem fd_a3 : ∀ p, p < 16 → ((nI p &&& nI 2) = 0 ↔ p / 2 % 2 = 0) := by decide +kernel
def fd_as1 (g0 lo hi : Nat) : Nat → Option Nat
  | 0 => some g0
  | i + 1 => if lo + i < hi then some (lo + i) else none
def fd_as0 (lo hi : Nat) (i : Nat) : Option Nat := if lo + i < hi then some (lo + i) else none
theorem fd_as0_s {lo hi i g : Nat} (h : fd_as0 lo hi i = some g) : g = lo + i ∧ lo + i < hi := by
  unfold fd_as0 at h
  by_cases e : lo + i < hi
  · rw [if_pos e] at h
    exact ⟨(Option.some.inj h).symm, e⟩
  · rw [if_neg e] at h
    exact absurd h.symm (Option.some_ne_none g)
theorem fd_as0_n {lo hi i : Nat} (h : fd_as0 lo hi i = none) : ¬ lo + i < hi := by
  intro e
  unfold fd_as0 at h
  rw [if_pos e] at h
  exact absurd h (Option.some_ne_none _)
theorem fd_as0_i {lo hi g : Nat} (h1 : lo ≤ g) (h2 : g < hi) : fd_as0 lo hi (g - lo) = some g := by
  unfold fd_as0
  rw [show lo + (g - lo) = g by omega, if_pos h2]
theorem fd_As0 {a8 a9 a10 a11 : Nat → Int32} {x hi G k : Nat} (hk : k ≤ 24) (hh : hi ≤ G)
    (hS : ∀ i, i < k → ∀ g, g < G → (fd_S a8 a9 a10 a11 i g ↔ x ≤ g ∧ g < hi)) : fd_As a8 a9 a10 a11 k G (fd_as0 x hi) := by
  refine ⟨fun j g hj e => ?_, fun j hj e => ?_⟩
  · obtain ⟨e1, e2⟩ := fd_as0_s e
    refine ⟨by omega, (hS j hj g (by omega)).mpr ⟨by omega, by omega⟩, fun i hi' e' => ?_, fun q hq hz => ?_⟩
    · have := (fd_as0_s e').1
      omega
    · have hz' := (hS j hj q (by omega)).mp hz
      exact ⟨q - x, by omega, fd_as0_i hz'.1 hz'.2⟩
  · have e' := fd_as0_n e
    refine ⟨fun i => i ≤ j, Nat.le_refl j, fun i hi' => ⟨by omega, fun g hg hz => ?_⟩⟩
    have hz' := (hS i (by omega) g hg).mp hz
    exact ⟨g - x, by omega, by omega, fd_as0_i hz'.1 hz'.2⟩
theorem fd_As1 {a8 a9 a10 a11 : Nat → Int32} {x lo hi G g0 k : Nat} (hk : k + 1 ≤ 24) (hh : hi ≤ G) (h0 : g0 < G) (hS0 : fd_S a8 a9 a10 a11 0 g0) (hm : ∀ q, q < g0 → ¬ fd_S a8 a9 a10 a11 0 q)
    (hS : ∀ i, 0 < i → i < k + 1 → ∀ g, g < G → (fd_S a8 a9 a10 a11 i g ↔ x ≤ g ∧ g < hi))
    (hl : (lo = x ∧ g0 < x) ∨ (lo = x + 1 ∧ g0 = x ∧ ∀ g, g < G → fd_S a8 a9 a10 a11 0 g → x ≤ g ∧ g < hi)) : fd_As a8 a9 a10 a11 (k + 1) G (fd_as1 g0 lo hi) := by
  have hl' : (lo = x ∧ g0 < x) ∨ (lo = x + 1 ∧ g0 = x) := by
    rcases hl with h | h
    · exact Or.inl h
    · exact Or.inr ⟨h.1, h.2.1⟩
  refine ⟨fun j g hj e => ?_, fun j hj e => ?_⟩
  · cases j with
    | zero =>
      have e1 : g0 = g := Option.some.inj e
      rw [← e1]
      exact ⟨h0, hS0, fun i hi' => absurd hi' (by omega), fun q hq hz => absurd hz (hm q hq)⟩
    | succ j =>
      obtain ⟨e1, e2⟩ := fd_as0_s (i := j) e
      refine ⟨by omega, (hS (j + 1) (by omega) hj g (by omega)).mpr ⟨by omega, by omega⟩, fun i hi' e' => ?_, fun q hq hz => ?_⟩
      · cases i with
        | zero =>
          have e3 : g0 = g := Option.some.inj e'
          omega
        | succ i =>
          have e3 := (fd_as0_s (i := i) e').1
          omega
      · have hz' := (hS (j + 1) (by omega) hj q (by omega)).mp hz
        by_cases hq' : lo ≤ q
        · exact ⟨q - lo + 1, by omega, fd_as0_i hq' hz'.2⟩
        · refine ⟨0, by omega, ?_⟩
          show some g0 = some q
          rw [show g0 = q by omega]
  · cases j with
    | zero => exact absurd e (Option.some_ne_none g0)
    | succ j =>
      have e' := fd_as0_n (i := j) e
      refine ⟨fun i => (i = 0 ∧ lo = x + 1) ∨ (0 < i ∧ i ≤ j + 1), Or.inr ⟨by omega, by omega⟩, fun i hq => ⟨by omega, fun g hg hz => ?_⟩⟩
      have hz' : x ≤ g ∧ g < hi := by
        rcases hq with h | h
        · rcases hl with h' | h'
          · omega
          · rw [h.1] at hz
            exact h'.2.2 g hg hz
        · exact (hS i h.1 (by omega) g hg).mp hz
      by_cases hq' : lo ≤ g
      · exact ⟨g - lo + 1, Or.inr ⟨by omega, by omega⟩, by omega, fd_as0_i hq' hz'.2⟩
      · refine ⟨0, Or.inl ⟨rfl, by omega⟩, by omega, ?_⟩
        show some g0 = some g
        rw [show g0 = g by omega]
theorem fd_cnt1 {g0 lo hi k : Nat} (h : lo ≤ hi) : fd_cnt (fd_as1 g0 lo hi) (k + 1) = 0 ↔ lo + k ≤ hi := by
  constructor
  · intro e
    rcases Nat.lt_or_ge hi (lo + k) with z | z
    · have e1 : fd_as1 g0 lo hi ((k - 1) + 1) = none := by
        show (if lo + (k - 1) < hi then some (lo + (k - 1)) else none) = none
        rw [if_neg (by omega)]
      have := fd_cnt_pos e1 (k + 1) (by omega)
      omega
    · exact z
  · intro e
    refine fd_cnt_0 _ (fun i hi' => ?_)
    cases i with
    | zero => exact Option.some_ne_none g0
    | succ i =>
      show (if lo + i < hi then some (lo + i) else none) ≠ none
      rw [if_pos (by omega)]
      exact Option.some_ne_none _
theorem fd_cnt00 {lo hi k : Nat} (h : lo ≤ hi) : fd_cnt (fd_as0 lo hi) k = 0 ↔ lo + k ≤ hi := by
  constructor
  · intro e
    rcases Nat.lt_or_ge hi (lo + k) with z | z
    · have e1 : fd_as0 lo hi (k - 1) = none := by
        unfold fd_as0
        rw [if_neg (by omega)]
      have := fd_cnt_pos e1 k (by omega)
      omega
    · exact z
  · intro e
    refine fd_cnt_0 _ (fun i hi' => ?_)
    unfold fd_as0
    rw [if_pos (by omega)]
    exact Option.some_ne_none _
theorem fd_Sg {a8 a9 a10 a11 : Nat → Int32} {i g p t q w : Nat} (ht : t < 128) (hw : w < 128) (h8 : a8 i = nI p) (h9 : a9 i = nI t) (h10 : a10 g = nI q) (h11 : a11 g = nI w) :
    fd_S a8 a9 a10 a11 i g ↔ w ≤ t ∧ ¬ (nI q &&& nI p) = 0 := by
  unfold fd_S
  rw [h8, h9, h10, h11, nI_ltI (by omega) (by omega), Nat.not_lt]
def fd_ok (x y pk : Nat) : Prop := (pk % 2 = 1 ∧ 0 < x) ∨ (pk / 2 % 2 = 1 ∧ 0 < y)
/-- does booking 0 take from station 1 -/
def fd_fo (x pk : Nat) : Nat := if pk % 2 = 1 ∧ 0 < x then 0 else 1
/-- does its return serve station 1 at time 4 -/
def fd_rt (bk u : Nat) : Nat := if u ≤ 4 ∧ bk / 2 % 2 = 1 then 1 else 0
def fd_g0 (x pk : Nat) : Nat := if pk % 2 = 1 ∧ 0 < x then 0 else x
def fd_Wd (x y pk t bk u : Nat) (a8 a9 a10 a11 : Nat → Int32) : Prop := pk < 16 ∧ bk < 16 ∧ t < u ∧ u ≤ 8 ∧ a8 0 = nI pk ∧ a9 0 = nI t ∧ fd_Gv x y a10 a11 ∧ a10 (x + y) = nI bk ∧ a11 (x + y) = nI u
theorem fd_rt_le (bk u : Nat) : fd_rt bk u ≤ 1 := by
  unfold fd_rt
  by_cases e : u ≤ 4 ∧ bk / 2 % 2 = 1
  · rw [if_pos e]; omega
  · rw [if_neg e]; omega
theorem fd_S00 {x y pk t bk u : Nat} {a8 a9 a10 a11 : Nat → Int32} (h : fd_Wd x y pk t bk u a8 a9 a10 a11) {g : Nat} (hg : g < x + y + 1) :
    fd_S a8 a9 a10 a11 0 g ↔ (g < x ∧ pk % 2 = 1) ∨ (x ≤ g ∧ g < x + y ∧ pk / 2 % 2 = 1) := by
  obtain ⟨hp, hb, ht, hu, h8, h9, hG, h10, h11⟩ := h
  by_cases e1 : g < x
  · rw [fd_Sg (by omega) (by omega) h8 h9 (hG.1 g e1).1 (hG.1 g e1).2, fd_a1 pk hp]
    omega
  · by_cases e2 : g < x + y
    · rw [fd_Sg (by omega) (by omega) h8 h9 (hG.2 g (by omega) e2).1 (hG.2 g (by omega) e2).2, fd_a2 pk hp]
      omega
    · rw [show g = x + y by omega, fd_Sg (by omega) (by omega) h8 h9 h10 h11]
      omega
theorem fd_S11 {x y pk t bk u : Nat} {a8 a9 a10 a11 : Nat → Int32} (h : fd_Wd x y pk t bk u a8 a9 a10 a11) {i g : Nat} (h8 : a8 i = nI 2) (h9 : a9 i = nI 4) (hg : g < x + y + 1) :
    fd_S a8 a9 a10 a11 i g ↔ x ≤ g ∧ g < x + y + fd_rt bk u := by
  obtain ⟨hp, hb, ht, hu, _, _, hG, h10, h11⟩ := h
  have := fd_rt_le bk u
  by_cases e1 : g < x
  · rw [fd_Sg (by omega) (by omega) h8 h9 (hG.1 g e1).1 (hG.1 g e1).2, fd_a1 2 (by omega)]
    omega
  · by_cases e2 : g < x + y
    · rw [fd_Sg (by omega) (by omega) h8 h9 (hG.2 g (by omega) e2).1 (hG.2 g (by omega) e2).2, fd_a2 2 (by omega)]
      omega
    · rw [show g = x + y by omega, fd_Sg (by omega) (by omega) h8 h9 h10 h11, fd_a3 bk hb]
      unfold fd_rt
      by_cases e : u ≤ 4 ∧ bk / 2 % 2 = 1
      · rw [if_pos e]
        omega
      · rw [if_neg e]
        omega
theorem fd_AsY {x y pk t bk u k : Nat} {a8 a9 a10 a11 : Nat → Int32} (h : fd_Wd x y pk t bk u a8 a9 a10 a11) (ok : fd_ok x y pk) (hk : k + 1 ≤ 24)
    (hT : ∀ i, 0 < i → i < k + 1 → a8 i = nI 2 ∧ a9 i = nI 4) :
    fd_As a8 a9 a10 a11 (k + 1) (x + y + 1) (fd_as1 (fd_g0 x pk) (x + fd_fo x pk) (x + y + fd_rt bk u)) := by
  have hr := fd_rt_le bk u
  refine fd_As1 (x := x) hk (by omega) ?_ ?_ ?_ (fun i h1 h2 g hg => fd_S11 h (hT i h1 h2).1 (hT i h1 h2).2 hg) ?_
  · unfold fd_g0
    by_cases e : pk % 2 = 1 ∧ 0 < x
    · rw [if_pos e]; omega
    · rw [if_neg e]; omega
  · unfold fd_g0
    unfold fd_ok at ok
    by_cases e : pk % 2 = 1 ∧ 0 < x
    · rw [if_pos e, fd_S00 h (by omega)]; omega
    · rw [if_neg e, fd_S00 h (by omega)]; omega
  · intro q hq
    unfold fd_g0 at hq
    by_cases e : pk % 2 = 1 ∧ 0 < x
    · rw [if_pos e] at hq
      omega
    · rw [if_neg e] at hq
      rw [fd_S00 h (by omega)]
      omega
  · unfold fd_g0 fd_fo
    by_cases e : pk % 2 = 1 ∧ 0 < x
    · rw [if_pos e, if_pos e]
      exact Or.inl ⟨rfl, e.2⟩
    · rw [if_neg e, if_neg e]
      refine Or.inr ⟨rfl, rfl, fun g hg hz => ?_⟩
      rw [fd_S00 h hg] at hz
      omega
theorem fd_AsN {x y pk t bk u : Nat} {a8 a9 a10 a11 : Nat → Int32} (h : fd_Wd x y pk t bk u a8 a9 a10 a11) (no : ¬ fd_ok x y pk) :
    fd_As a8 a9 a10 a11 1 (x + y + 1) (fun _ => none) := by
  refine ⟨fun j g _ e => absurd e.symm (Option.some_ne_none g), fun j hj _ => ⟨fun i => i = 0, by omega, fun i hi => ⟨by omega, fun g hg hz => ?_⟩⟩⟩
  rw [hi, fd_S00 h hg] at hz
  unfold fd_ok at no
  omega
theorem fd_As00 {x y k : Nat} {a8 a9 a10 a11 : Nat → Int32} (hG : fd_Gv x y a10 a11) (hk : k ≤ 24) (hT : ∀ i, i < k → a8 i = nI 2 ∧ a9 i = nI 4) :
    fd_As a8 a9 a10 a11 k (x + y) (fd_as0 x (x + y)) := by
  refine fd_As0 hk (by omega) (fun i hi g hg => ?_)
  obtain ⟨h8, h9⟩ := hT i hi
  by_cases e1 : g < x
  · rw [fd_Sg (by omega) (by omega) h8 h9 (hG.1 g e1).1 (hG.1 g e1).2, fd_a1 2 (by omega)]
    omega
  · rw [fd_Sg (by omega) (by omega) h8 h9 (hG.2 g (by omega) hg).1 (hG.2 g (by omega) hg).2, fd_a2 2 (by omega)]
    omega
theorem fd_nI0 {n : Nat} (h : n < 2 ^ 31) : nI n = 0 ↔ n = 0 := nI_eq (b := 0) h (by omega)
/-- the stock that is left for station 1 at time 4 -/
def fd_due (x y pk bk u : Nat) : Nat := y + fd_rt bk u - fd_fo x pk
theorem fd_due_le {x y pk bk u k : Nat} (ok : fd_ok x y pk) : x + fd_fo x pk ≤ x + y + fd_rt bk u ∧ (x + fd_fo x pk + k ≤ x + y + fd_rt bk u ↔ k ≤ fd_due x y pk bk u) := by
  unfold fd_due fd_fo
  unfold fd_ok at ok
  by_cases e : pk % 2 = 1 ∧ 0 < x
  · rw [if_pos e]; omega
  · rw [if_neg e]; omega
end
section
/-! FleetDesk: what a question answers -/
theorem fd_unY {post : Int32 → St2 → Prop} {f0 f1 f4 f5 : Int32} {a1 a2 a3 a4 a5 a6 a7 a8 a9 a10 a11 a12 a13 a14 a15 a16 a17 : Nat → Int32} {x y pk t bk u k : Nat} (hx : x ≤ 3) (hy : y ≤ 3) (h : fd_Wd x y pk t bk u a8 a9 a10 a11) (ok : fd_ok x y pk) (hk : k ≤ 17)
    (hT : ∀ i, 0 < i → i < k + 1 → a8 i = nI 2 ∧ a9 i = nI 4)
    (H : ∀ (r le : Int32) (b12 b13 b14 b15 : Nat → Int32), (r = 0 ↔ k ≤ fd_due x y pk bk u) → post r (f0, f1, nI (k + 1), nI (x + y + 1), le, f5, a1, a2, a3, a4, a5, a6, a7, a8, a9, a10, a11, b12, b13, b14, b15, a16, a17)) :
    wpX_unmatched post (f0, f1, nI (k + 1), nI (x + y + 1), f4, f5, a1, a2, a3, a4, a5, a6, a7, a8, a9, a10, a11, a12, a13, a14, a15, a16, a17) := by
  refine fd_unm _ (by omega) (by omega) (fd_AsY h ok (by omega) hT) (fun le b12 b13 b14 b15 => H _ le b12 b13 b14 b15 ?_)
  have h1 := fd_cnt_le (fd_as1 (fd_g0 x pk) (x + fd_fo x pk) (x + y + fd_rt bk u)) (k + 1)
  rw [fd_nI0 (by omega), fd_cnt1 (fd_due_le (k := k) ok).1]
  exact (fd_due_le ok).2
theorem fd_unN {post : Int32 → St2 → Prop} {f0 f1 f4 f5 : Int32} {a1 a2 a3 a4 a5 a6 a7 a8 a9 a10 a11 a12 a13 a14 a15 a16 a17 : Nat → Int32} {x y pk t bk u : Nat} (hx : x ≤ 3) (hy : y ≤ 3) (h : fd_Wd x y pk t bk u a8 a9 a10 a11) (no : ¬ fd_ok x y pk)
    (H : ∀ (le : Int32) (b12 b13 b14 b15 : Nat → Int32), post 1 (f0, f1, nI 1, nI (x + y + 1), le, f5, a1, a2, a3, a4, a5, a6, a7, a8, a9, a10, a11, b12, b13, b14, b15, a16, a17)) :
    wpX_unmatched post (f0, f1, nI 1, nI (x + y + 1), f4, f5, a1, a2, a3, a4, a5, a6, a7, a8, a9, a10, a11, a12, a13, a14, a15, a16, a17) :=
  fd_unm _ (by omega) (by omega) (fd_AsN h no) (fun le b12 b13 b14 b15 => H le b12 b13 b14 b15)
theorem fd_un0 {post : Int32 → St2 → Prop} {f0 f1 f4 f5 : Int32} {a1 a2 a3 a4 a5 a6 a7 a8 a9 a10 a11 a12 a13 a14 a15 a16 a17 : Nat → Int32} {x y k : Nat} (hx : x ≤ 3) (hy : y ≤ 3) (hG : fd_Gv x y a10 a11) (hk : k ≤ 17)
    (hT : ∀ i, i < k → a8 i = nI 2 ∧ a9 i = nI 4)
    (H : ∀ (r le : Int32) (b12 b13 b14 b15 : Nat → Int32), (r = 0 ↔ k ≤ y) → post r (f0, f1, nI k, nI (x + y), le, f5, a1, a2, a3, a4, a5, a6, a7, a8, a9, a10, a11, b12, b13, b14, b15, a16, a17)) :
    wpX_unmatched post (f0, f1, nI k, nI (x + y), f4, f5, a1, a2, a3, a4, a5, a6, a7, a8, a9, a10, a11, a12, a13, a14, a15, a16, a17) := by
  refine fd_unm _ (by omega) (by omega) (fd_As00 hG (by omega) hT) (fun le b12 b13 b14 b15 => H _ le b12 b13 b14 b15 ?_)
  have h1 := fd_cnt_le (fd_as0 x (x + y)) k
  rw [fd_nI0 (by omega), fd_cnt00 (by omega)]
  omega
def fd_Ar (pk t bk u : Nat) : Prop := pk < 16 ∧ bk < 16 ∧ t < u ∧ u ≤ 8
theorem fd_miss {post : Int32 → St2 → Prop} {f2 f3 f4 f5 : Int32} {a1 a2 a3 a4 a5 a6 a7 a8 a9 a10 a11 a12 a13 a14 a15 a16 a17 : Nat → Int32} {x y pk t bk u : Nat} (hs : fd_St x y a5) (ha : fd_Ar pk t bk u) (h6 : a6 0 = nI pk) (h2 : a2 0 = nI t) (h7 : a7 0 = nI bk) (h4 : a4 0 = nI u)
    (H : ∀ (r c2 c3 c4 : Int32) (b8 b9 b10 b11 b12 b13 b14 b15 : Nat → Int32), (r = 0 ↔ fd_ok x y pk) → post r (2, 1, c2, c3, c4, f5, a1, a2, a3, a4, a5, a6, a7, b8, b9, b10, b11, b12, b13, b14, b15, a16, a17)) :
    wpX_missing post (2, 1, f2, f3, f4, f5, a1, a2, a3, a4, a5, a6, a7, a8, a9, a10, a11, a12, a13, a14, a15, a16, a17) := by
  unfold wpX_missing
  have hx := hs.1
  have hy := hs.2.1
  obtain ⟨hp, hb, ht, hu⟩ := ha
  refine fd_gat1 hs (by omega) (by omega) (by omega) (by omega) h6 h2 h7 h4 (fun b8 b9 b10 b11 e8 e9 hG e10 e11 => ?_)
  have W : fd_Wd x y pk t bk u b8 b9 b10 b11 := ⟨hp, hb, ht, hu, e8, e9, hG, e10, e11⟩
  by_cases ok : fd_ok x y pk
  · exact fd_unY (k := 0) hx hy W ok (by omega) (fun i h1 h2 => absurd h1 (by omega)) (fun r le b12 b13 b14 b15 e => H r _ _ _ _ _ _ _ _ _ _ _ ⟨fun _ => ok, fun _ => e.mpr (Nat.zero_le _)⟩)
  · exact fd_unN hx hy W ok (fun le b12 b13 b14 b15 => H 1 _ _ _ _ _ _ _ _ _ _ _ ⟨fun z => absurd z (by decide), fun z => absurd z ok⟩)
end
section
/-! FleetDesk: the same rows at the second names -/
theorem fd_lookA_2 {post : Int32 → St2 → Prop} {f0 f1 f2 f5 : Int32} {a1 a2 a3 a4 a5 a6 a7 a8 a9 a10 a11 a12 a13 a14 a15 a16 a17 : Nat → Int32} {G i g le : Nat} (hG : G ≤ 24) (hi : i < 24) (hg : g < G) (hle : le ≤ 24)
    (hS : fd_S a8 a9 a10 a11 i g) (hf : ¬ 0 ≤ a12 g) (hr : ¬ 0 ≤ a13 g) (hm : ∀ k, k < g → fd_S a8 a9 a10 a11 i k → 0 ≤ a12 k)
    (H : ∀ (le' : Int32) (b13 b15 : Nat → Int32), b13 g = nI i → post (nI g) (f0, f1, f2, nI G, le', f5, a1, a2, a3, a4, a5, a6, a7, a8, a9, a10, a11, a12, b13, a14, b15, a16, a17)) :
    wpX_look_2 post (f0, f1, f2, nI G, nI le, f5, a1, a2, a3, a4, a5, a6, a7, a8, a9, a10, a11, a12, a13, a14, a15, a16, a17) (nI i) := by
  unfold wpX_look_2
  refine pk_loop (σ := Nat × (Nat → Int32) × (Nat → Int32)) (fun n k s => wX_look_2_2 post (nI i) f0 f1 f2 (nI G) f5 n (nI k) (nI s.1) a1 a2 a3 a4 a5 a6 a7 a8 a9 a10 a11 a12 s.2.1 a14 s.2.2 a16 a17) (fun k s => s.1 ≤ 24 ∧ ¬ 0 ≤ s.2.1 g) g 0 (le, a13, a15) (by omega) ⟨hle, hr⟩ ?_ ?_
  · intro n s hs
    refine pk_le G g (fun z => absurd z (by omega)) (fun _ => ⟨pk_in g 24 (by omega), ?_⟩)
    rw [nI_clamp (show g < 2 ^ 31 by omega)]
    refine br_f hs.2 (fd_suits hi (by omega) (fun _ => br_f (by decide) ⟨pk_in g 24 (by omega), nm_e ⟨pk_in g 24 (by omega), br_f hf (H _ _ _ ?_)⟩⟩) (fun z => absurd hS z))
    rw [pk_us, fd_b8 i (by omega)]
  · intro n k s hk hs hw
    refine pk_le G k (fun z => absurd z (by omega)) (fun _ => ⟨pk_in k 24 (by omega), ?_⟩)
    rw [nI_clamp (show k < 2 ^ 31 by omega)]
    have hu : ∀ v, ¬ 0 ≤ upd s.2.1 k v g := fun v => by
      rw [pk_un (show g ≠ k by omega)]
      exact hs.2
    refine br_c (fun _ => nm_r (nI_1 k) (hw s hs)) (fun _ => fd_suits hi (by omega) (fun hz => br_f (by decide) ⟨pk_in k 24 (by omega), nm_e ⟨pk_in k 24 (by omega), br_t (hm k hk hz) ?_⟩⟩) (fun _ => br_t rfl (nm_r (nI_1 k) (hw s hs))))
    exact pk_le 24 s.1 (fun _ => nm_r (nI_1 k) (hw (s.1, upd s.2.1 k _, s.2.2) ⟨hs.1, hu _⟩)) (fun z => ⟨pk_in k 24 (by omega), pk_in s.1 24 z, nm_e (nm_r (nI_1 s.1) (nm_r (nI_1 k) (hw (s.1 + 1, upd s.2.1 k _, upd s.2.2 _ _) ⟨z, hu _⟩)))⟩)
theorem fd_lookB_2 {post : Int32 → St2 → Prop} {f0 f1 f2 f5 : Int32} {a1 a2 a3 a4 a5 a6 a7 a8 a9 a10 a11 a12 a13 a14 a15 a16 a17 : Nat → Int32} {G i le : Nat} {Q : Nat → Prop} (hG : G ≤ 24) (hle : le ≤ 24)
    (hQ : ∀ i, Q i → i < 24 ∧ ∀ g, g < G → fd_S a8 a9 a10 a11 i g → ∃ i', Q i' ∧ a12 g = nI i') (hi : Q i) (hl : ∀ q, q < le → ∃ i, Q i ∧ a15 q = nI i)
    (H : ∀ (le' : Nat) (b13 b15 : Nat → Int32), le' ≤ 24 → (∀ q, q < le' → ∃ i, Q i ∧ b15 q = nI i) → post (-1) (f0, f1, f2, nI G, nI le', f5, a1, a2, a3, a4, a5, a6, a7, a8, a9, a10, a11, a12, b13, a14, b15, a16, a17)) :
    wpX_look_2 post (f0, f1, f2, nI G, nI le, f5, a1, a2, a3, a4, a5, a6, a7, a8, a9, a10, a11, a12, a13, a14, a15, a16, a17) (nI i) := by
  unfold wpX_look_2
  refine pk_loop (σ := Nat × (Nat → Int32) × (Nat → Int32)) (fun n k s => wX_look_2_2 post (nI i) f0 f1 f2 (nI G) f5 n (nI k) (nI s.1) a1 a2 a3 a4 a5 a6 a7 a8 a9 a10 a11 a12 s.2.1 a14 s.2.2 a16 a17) (fun k s => s.1 ≤ 24 ∧ ∀ q, q < s.1 → ∃ i, Q i ∧ s.2.2 q = nI i) G 0 (le, a13, a15) (by omega) ⟨hle, hl⟩ ?_ ?_
  · intro n s hs
    exact pk_le G G (fun _ => H _ _ _ hs.1 hs.2) (fun z => absurd z (by omega))
  · intro n k s hk hs hw
    refine pk_le G k (fun z => absurd z (by omega)) (fun _ => ⟨pk_in k 24 (by omega), ?_⟩)
    rw [nI_clamp (show k < 2 ^ 31 by omega)]
    refine br_c (fun _ => nm_r (nI_1 k) (hw s hs)) (fun _ => fd_suits (hQ i hi).1 (by omega) (fun hz => ?_) (fun _ => br_t rfl (nm_r (nI_1 k) (hw s hs))))
    obtain ⟨i', q', e'⟩ := (hQ i hi).2 k hk hz
    have hi' := (hQ i' q').1
    refine br_f (by decide) ⟨pk_in k 24 (by omega), nm_e ⟨pk_in k 24 (by omega), br_t (by rw [e']; exact nI_pos' (by omega)) ?_⟩⟩
    refine pk_le 24 s.1 (fun _ => nm_r (nI_1 k) (hw (s.1, upd s.2.1 k _, s.2.2) ⟨hs.1, hs.2⟩)) (fun z => ⟨pk_in k 24 (by omega), pk_in s.1 24 z, nm_e (nm_r (nI_1 s.1) (nm_r (nI_1 k) (hw (s.1 + 1, upd s.2.1 k _, upd s.2.2 _ _) ⟨z, ?_⟩)))⟩)
    intro q hq
    dsimp only at hq ⊢
    rw [nI_clamp (show s.1 < 2 ^ 31 by omega)]
    by_cases e : q = s.1
    · rw [e, pk_us, e', fd_nb (by omega)]
      exact ⟨i', q', rfl⟩
    · rw [pk_un e]
      exact hs.2 q (by omega)
theorem fd_shift_2 {post : St2 → Prop} {f0 f1 f2 f3 f4 f5 : Int32} {a1 a2 a3 a4 a5 a6 a7 a8 a9 a10 a11 a12 a13 a14 a15 a16 a17 : Nat → Int32} {g j : Nat} (hg : g < 24) (hj : j < 24) (h13 : a13 g = nI j) (h14 : a14 j < 0)
    (H : post (f0, f1, f2, f3, f4, f5, a1, a2, a3, a4, a5, a6, a7, a8, a9, a10, a11, upd a12 g (nI j), a13, upd a14 j (nI g), a15, a16, a17)) : wpX_shift_2 post (f0, f1, f2, f3, f4, f5, a1, a2, a3, a4, a5, a6, a7, a8, a9, a10, a11, a12, a13, a14, a15, a16, a17) (nI g) := by
  unfold wpX_shift_2
  refine ⟨0 + 1 + 1, br_f (by decide) (br_f (nI_pos (by omega)) ⟨pk_in g 24 hg, nm_r (e' := nI j) (by rw [nI_clamp (by omega), h13]) ⟨pk_in j 24 hj, nm_r (e' := a14 j) (by rw [nI_clamp (by omega)]) ⟨pk_in g 24 hg, nm_r (e' := upd a12 g (nI j)) (fd_upd (nI_clamp (by omega)) (fd_b8 j (by omega))) ⟨pk_in j 24 hj, nm_r (e' := upd a14 j (nI g)) (fd_upd (nI_clamp (by omega)) (fd_b8 g (by omega))) (nm_e (br_f (by decide) (br_t h14 H)))⟩⟩⟩⟩)⟩
theorem fd_serveA_2 {post : Int32 → St2 → Prop} {f0 f1 f2 f4 f5 : Int32} {a1 a2 a3 a4 a5 a6 a7 a8 a9 a10 a11 a12 a13 a14 a15 a16 a17 : Nat → Int32} {G j g : Nat} (hG : G ≤ 24) (hj : j < 24) (hg : g < G)
    (hS : fd_S a8 a9 a10 a11 j g) (hf : ¬ 0 ≤ a12 g) (hm : ∀ k, k < g → fd_S a8 a9 a10 a11 j k → 0 ≤ a12 k) (h14 : a14 j < 0)
    (H : ∀ (le : Int32) (b13 b15 : Nat → Int32), post 1 (f0, f1, f2, nI G, le, f5, a1, a2, a3, a4, a5, a6, a7, a8, a9, a10, a11, upd a12 g (nI j), b13, upd a14 j (nI g), b15, a16, a17)) :
    wpX_serve_2 post (f0, f1, f2, nI G, f4, f5, a1, a2, a3, a4, a5, a6, a7, a8, a9, a10, a11, a12, a13, a14, a15, a16, a17) (nI j) := by
  unfold wpX_serve_2
  refine pk_loop (σ := Nat → Int32) (fun n k s => wX_serve_2_2 post (nI j) f0 f1 f2 (nI G) f4 f5 n (nI k) a1 a2 a3 a4 a5 a6 a7 a8 a9 a10 a11 a12 s a14 a15 a16 a17) (fun k s => ∀ q, q < k → s q = -1) G 0 a13 (by omega) (fun q hq => absurd hq (by omega)) ?_ ?_
  · intro n s hs
    refine pk_le G G (fun _ => nm_r (e' := upd a15 0 (nI j)) (fd_upd rfl (fd_b8 j (by omega))) ⟨0 + 1 + 1, br_f (by decide) (br_f (by decide) (br_f fd_m1 ⟨pk_in 0 24 (by omega), ?_⟩))⟩) (fun z => absurd z (by omega))
    rw [sb_cl0, pk_us]
    refine fd_lookA_2 (le := 1) hG hj hg (by omega) hS hf (by rw [hs g hg]; exact fd_m1) hm (fun le b13 b15 hb => nm_e ?_)
    have E : wX_serve_2_75 post (nI g) f0 f1 f2 (nI G) le f5 a1 a2 a3 a4 a5 a6 a7 a8 a9 a10 a11 a12 b13 a14 b15 a16 a17 := br_t (nI_pos' (by omega)) (fd_shift_2 (by omega) hj hb h14 (H _ _ _))
    exact br_c (fun _ => E) (fun _ => br_c (fun _ => E) (fun _ => br_t (nI_pos' (by omega)) E))
  · intro n k s hk hs hw
    refine pk_le G k (fun z => absurd z (by omega)) (fun _ => ⟨pk_in k 24 (by omega), nm_e (nm_r (nI_1 k) (hw _ ?_))⟩)
    rw [nI_clamp (show k < 2 ^ 31 by omega)]
    exact fd_fill hs
theorem fd_serveB_2 {post : Int32 → St2 → Prop} {f0 f1 f2 f4 f5 : Int32} {a1 a2 a3 a4 a5 a6 a7 a8 a9 a10 a11 a12 a13 a14 a15 a16 a17 : Nat → Int32} {G j : Nat} {Q : Nat → Prop} (hG : G ≤ 24)
    (hQ : ∀ i, Q i → i < 24 ∧ ∀ g, g < G → fd_S a8 a9 a10 a11 i g → ∃ i', Q i' ∧ a12 g = nI i') (hj : Q j)
    (H : ∀ (le : Int32) (b13 b15 : Nat → Int32), post 0 (f0, f1, f2, nI G, le, f5, a1, a2, a3, a4, a5, a6, a7, a8, a9, a10, a11, a12, b13, a14, b15, a16, a17)) :
    wpX_serve_2 post (f0, f1, f2, nI G, f4, f5, a1, a2, a3, a4, a5, a6, a7, a8, a9, a10, a11, a12, a13, a14, a15, a16, a17) (nI j) := by
  have hj' := (hQ j hj).1
  unfold wpX_serve_2
  refine pk_loop (σ := Nat → Int32) (fun n k s => wX_serve_2_2 post (nI j) f0 f1 f2 (nI G) f4 f5 n (nI k) a1 a2 a3 a4 a5 a6 a7 a8 a9 a10 a11 a12 s a14 a15 a16 a17) (fun _ _ => True) G 0 a13 (by omega) trivial ?_ ?_
  · intro n s _
    refine pk_le G G (fun _ => nm_r (e' := upd a15 0 (nI j)) (fd_upd rfl (fd_b8 j (by omega))) ?_) (fun z => absurd z (by omega))
    refine pk_loop (σ := Nat × (Nat → Int32) × (Nat → Int32)) (fun n k s => wX_serve_2_40 post n (-1) (nI k) f0 f1 f2 (nI G) (nI s.1) f5 a1 a2 a3 a4 a5 a6 a7 a8 a9 a10 a11 a12 s.2.1 a14 s.2.2 a16 a17) (fun k s => s.1 ≤ 24 ∧ ∀ q, q < s.1 → ∃ i, Q i ∧ s.2.2 q = nI i) 24 0 (1, s, upd a15 0 (nI j)) (by omega) ⟨by omega, ?_⟩ ?_ ?_
    · intro q hq
      dsimp only at hq ⊢
      rw [show q = 0 by omega, pk_us]
      exact ⟨j, hj, rfl⟩
    · intro n s hs
      have E : wX_serve_2_75 post (-1) f0 f1 f2 (nI G) (nI s.1) f5 a1 a2 a3 a4 a5 a6 a7 a8 a9 a10 a11 a12 s.2.1 a14 s.2.2 a16 a17 := br_f fd_m1 (H _ _ _)
      exact br_c (fun _ => E) (fun _ => br_t (by decide) E)
    · intro n k s hk hs hw
      have E : wX_serve_2_75 post (-1) f0 f1 f2 (nI G) (nI s.1) f5 a1 a2 a3 a4 a5 a6 a7 a8 a9 a10 a11 a12 s.2.1 a14 s.2.2 a16 a17 := br_f fd_m1 (H _ _ _)
      refine pk_le s.1 k (fun _ => E) (fun z => br_f (nI_ge (b := 24) hk (by decide)) (br_f fd_m1 ⟨pk_in k 24 hk, ?_⟩))
      rw [nI_clamp (show k < 2 ^ 31 by omega)]
      obtain ⟨i, qi, ei⟩ := hs.2 k z
      rw [ei]
      exact fd_lookB_2 hG hs.1 hQ qi hs.2 (fun le' b13 b15 h1 h2 => nm_r (nI_1 k) (hw (le', b13, b15) ⟨h1, h2⟩))
  · intro n k s hk hs hw
    exact pk_le G k (fun z => absurd z (by omega)) (fun _ => ⟨pk_in k 24 (by omega), nm_e (nm_r (nI_1 k) (hw _ trivial))⟩)
theorem fd_unm50_2 {post : Int32 → St2 → Prop} {f0 f1 f4 f5 : Int32} {a1 a2 a3 a4 a5 a6 a7 a8 a9 a10 a11 a12 a13 a14 a15 a16 a17 : Nat → Int32} {T G : Nat} {as : Nat → Option Nat} (hT : T ≤ 24) (hG : G ≤ 24) (hA : fd_As a8 a9 a10 a11 T G as)
    (h12 : ∀ g, g < G → a12 g = -1) (h14 : ∀ i, i < T → a14 i = -1)
    (H : ∀ (le : Int32) (b12 b13 b14 b15 : Nat → Int32), post (nI (fd_cnt as T)) (f0, f1, nI T, nI G, le, f5, a1, a2, a3, a4, a5, a6, a7, a8, a9, a10, a11, b12, b13, b14, b15, a16, a17)) :
    ∃ n, wX_unmatched_2_50 post n 0 0 f0 f1 (nI T) (nI G) f4 f5 a1 a2 a3 a4 a5 a6 a7 a8 a9 a10 a11 a12 a13 a14 a15 a16 a17 := by
  refine pk_loop (σ := Int32 × (Nat → Int32) × (Nat → Int32) × (Nat → Int32) × (Nat → Int32)) (fun n j s => wX_unmatched_2_50 post n (nI (fd_cnt as j)) (nI j) f0 f1 (nI T) (nI G) s.1 f5 a1 a2 a3 a4 a5 a6 a7 a8 a9 a10 a11 s.2.1 s.2.2.1 s.2.2.2.1 s.2.2.2.2 a16 a17) (fun j s => fd_J T G as j s.2.1 s.2.2.2.1) T 0 (f4, a12, a13, a14, a15) (by omega) ⟨fun g hg _ => h12 g hg, fun i g hi => absurd hi (by omega), fun i _ hi => h14 i hi⟩ ?_ ?_
  · intro n s hs
    exact pk_le T T (fun _ => H _ _ _ _ _) (fun z => absurd z (by omega))
  · intro n j s hj hs hw
    obtain ⟨s4, b12, b13, b14, b15⟩ := s
    obtain ⟨j1, j2, j3⟩ := hs
    dsimp only at j1 j2 j3
    refine pk_le T j (fun z => absurd z (by omega)) (fun _ => ?_)
    cases e : as j with
    | none =>
      obtain ⟨Q, q1, q2⟩ := hA.2 j hj e
      refine fd_serveB_2 (Q := Q) hG ?_ q1 (fun le c13 c15 => br_t rfl (nm_r (e' := nI (fd_cnt as (j + 1))) (by rw [fd_cnt_none e, nI_1]) (nm_r (nI_1 j) (hw (le, b12, c13, b14, c15) ⟨?_, ?_, ?_⟩))))
      · intro i hi
        refine ⟨(q2 i hi).1, fun g hg hS => ?_⟩
        obtain ⟨i', h1, h2, h3⟩ := (q2 i hi).2 g hg hS
        exact ⟨i', h1, j2 i' g h2 h3⟩
      · exact fun g hg h => j1 g hg (fun i hi => h i (by omega))
      · intro i g hi h
        by_cases ei : i = j
        · rw [ei, e] at h
          exact absurd h.symm (Option.some_ne_none g)
        · exact j2 i g (by omega) h
      · exact fun i h1 h2 => j3 i (by omega) h2
    | some g =>
      obtain ⟨g1, g2, g3, g4⟩ := hA.1 j g hj e
      have q1 : ¬ 0 ≤ b12 g := by
        rw [j1 g g1 g3]
        exact fd_m1
      have q2 : b14 j < 0 := by
        rw [j3 j (by omega) hj]
        decide
      refine fd_serveA_2 (g := g) hG (by omega) g1 g2 q1 ?_ q2 (fun le c13 c15 => br_f (by decide) (nm_r (nI_1 j) ?_))
      · intro k hk hS
        obtain ⟨i, h1, h2⟩ := g4 k hk hS
        dsimp only
        rw [j2 i k h1 h2]
        exact nI_pos' (by omega)
      · have t := hw (le, upd b12 g (nI j), c13, upd b14 j (nI g), c15) ⟨?_, ?_, ?_⟩
        · dsimp only at t
          rw [fd_cnt_some e] at t
          exact t
        · intro k hk h
          have hne : k ≠ g := fun z => h j (by omega) (by rw [e, z])
          dsimp only
          rw [pk_un hne]
          exact j1 k hk (fun i hi => h i (by omega))
        · intro i k hi h
          dsimp only
          by_cases ei : i = j
          · rw [ei, e] at h
            rw [← Option.some.inj h, pk_us, ei]
          · have hne : k ≠ g := fun z => g3 i (by omega) (by rw [h, z])
            rw [pk_un hne]
            exact j2 i k (by omega) h
        · intro i h1 h2
          dsimp only
          rw [pk_un (show i ≠ j by omega)]
          exact j3 i (by omega) h2
theorem fd_unm_2 {post : Int32 → St2 → Prop} {f0 f1 f4 f5 : Int32} {a1 a2 a3 a4 a5 a6 a7 a8 a9 a10 a11 a12 a13 a14 a15 a16 a17 : Nat → Int32} {T G : Nat} (as : Nat → Option Nat) (hT : T ≤ 24) (hG : G ≤ 24) (hA : fd_As a8 a9 a10 a11 T G as)
    (H : ∀ (le : Int32) (b12 b13 b14 b15 : Nat → Int32), post (nI (fd_cnt as T)) (f0, f1, nI T, nI G, le, f5, a1, a2, a3, a4, a5, a6, a7, a8, a9, a10, a11, b12, b13, b14, b15, a16, a17)) :
    wpX_unmatched_2 post (f0, f1, nI T, nI G, f4, f5, a1, a2, a3, a4, a5, a6, a7, a8, a9, a10, a11, a12, a13, a14, a15, a16, a17) := by
  unfold wpX_unmatched_2
  refine pk_loop (σ := Nat → Int32) (fun n k s => wX_unmatched_2_2 post f0 f1 (nI T) (nI G) f4 f5 n (nI k) a1 a2 a3 a4 a5 a6 a7 a8 a9 a10 a11 s a13 a14 a15 a16 a17) (fun k s => ∀ q, q < k → s q = -1) G 0 a12 (by omega) (fun q hq => absurd hq (by omega)) ?_ ?_
  · intro n s hs
    refine pk_le G G (fun _ => ?_) (fun z => absurd z (by omega))
    refine pk_loop (σ := Nat → Int32) (fun n k r => wX_unmatched_2_25 post f0 f1 (nI T) (nI G) f4 f5 n (nI k) a1 a2 a3 a4 a5 a6 a7 a8 a9 a10 a11 s a13 r a15 a16 a17) (fun k r => ∀ q, q < k → r q = -1) T 0 a14 (by omega) (fun q hq => absurd hq (by omega)) ?_ ?_
    · intro n r hr
      exact pk_le T T (fun _ => fd_unm50_2 hT hG hA hs hr H) (fun z => absurd z (by omega))
    · intro n k r hk hr hw
      refine pk_le T k (fun z => absurd z (by omega)) (fun _ => ⟨pk_in k 24 (by omega), nm_e (nm_r (nI_1 k) (hw _ ?_))⟩)
      rw [nI_clamp (show k < 2 ^ 31 by omega)]
      exact fd_fill hr
  · intro n k s hk hs hw
    refine pk_le G k (fun z => absurd z (by omega)) (fun _ => ⟨pk_in k 24 (by omega), nm_e (nm_r (nI_1 k) (hw _ ?_))⟩)
    rw [nI_clamp (show k < 2 ^ 31 by omega)]
    exact fd_fill hs
theorem fd_addG_2 {post : St2 → Prop} {f0 f1 f2 f4 f5 : Int32} {a1 a2 a3 a4 a5 a6 a7 a8 a9 a10 a11 a12 a13 a14 a15 a16 a17 : Nat → Int32} {n : Nat} {p0 p1 v w : Int32} (hn : n < 24) (h0 : p0.toInt8.toInt32 = v) (h1 : p1.toInt8.toInt32 = w)
    (H : post (f0, f1, f2, nI (n + 1), f4, f5, a1, a2, a3, a4, a5, a6, a7, a8, a9, upd a10 n v, upd a11 n w, a12, a13, a14, a15, a16, a17)) : wpX_addGiver_2 post (f0, f1, f2, nI n, f4, f5, a1, a2, a3, a4, a5, a6, a7, a8, a9, a10, a11, a12, a13, a14, a15, a16, a17) p0 p1 := by
  unfold wpX_addGiver_2
  exact br_f (nI_ge (b := 24) hn (by decide)) ⟨pk_in n 24 hn, nm_r (fd_upd (nI_clamp (by omega)) h0) ⟨pk_in n 24 hn, nm_r (fd_upd (nI_clamp (by omega)) h1) (nm_r (nI_1 n) H)⟩⟩
theorem fd_addT_2 {post : St2 → Prop} {f0 f1 f3 f4 f5 : Int32} {a1 a2 a3 a4 a5 a6 a7 a8 a9 a10 a11 a12 a13 a14 a15 a16 a17 : Nat → Int32} {n : Nat} {p0 p1 v w : Int32} (hn : n < 24) (h0 : p0.toInt8.toInt32 = v) (h1 : p1.toInt8.toInt32 = w)
    (H : post (f0, f1, nI (n + 1), f3, f4, f5, a1, a2, a3, a4, a5, a6, a7, upd a8 n v, upd a9 n w, a10, a11, a12, a13, a14, a15, a16, a17)) : wpX_addTaker_2 post (f0, f1, nI n, f3, f4, f5, a1, a2, a3, a4, a5, a6, a7, a8, a9, a10, a11, a12, a13, a14, a15, a16, a17) p0 p1 := by
  unfold wpX_addTaker_2
  exact br_f (nI_ge (b := 24) hn (by decide)) ⟨pk_in n 24 hn, nm_r (fd_upd (nI_clamp (by omega)) h0) ⟨pk_in n 24 hn, nm_r (fd_upd (nI_clamp (by omega)) h1) (nm_r (nI_1 n) H)⟩⟩
theorem fd_g19_2 {post : St2 → Prop} {J : Int32 → Int32 → Int32 → Int32 → Int32 → Int32 → Int32 → (Nat → Int32) → (Nat → Int32) → (Nat → Int32) → (Nat → Int32) → (Nat → Int32) → (Nat → Int32) → (Nat → Int32) → (Nat → Int32) → (Nat → Int32) → (Nat → Int32) → (Nat → Int32) → (Nat → Int32) → (Nat → Int32) → (Nat → Int32) → (Nat → Int32) → (Nat → Int32) → (Nat → Int32) → Prop} {f0 f1 f2 f4 f5 : Int32} {a1 a2 a3 a4 a5 a6 a7 a8 a9 a10 a11 a12 a13 a14 a15 a16 a17 : Nat → Int32} {s m n : Nat} {v : Int32} (hs : s < 4) (hm : m + n ≤ 24) (h5 : a5 s = nI n) (hv : ((1 : Int32) <<< (nI s &&& 31)).toInt8.toInt32 = v)
    (H : ∀ b10 b11 : Nat → Int32, (∀ g, g < m → b10 g = a10 g ∧ b11 g = a11 g) → (∀ g, m ≤ g → g < m + n → b10 g = v ∧ b11 g = nI 0) → J (nI (s + 1)) f0 f1 f2 (nI (m + n)) f4 f5 a1 a2 a3 a4 a5 a6 a7 a8 a9 b10 b11 a12 a13 a14 a15 a16 a17) :
    ∃ k, wX_gather_2_19 post J (nI s) k 0 f0 f1 f2 (nI m) f4 f5 a1 a2 a3 a4 a5 a6 a7 a8 a9 a10 a11 a12 a13 a14 a15 a16 a17 := by
  refine pk_loop (σ := (Nat → Int32) × (Nat → Int32)) (fun k i r => wX_gather_2_19 post J (nI s) k (nI i) f0 f1 f2 (nI (m + i)) f4 f5 a1 a2 a3 a4 a5 a6 a7 a8 a9 r.1 r.2 a12 a13 a14 a15 a16 a17) (fun i r => (∀ g, g < m → r.1 g = a10 g ∧ r.2 g = a11 g) ∧ (∀ g, m ≤ g → g < m + i → r.1 g = v ∧ r.2 g = nI 0)) n 0 (a10, a11) (by omega) ⟨fun g _ => ⟨rfl, rfl⟩, fun g h1 h2 => absurd h1 (by omega)⟩ ?_ ?_
  · intro k r hr
    refine ⟨pk_in s 4 hs, br_t ?_ (nm_r (nI_1 s) (H _ _ hr.1 hr.2))⟩
    rw [nI_clamp (show s < 2 ^ 31 by omega), h5]
    exact nI_le (Nat.le_refl n) (by omega)
  · intro k i r hi hr hw
    refine ⟨pk_in s 4 hs, br_f ?_ (fd_addG_2 (n := m + i) (v := v) (w := nI 0) (by omega) hv (by decide) (nm_r (nI_1 i) (hw (upd r.1 (m + i) v, upd r.2 (m + i) (nI 0)) ⟨?_, ?_⟩)))⟩
    · rw [nI_clamp (show s < 2 ^ 31 by omega), h5]
      exact nI_ge hi (by omega)
    · intro g hg
      dsimp only
      rw [pk_un (show g ≠ m + i by omega), pk_un (show g ≠ m + i by omega)]
      exact hr.1 g hg
    · intro g h1 h2
      dsimp only
      by_cases e : g = m + i
      · rw [e, pk_us, pk_us]
        exact ⟨rfl, rfl⟩
      · rw [pk_un e, pk_un e]
        exact hr.2 g h1 (by omega)
theorem fd_g12_2 {post : St2 → Prop} {f0 f1 f4 f5 : Int32} {a1 a2 a3 a4 a5 a6 a7 a8 a9 a10 a11 a12 a13 a14 a15 a16 a17 : Nat → Int32} {x y : Nat} (hs : fd_St x y a5)
    (H : ∀ b10 b11 : Nat → Int32, fd_Gv x y b10 b11 → ∃ n, wX_gather_2_51 post n 0 f0 f1 0 (nI (x + y)) f4 f5 a1 a2 a3 a4 a5 a6 a7 a8 a9 b10 b11 a12 a13 a14 a15 a16 a17) :
    ∃ n, wX_gather_2_12 post n 0 f0 f1 0 0 f4 f5 a1 a2 a3 a4 a5 a6 a7 a8 a9 a10 a11 a12 a13 a14 a15 a16 a17 := by
  obtain ⟨hx, hy, h0, h1, h2, h3⟩ := hs
  refine ⟨0 + 1 + 1 + 1 + 1 + 1, br_f (by decide) (fd_g19_2 (s := 0) (m := 0) (n := x) (v := nI 1) (by omega) (by omega) h0 (by decide) (fun b10 b11 p1 p2 => ?_))⟩
  refine br_f (by decide) (fd_g19_2 (s := 1) (m := 0 + x) (n := y) (v := nI 2) (by omega) (by omega) h1 (by decide) (fun c10 c11 q1 q2 => ?_))
  refine br_f (by decide) (fd_g19_2 (s := 2) (m := 0 + x + y) (n := 0) (v := nI 4) (by omega) (by omega) h2 (by decide) (fun d10 d11 r1 r2 => ?_))
  refine br_f (by decide) (fd_g19_2 (s := 3) (m := 0 + x + y + 0) (n := 0) (v := nI 8) (by omega) (by omega) h3 (by decide) (fun e10 e11 t1 t2 => ?_))
  refine br_t (by decide) ?_
  rw [show 0 + x + y + 0 + 0 = x + y by omega]
  refine H e10 e11 ⟨fun g hg => ?_, fun g h1 h2 => ?_⟩
  · rw [(t1 g (by omega)).1, (t1 g (by omega)).2, (r1 g (by omega)).1, (r1 g (by omega)).2, (q1 g (by omega)).1, (q1 g (by omega)).2]
    exact p2 g (by omega) (by omega)
  · rw [(t1 g (by omega)).1, (t1 g (by omega)).2, (r1 g (by omega)).1, (r1 g (by omega)).2]
    exact q2 g (by omega) (by omega)
theorem fd_gat1_2 {post : St2 → Prop} {f2 f3 f4 f5 : Int32} {a1 a2 a3 a4 a5 a6 a7 a8 a9 a10 a11 a12 a13 a14 a15 a16 a17 : Nat → Int32} {x y pk t bk u : Nat} (hs : fd_St x y a5) (hp : pk < 128) (ht : t < 128) (hb : bk < 128) (hu : u < 128)
    (h6 : a6 0 = nI pk) (h2 : a2 0 = nI t) (h7 : a7 0 = nI bk) (h4 : a4 0 = nI u)
    (H : ∀ b8 b9 b10 b11 : Nat → Int32, b8 0 = nI pk → b9 0 = nI t → fd_Gv x y b10 b11 → b10 (x + y) = nI bk → b11 (x + y) = nI u → post (2, 1, nI 1, nI (x + y + 1), f4, f5, a1, a2, a3, a4, a5, a6, a7, b8, b9, b10, b11, a12, a13, a14, a15, a16, a17)) : wpX_gather_2 post (2, 1, f2, f3, f4, f5, a1, a2, a3, a4, a5, a6, a7, a8, a9, a10, a11, a12, a13, a14, a15, a16, a17) := by
  unfold wpX_gather_2
  refine fd_g12_2 hs (fun b10 b11 hg => ?_)
  have hx := hs.1
  have hy := hs.2.1
  refine ⟨0 + 1 + 1 + 1, br_f (by decide) (br_f (by decide) ⟨pk_in 0 8 (by omega), pk_in 0 8 (by omega), ?_⟩)⟩
  rw [sb_cl0, h7, h4]
  refine fd_addG_2 (n := x + y) (by omega) (fd_b8 bk hb) (fd_b8 u hu) ⟨pk_in 0 8 (by omega), pk_in 0 8 (by omega), ?_⟩
  rw [h6, h2]
  refine fd_addT_2 (n := 0) (by omega) (fd_b8 pk hp) (fd_b8 t ht) (nm_r fd_01 (br_f (by decide) (br_t (by decide) (nm_r fd_12 (br_t (by decide) (H _ _ _ _ pk_us pk_us ⟨fun g h => ?_, fun g h h' => ?_⟩ pk_us pk_us))))))
  · rw [pk_un (show g ≠ x + y by omega), pk_un (show g ≠ x + y by omega)]
    exact hg.1 g h
  · rw [pk_un (show g ≠ x + y by omega), pk_un (show g ≠ x + y by omega)]
    exact hg.2 g h h'
theorem fd_unY_2 {post : Int32 → St2 → Prop} {f0 f1 f4 f5 : Int32} {a1 a2 a3 a4 a5 a6 a7 a8 a9 a10 a11 a12 a13 a14 a15 a16 a17 : Nat → Int32} {x y pk t bk u k : Nat} (hx : x ≤ 3) (hy : y ≤ 3) (h : fd_Wd x y pk t bk u a8 a9 a10 a11) (ok : fd_ok x y pk) (hk : k ≤ 17)
    (hT : ∀ i, 0 < i → i < k + 1 → a8 i = nI 2 ∧ a9 i = nI 4)
    (H : ∀ (r le : Int32) (b12 b13 b14 b15 : Nat → Int32), (r = 0 ↔ k ≤ fd_due x y pk bk u) → post r (f0, f1, nI (k + 1), nI (x + y + 1), le, f5, a1, a2, a3, a4, a5, a6, a7, a8, a9, a10, a11, b12, b13, b14, b15, a16, a17)) :
    wpX_unmatched_2 post (f0, f1, nI (k + 1), nI (x + y + 1), f4, f5, a1, a2, a3, a4, a5, a6, a7, a8, a9, a10, a11, a12, a13, a14, a15, a16, a17) := by
  refine fd_unm_2 _ (by omega) (by omega) (fd_AsY h ok (by omega) hT) (fun le b12 b13 b14 b15 => H _ le b12 b13 b14 b15 ?_)
  have h1 := fd_cnt_le (fd_as1 (fd_g0 x pk) (x + fd_fo x pk) (x + y + fd_rt bk u)) (k + 1)
  rw [fd_nI0 (by omega), fd_cnt1 (fd_due_le (k := k) ok).1]
  exact (fd_due_le ok).2
theorem fd_unN_2 {post : Int32 → St2 → Prop} {f0 f1 f4 f5 : Int32} {a1 a2 a3 a4 a5 a6 a7 a8 a9 a10 a11 a12 a13 a14 a15 a16 a17 : Nat → Int32} {x y pk t bk u : Nat} (hx : x ≤ 3) (hy : y ≤ 3) (h : fd_Wd x y pk t bk u a8 a9 a10 a11) (no : ¬ fd_ok x y pk)
    (H : ∀ (le : Int32) (b12 b13 b14 b15 : Nat → Int32), post 1 (f0, f1, nI 1, nI (x + y + 1), le, f5, a1, a2, a3, a4, a5, a6, a7, a8, a9, a10, a11, b12, b13, b14, b15, a16, a17)) :
    wpX_unmatched_2 post (f0, f1, nI 1, nI (x + y + 1), f4, f5, a1, a2, a3, a4, a5, a6, a7, a8, a9, a10, a11, a12, a13, a14, a15, a16, a17) :=
  fd_unm_2 _ (by omega) (by omega) (fd_AsN h no) (fun le b12 b13 b14 b15 => H le b12 b13 b14 b15)
theorem fd_miss_2 {post : Int32 → St2 → Prop} {f2 f3 f4 f5 : Int32} {a1 a2 a3 a4 a5 a6 a7 a8 a9 a10 a11 a12 a13 a14 a15 a16 a17 : Nat → Int32} {x y pk t bk u : Nat} (hs : fd_St x y a5) (ha : fd_Ar pk t bk u) (h6 : a6 0 = nI pk) (h2 : a2 0 = nI t) (h7 : a7 0 = nI bk) (h4 : a4 0 = nI u)
    (H : ∀ (r c2 c3 c4 : Int32) (b8 b9 b10 b11 b12 b13 b14 b15 : Nat → Int32), (r = 0 ↔ fd_ok x y pk) → post r (2, 1, c2, c3, c4, f5, a1, a2, a3, a4, a5, a6, a7, b8, b9, b10, b11, b12, b13, b14, b15, a16, a17)) :
    wpX_missing_2 post (2, 1, f2, f3, f4, f5, a1, a2, a3, a4, a5, a6, a7, a8, a9, a10, a11, a12, a13, a14, a15, a16, a17) := by
  unfold wpX_missing_2
  have hx := hs.1
  have hy := hs.2.1
  obtain ⟨hp, hb, ht, hu⟩ := ha
  refine fd_gat1_2 hs (by omega) (by omega) (by omega) (by omega) h6 h2 h7 h4 (fun b8 b9 b10 b11 e8 e9 hG e10 e11 => ?_)
  have W : fd_Wd x y pk t bk u b8 b9 b10 b11 := ⟨hp, hb, ht, hu, e8, e9, hG, e10, e11⟩
  by_cases ok : fd_ok x y pk
  · exact fd_unY_2 (k := 0) hx hy W ok (by omega) (fun i h1 h2 => absurd h1 (by omega)) (fun r le b12 b13 b14 b15 e => H r _ _ _ _ _ _ _ _ _ _ _ ⟨fun _ => ok, fun _ => e.mpr (Nat.zero_le _)⟩)
  · exact fd_unN_2 hx hy W ok (fun le b12 b13 b14 b15 => H 1 _ _ _ _ _ _ _ _ _ _ _ ⟨fun z => absurd z (by decide), fun z => absurd z ok⟩)
end
section
/-! FleetDesk: the same rows at the third names -/
theorem fd_lookA_3 {post : Int32 → St2 → Prop} {f0 f1 f2 f5 : Int32} {a1 a2 a3 a4 a5 a6 a7 a8 a9 a10 a11 a12 a13 a14 a15 a16 a17 : Nat → Int32} {G i g le : Nat} (hG : G ≤ 24) (hi : i < 24) (hg : g < G) (hle : le ≤ 24)
    (hS : fd_S a8 a9 a10 a11 i g) (hf : ¬ 0 ≤ a12 g) (hr : ¬ 0 ≤ a13 g) (hm : ∀ k, k < g → fd_S a8 a9 a10 a11 i k → 0 ≤ a12 k)
    (H : ∀ (le' : Int32) (b13 b15 : Nat → Int32), b13 g = nI i → post (nI g) (f0, f1, f2, nI G, le', f5, a1, a2, a3, a4, a5, a6, a7, a8, a9, a10, a11, a12, b13, a14, b15, a16, a17)) :
    wpX_look_3 post (f0, f1, f2, nI G, nI le, f5, a1, a2, a3, a4, a5, a6, a7, a8, a9, a10, a11, a12, a13, a14, a15, a16, a17) (nI i) := by
  unfold wpX_look_3
  refine pk_loop (σ := Nat × (Nat → Int32) × (Nat → Int32)) (fun n k s => wX_look_3_2 post (nI i) f0 f1 f2 (nI G) f5 n (nI k) (nI s.1) a1 a2 a3 a4 a5 a6 a7 a8 a9 a10 a11 a12 s.2.1 a14 s.2.2 a16 a17) (fun k s => s.1 ≤ 24 ∧ ¬ 0 ≤ s.2.1 g) g 0 (le, a13, a15) (by omega) ⟨hle, hr⟩ ?_ ?_
  · intro n s hs
    refine pk_le G g (fun z => absurd z (by omega)) (fun _ => ⟨pk_in g 24 (by omega), ?_⟩)
    rw [nI_clamp (show g < 2 ^ 31 by omega)]
    refine br_f hs.2 (fd_suits hi (by omega) (fun _ => br_f (by decide) ⟨pk_in g 24 (by omega), nm_e ⟨pk_in g 24 (by omega), br_f hf (H _ _ _ ?_)⟩⟩) (fun z => absurd hS z))
    rw [pk_us, fd_b8 i (by omega)]
  · intro n k s hk hs hw
    refine pk_le G k (fun z => absurd z (by omega)) (fun _ => ⟨pk_in k 24 (by omega), ?_⟩)
    rw [nI_clamp (show k < 2 ^ 31 by omega)]
    have hu : ∀ v, ¬ 0 ≤ upd s.2.1 k v g := fun v => by
      rw [pk_un (show g ≠ k by omega)]
      exact hs.2
    refine br_c (fun _ => nm_r (nI_1 k) (hw s hs)) (fun _ => fd_suits hi (by omega) (fun hz => br_f (by decide) ⟨pk_in k 24 (by omega), nm_e ⟨pk_in k 24 (by omega), br_t (hm k hk hz) ?_⟩⟩) (fun _ => br_t rfl (nm_r (nI_1 k) (hw s hs))))
    exact pk_le 24 s.1 (fun _ => nm_r (nI_1 k) (hw (s.1, upd s.2.1 k _, s.2.2) ⟨hs.1, hu _⟩)) (fun z => ⟨pk_in k 24 (by omega), pk_in s.1 24 z, nm_e (nm_r (nI_1 s.1) (nm_r (nI_1 k) (hw (s.1 + 1, upd s.2.1 k _, upd s.2.2 _ _) ⟨z, hu _⟩)))⟩)
theorem fd_lookB_3 {post : Int32 → St2 → Prop} {f0 f1 f2 f5 : Int32} {a1 a2 a3 a4 a5 a6 a7 a8 a9 a10 a11 a12 a13 a14 a15 a16 a17 : Nat → Int32} {G i le : Nat} {Q : Nat → Prop} (hG : G ≤ 24) (hle : le ≤ 24)
    (hQ : ∀ i, Q i → i < 24 ∧ ∀ g, g < G → fd_S a8 a9 a10 a11 i g → ∃ i', Q i' ∧ a12 g = nI i') (hi : Q i) (hl : ∀ q, q < le → ∃ i, Q i ∧ a15 q = nI i)
    (H : ∀ (le' : Nat) (b13 b15 : Nat → Int32), le' ≤ 24 → (∀ q, q < le' → ∃ i, Q i ∧ b15 q = nI i) → post (-1) (f0, f1, f2, nI G, nI le', f5, a1, a2, a3, a4, a5, a6, a7, a8, a9, a10, a11, a12, b13, a14, b15, a16, a17)) :
    wpX_look_3 post (f0, f1, f2, nI G, nI le, f5, a1, a2, a3, a4, a5, a6, a7, a8, a9, a10, a11, a12, a13, a14, a15, a16, a17) (nI i) := by
  unfold wpX_look_3
  refine pk_loop (σ := Nat × (Nat → Int32) × (Nat → Int32)) (fun n k s => wX_look_3_2 post (nI i) f0 f1 f2 (nI G) f5 n (nI k) (nI s.1) a1 a2 a3 a4 a5 a6 a7 a8 a9 a10 a11 a12 s.2.1 a14 s.2.2 a16 a17) (fun k s => s.1 ≤ 24 ∧ ∀ q, q < s.1 → ∃ i, Q i ∧ s.2.2 q = nI i) G 0 (le, a13, a15) (by omega) ⟨hle, hl⟩ ?_ ?_
  · intro n s hs
    exact pk_le G G (fun _ => H _ _ _ hs.1 hs.2) (fun z => absurd z (by omega))
  · intro n k s hk hs hw
    refine pk_le G k (fun z => absurd z (by omega)) (fun _ => ⟨pk_in k 24 (by omega), ?_⟩)
    rw [nI_clamp (show k < 2 ^ 31 by omega)]
    refine br_c (fun _ => nm_r (nI_1 k) (hw s hs)) (fun _ => fd_suits (hQ i hi).1 (by omega) (fun hz => ?_) (fun _ => br_t rfl (nm_r (nI_1 k) (hw s hs))))
    obtain ⟨i', q', e'⟩ := (hQ i hi).2 k hk hz
    have hi' := (hQ i' q').1
    refine br_f (by decide) ⟨pk_in k 24 (by omega), nm_e ⟨pk_in k 24 (by omega), br_t (by rw [e']; exact nI_pos' (by omega)) ?_⟩⟩
    refine pk_le 24 s.1 (fun _ => nm_r (nI_1 k) (hw (s.1, upd s.2.1 k _, s.2.2) ⟨hs.1, hs.2⟩)) (fun z => ⟨pk_in k 24 (by omega), pk_in s.1 24 z, nm_e (nm_r (nI_1 s.1) (nm_r (nI_1 k) (hw (s.1 + 1, upd s.2.1 k _, upd s.2.2 _ _) ⟨z, ?_⟩)))⟩)
    intro q hq
    dsimp only at hq ⊢
    rw [nI_clamp (show s.1 < 2 ^ 31 by omega)]
    by_cases e : q = s.1
    · rw [e, pk_us, e', fd_nb (by omega)]
      exact ⟨i', q', rfl⟩
    · rw [pk_un e]
      exact hs.2 q (by omega)
theorem fd_shift_3 {post : St2 → Prop} {f0 f1 f2 f3 f4 f5 : Int32} {a1 a2 a3 a4 a5 a6 a7 a8 a9 a10 a11 a12 a13 a14 a15 a16 a17 : Nat → Int32} {g j : Nat} (hg : g < 24) (hj : j < 24) (h13 : a13 g = nI j) (h14 : a14 j < 0)
    (H : post (f0, f1, f2, f3, f4, f5, a1, a2, a3, a4, a5, a6, a7, a8, a9, a10, a11, upd a12 g (nI j), a13, upd a14 j (nI g), a15, a16, a17)) : wpX_shift_3 post (f0, f1, f2, f3, f4, f5, a1, a2, a3, a4, a5, a6, a7, a8, a9, a10, a11, a12, a13, a14, a15, a16, a17) (nI g) := by
  unfold wpX_shift_3
  refine ⟨0 + 1 + 1, br_f (by decide) (br_f (nI_pos (by omega)) ⟨pk_in g 24 hg, nm_r (e' := nI j) (by rw [nI_clamp (by omega), h13]) ⟨pk_in j 24 hj, nm_r (e' := a14 j) (by rw [nI_clamp (by omega)]) ⟨pk_in g 24 hg, nm_r (e' := upd a12 g (nI j)) (fd_upd (nI_clamp (by omega)) (fd_b8 j (by omega))) ⟨pk_in j 24 hj, nm_r (e' := upd a14 j (nI g)) (fd_upd (nI_clamp (by omega)) (fd_b8 g (by omega))) (nm_e (br_f (by decide) (br_t h14 H)))⟩⟩⟩⟩)⟩
theorem fd_serveA_3 {post : Int32 → St2 → Prop} {f0 f1 f2 f4 f5 : Int32} {a1 a2 a3 a4 a5 a6 a7 a8 a9 a10 a11 a12 a13 a14 a15 a16 a17 : Nat → Int32} {G j g : Nat} (hG : G ≤ 24) (hj : j < 24) (hg : g < G)
    (hS : fd_S a8 a9 a10 a11 j g) (hf : ¬ 0 ≤ a12 g) (hm : ∀ k, k < g → fd_S a8 a9 a10 a11 j k → 0 ≤ a12 k) (h14 : a14 j < 0)
    (H : ∀ (le : Int32) (b13 b15 : Nat → Int32), post 1 (f0, f1, f2, nI G, le, f5, a1, a2, a3, a4, a5, a6, a7, a8, a9, a10, a11, upd a12 g (nI j), b13, upd a14 j (nI g), b15, a16, a17)) :
    wpX_serve_3 post (f0, f1, f2, nI G, f4, f5, a1, a2, a3, a4, a5, a6, a7, a8, a9, a10, a11, a12, a13, a14, a15, a16, a17) (nI j) := by
  unfold wpX_serve_3
  refine pk_loop (σ := Nat → Int32) (fun n k s => wX_serve_3_2 post (nI j) f0 f1 f2 (nI G) f4 f5 n (nI k) a1 a2 a3 a4 a5 a6 a7 a8 a9 a10 a11 a12 s a14 a15 a16 a17) (fun k s => ∀ q, q < k → s q = -1) G 0 a13 (by omega) (fun q hq => absurd hq (by omega)) ?_ ?_
  · intro n s hs
    refine pk_le G G (fun _ => nm_r (e' := upd a15 0 (nI j)) (fd_upd rfl (fd_b8 j (by omega))) ⟨0 + 1 + 1, br_f (by decide) (br_f (by decide) (br_f fd_m1 ⟨pk_in 0 24 (by omega), ?_⟩))⟩) (fun z => absurd z (by omega))
    rw [sb_cl0, pk_us]
    refine fd_lookA_3 (le := 1) hG hj hg (by omega) hS hf (by rw [hs g hg]; exact fd_m1) hm (fun le b13 b15 hb => nm_e ?_)
    have E : wX_serve_3_75 post (nI g) f0 f1 f2 (nI G) le f5 a1 a2 a3 a4 a5 a6 a7 a8 a9 a10 a11 a12 b13 a14 b15 a16 a17 := br_t (nI_pos' (by omega)) (fd_shift_3 (by omega) hj hb h14 (H _ _ _))
    exact br_c (fun _ => E) (fun _ => br_c (fun _ => E) (fun _ => br_t (nI_pos' (by omega)) E))
  · intro n k s hk hs hw
    refine pk_le G k (fun z => absurd z (by omega)) (fun _ => ⟨pk_in k 24 (by omega), nm_e (nm_r (nI_1 k) (hw _ ?_))⟩)
    rw [nI_clamp (show k < 2 ^ 31 by omega)]
    exact fd_fill hs
theorem fd_serveB_3 {post : Int32 → St2 → Prop} {f0 f1 f2 f4 f5 : Int32} {a1 a2 a3 a4 a5 a6 a7 a8 a9 a10 a11 a12 a13 a14 a15 a16 a17 : Nat → Int32} {G j : Nat} {Q : Nat → Prop} (hG : G ≤ 24)
    (hQ : ∀ i, Q i → i < 24 ∧ ∀ g, g < G → fd_S a8 a9 a10 a11 i g → ∃ i', Q i' ∧ a12 g = nI i') (hj : Q j)
    (H : ∀ (le : Int32) (b13 b15 : Nat → Int32), post 0 (f0, f1, f2, nI G, le, f5, a1, a2, a3, a4, a5, a6, a7, a8, a9, a10, a11, a12, b13, a14, b15, a16, a17)) :
    wpX_serve_3 post (f0, f1, f2, nI G, f4, f5, a1, a2, a3, a4, a5, a6, a7, a8, a9, a10, a11, a12, a13, a14, a15, a16, a17) (nI j) := by
  have hj' := (hQ j hj).1
  unfold wpX_serve_3
  refine pk_loop (σ := Nat → Int32) (fun n k s => wX_serve_3_2 post (nI j) f0 f1 f2 (nI G) f4 f5 n (nI k) a1 a2 a3 a4 a5 a6 a7 a8 a9 a10 a11 a12 s a14 a15 a16 a17) (fun _ _ => True) G 0 a13 (by omega) trivial ?_ ?_
  · intro n s _
    refine pk_le G G (fun _ => nm_r (e' := upd a15 0 (nI j)) (fd_upd rfl (fd_b8 j (by omega))) ?_) (fun z => absurd z (by omega))
    refine pk_loop (σ := Nat × (Nat → Int32) × (Nat → Int32)) (fun n k s => wX_serve_3_40 post n (-1) (nI k) f0 f1 f2 (nI G) (nI s.1) f5 a1 a2 a3 a4 a5 a6 a7 a8 a9 a10 a11 a12 s.2.1 a14 s.2.2 a16 a17) (fun k s => s.1 ≤ 24 ∧ ∀ q, q < s.1 → ∃ i, Q i ∧ s.2.2 q = nI i) 24 0 (1, s, upd a15 0 (nI j)) (by omega) ⟨by omega, ?_⟩ ?_ ?_
    · intro q hq
      dsimp only at hq ⊢
      rw [show q = 0 by omega, pk_us]
      exact ⟨j, hj, rfl⟩
    · intro n s hs
      have E : wX_serve_3_75 post (-1) f0 f1 f2 (nI G) (nI s.1) f5 a1 a2 a3 a4 a5 a6 a7 a8 a9 a10 a11 a12 s.2.1 a14 s.2.2 a16 a17 := br_f fd_m1 (H _ _ _)
      exact br_c (fun _ => E) (fun _ => br_t (by decide) E)
    · intro n k s hk hs hw
      have E : wX_serve_3_75 post (-1) f0 f1 f2 (nI G) (nI s.1) f5 a1 a2 a3 a4 a5 a6 a7 a8 a9 a10 a11 a12 s.2.1 a14 s.2.2 a16 a17 := br_f fd_m1 (H _ _ _)
      refine pk_le s.1 k (fun _ => E) (fun z => br_f (nI_ge (b := 24) hk (by decide)) (br_f fd_m1 ⟨pk_in k 24 hk, ?_⟩))
      rw [nI_clamp (show k < 2 ^ 31 by omega)]
      obtain ⟨i, qi, ei⟩ := hs.2 k z
      rw [ei]
      exact fd_lookB_3 hG hs.1 hQ qi hs.2 (fun le' b13 b15 h1 h2 => nm_r (nI_1 k) (hw (le', b13, b15) ⟨h1, h2⟩))
  · intro n k s hk hs hw
    exact pk_le G k (fun z => absurd z (by omega)) (fun _ => ⟨pk_in k 24 (by omega), nm_e (nm_r (nI_1 k) (hw _ trivial))⟩)
theorem fd_unm50_3 {post : Int32 → St2 → Prop} {f0 f1 f4 f5 : Int32} {a1 a2 a3 a4 a5 a6 a7 a8 a9 a10 a11 a12 a13 a14 a15 a16 a17 : Nat → Int32} {T G : Nat} {as : Nat → Option Nat} (hT : T ≤ 24) (hG : G ≤ 24) (hA : fd_As a8 a9 a10 a11 T G as)
    (h12 : ∀ g, g < G → a12 g = -1) (h14 : ∀ i, i < T → a14 i = -1)
    (H : ∀ (le : Int32) (b12 b13 b14 b15 : Nat → Int32), post (nI (fd_cnt as T)) (f0, f1, nI T, nI G, le, f5, a1, a2, a3, a4, a5, a6, a7, a8, a9, a10, a11, b12, b13, b14, b15, a16, a17)) :
    ∃ n, wX_unmatched_3_50 post n 0 0 f0 f1 (nI T) (nI G) f4 f5 a1 a2 a3 a4 a5 a6 a7 a8 a9 a10 a11 a12 a13 a14 a15 a16 a17 := by
  refine pk_loop (σ := Int32 × (Nat → Int32) × (Nat → Int32) × (Nat → Int32) × (Nat → Int32)) (fun n j s => wX_unmatched_3_50 post n (nI (fd_cnt as j)) (nI j) f0 f1 (nI T) (nI G) s.1 f5 a1 a2 a3 a4 a5 a6 a7 a8 a9 a10 a11 s.2.1 s.2.2.1 s.2.2.2.1 s.2.2.2.2 a16 a17) (fun j s => fd_J T G as j s.2.1 s.2.2.2.1) T 0 (f4, a12, a13, a14, a15) (by omega) ⟨fun g hg _ => h12 g hg, fun i g hi => absurd hi (by omega), fun i _ hi => h14 i hi⟩ ?_ ?_
  · intro n s hs
    exact pk_le T T (fun _ => H _ _ _ _ _) (fun z => absurd z (by omega))
  · intro n j s hj hs hw
    obtain ⟨s4, b12, b13, b14, b15⟩ := s
    obtain ⟨j1, j2, j3⟩ := hs
    dsimp only at j1 j2 j3
    refine pk_le T j (fun z => absurd z (by omega)) (fun _ => ?_)
    cases e : as j with
    | none =>
      obtain ⟨Q, q1, q2⟩ := hA.2 j hj e
      refine fd_serveB_3 (Q := Q) hG ?_ q1 (fun le c13 c15 => br_t rfl (nm_r (e' := nI (fd_cnt as (j + 1))) (by rw [fd_cnt_none e, nI_1]) (nm_r (nI_1 j) (hw (le, b12, c13, b14, c15) ⟨?_, ?_, ?_⟩))))
      · intro i hi
        refine ⟨(q2 i hi).1, fun g hg hS => ?_⟩
        obtain ⟨i', h1, h2, h3⟩ := (q2 i hi).2 g hg hS
        exact ⟨i', h1, j2 i' g h2 h3⟩
      · exact fun g hg h => j1 g hg (fun i hi => h i (by omega))
      · intro i g hi h
        by_cases ei : i = j
        · rw [ei, e] at h
          exact absurd h.symm (Option.some_ne_none g)
        · exact j2 i g (by omega) h
      · exact fun i h1 h2 => j3 i (by omega) h2
    | some g =>
      obtain ⟨g1, g2, g3, g4⟩ := hA.1 j g hj e
      have q1 : ¬ 0 ≤ b12 g := by
        rw [j1 g g1 g3]
        exact fd_m1
      have q2 : b14 j < 0 := by
        rw [j3 j (by omega) hj]
        decide
      refine fd_serveA_3 (g := g) hG (by omega) g1 g2 q1 ?_ q2 (fun le c13 c15 => br_f (by decide) (nm_r (nI_1 j) ?_))
      · intro k hk hS
        obtain ⟨i, h1, h2⟩ := g4 k hk hS
        dsimp only
        rw [j2 i k h1 h2]
        exact nI_pos' (by omega)
      · have t := hw (le, upd b12 g (nI j), c13, upd b14 j (nI g), c15) ⟨?_, ?_, ?_⟩
        · dsimp only at t
          rw [fd_cnt_some e] at t
          exact t
        · intro k hk h
          have hne : k ≠ g := fun z => h j (by omega) (by rw [e, z])
          dsimp only
          rw [pk_un hne]
          exact j1 k hk (fun i hi => h i (by omega))
        · intro i k hi h
          dsimp only
          by_cases ei : i = j
          · rw [ei, e] at h
            rw [← Option.some.inj h, pk_us, ei]
          · have hne : k ≠ g := fun z => g3 i (by omega) (by rw [h, z])
            rw [pk_un hne]
            exact j2 i k (by omega) h
        · intro i h1 h2
          dsimp only
          rw [pk_un (show i ≠ j by omega)]
          exact j3 i (by omega) h2
theorem fd_unm_3 {post : Int32 → St2 → Prop} {f0 f1 f4 f5 : Int32} {a1 a2 a3 a4 a5 a6 a7 a8 a9 a10 a11 a12 a13 a14 a15 a16 a17 : Nat → Int32} {T G : Nat} (as : Nat → Option Nat) (hT : T ≤ 24) (hG : G ≤ 24) (hA : fd_As a8 a9 a10 a11 T G as)
    (H : ∀ (le : Int32) (b12 b13 b14 b15 : Nat → Int32), post (nI (fd_cnt as T)) (f0, f1, nI T, nI G, le, f5, a1, a2, a3, a4, a5, a6, a7, a8, a9, a10, a11, b12, b13, b14, b15, a16, a17)) :
    wpX_unmatched_3 post (f0, f1, nI T, nI G, f4, f5, a1, a2, a3, a4, a5, a6, a7, a8, a9, a10, a11, a12, a13, a14, a15, a16, a17) := by
  unfold wpX_unmatched_3
  refine pk_loop (σ := Nat → Int32) (fun n k s => wX_unmatched_3_2 post f0 f1 (nI T) (nI G) f4 f5 n (nI k) a1 a2 a3 a4 a5 a6 a7 a8 a9 a10 a11 s a13 a14 a15 a16 a17) (fun k s => ∀ q, q < k → s q = -1) G 0 a12 (by omega) (fun q hq => absurd hq (by omega)) ?_ ?_
  · intro n s hs
    refine pk_le G G (fun _ => ?_) (fun z => absurd z (by omega))
    refine pk_loop (σ := Nat → Int32) (fun n k r => wX_unmatched_3_25 post f0 f1 (nI T) (nI G) f4 f5 n (nI k) a1 a2 a3 a4 a5 a6 a7 a8 a9 a10 a11 s a13 r a15 a16 a17) (fun k r => ∀ q, q < k → r q = -1) T 0 a14 (by omega) (fun q hq => absurd hq (by omega)) ?_ ?_
    · intro n r hr
      exact pk_le T T (fun _ => fd_unm50_3 hT hG hA hs hr H) (fun z => absurd z (by omega))
    · intro n k r hk hr hw
      refine pk_le T k (fun z => absurd z (by omega)) (fun _ => ⟨pk_in k 24 (by omega), nm_e (nm_r (nI_1 k) (hw _ ?_))⟩)
      rw [nI_clamp (show k < 2 ^ 31 by omega)]
      exact fd_fill hr
  · intro n k s hk hs hw
    refine pk_le G k (fun z => absurd z (by omega)) (fun _ => ⟨pk_in k 24 (by omega), nm_e (nm_r (nI_1 k) (hw _ ?_))⟩)
    rw [nI_clamp (show k < 2 ^ 31 by omega)]
    exact fd_fill hs
theorem fd_addG_3 {post : St2 → Prop} {f0 f1 f2 f4 f5 : Int32} {a1 a2 a3 a4 a5 a6 a7 a8 a9 a10 a11 a12 a13 a14 a15 a16 a17 : Nat → Int32} {n : Nat} {p0 p1 v w : Int32} (hn : n < 24) (h0 : p0.toInt8.toInt32 = v) (h1 : p1.toInt8.toInt32 = w)
    (H : post (f0, f1, f2, nI (n + 1), f4, f5, a1, a2, a3, a4, a5, a6, a7, a8, a9, upd a10 n v, upd a11 n w, a12, a13, a14, a15, a16, a17)) : wpX_addGiver_3 post (f0, f1, f2, nI n, f4, f5, a1, a2, a3, a4, a5, a6, a7, a8, a9, a10, a11, a12, a13, a14, a15, a16, a17) p0 p1 := by
  unfold wpX_addGiver_3
  exact br_f (nI_ge (b := 24) hn (by decide)) ⟨pk_in n 24 hn, nm_r (fd_upd (nI_clamp (by omega)) h0) ⟨pk_in n 24 hn, nm_r (fd_upd (nI_clamp (by omega)) h1) (nm_r (nI_1 n) H)⟩⟩
theorem fd_addT_3 {post : St2 → Prop} {f0 f1 f3 f4 f5 : Int32} {a1 a2 a3 a4 a5 a6 a7 a8 a9 a10 a11 a12 a13 a14 a15 a16 a17 : Nat → Int32} {n : Nat} {p0 p1 v w : Int32} (hn : n < 24) (h0 : p0.toInt8.toInt32 = v) (h1 : p1.toInt8.toInt32 = w)
    (H : post (f0, f1, nI (n + 1), f3, f4, f5, a1, a2, a3, a4, a5, a6, a7, upd a8 n v, upd a9 n w, a10, a11, a12, a13, a14, a15, a16, a17)) : wpX_addTaker_3 post (f0, f1, nI n, f3, f4, f5, a1, a2, a3, a4, a5, a6, a7, a8, a9, a10, a11, a12, a13, a14, a15, a16, a17) p0 p1 := by
  unfold wpX_addTaker_3
  exact br_f (nI_ge (b := 24) hn (by decide)) ⟨pk_in n 24 hn, nm_r (fd_upd (nI_clamp (by omega)) h0) ⟨pk_in n 24 hn, nm_r (fd_upd (nI_clamp (by omega)) h1) (nm_r (nI_1 n) H)⟩⟩
theorem fd_g19_3 {post : St2 → Prop} {J : Int32 → Int32 → Int32 → Int32 → Int32 → Int32 → Int32 → (Nat → Int32) → (Nat → Int32) → (Nat → Int32) → (Nat → Int32) → (Nat → Int32) → (Nat → Int32) → (Nat → Int32) → (Nat → Int32) → (Nat → Int32) → (Nat → Int32) → (Nat → Int32) → (Nat → Int32) → (Nat → Int32) → (Nat → Int32) → (Nat → Int32) → (Nat → Int32) → (Nat → Int32) → Prop} {f0 f1 f2 f4 f5 : Int32} {a1 a2 a3 a4 a5 a6 a7 a8 a9 a10 a11 a12 a13 a14 a15 a16 a17 : Nat → Int32} {s m n : Nat} {v : Int32} (hs : s < 4) (hm : m + n ≤ 24) (h5 : a5 s = nI n) (hv : ((1 : Int32) <<< (nI s &&& 31)).toInt8.toInt32 = v)
    (H : ∀ b10 b11 : Nat → Int32, (∀ g, g < m → b10 g = a10 g ∧ b11 g = a11 g) → (∀ g, m ≤ g → g < m + n → b10 g = v ∧ b11 g = nI 0) → J (nI (s + 1)) f0 f1 f2 (nI (m + n)) f4 f5 a1 a2 a3 a4 a5 a6 a7 a8 a9 b10 b11 a12 a13 a14 a15 a16 a17) :
    ∃ k, wX_gather_3_19 post J (nI s) k 0 f0 f1 f2 (nI m) f4 f5 a1 a2 a3 a4 a5 a6 a7 a8 a9 a10 a11 a12 a13 a14 a15 a16 a17 := by
  refine pk_loop (σ := (Nat → Int32) × (Nat → Int32)) (fun k i r => wX_gather_3_19 post J (nI s) k (nI i) f0 f1 f2 (nI (m + i)) f4 f5 a1 a2 a3 a4 a5 a6 a7 a8 a9 r.1 r.2 a12 a13 a14 a15 a16 a17) (fun i r => (∀ g, g < m → r.1 g = a10 g ∧ r.2 g = a11 g) ∧ (∀ g, m ≤ g → g < m + i → r.1 g = v ∧ r.2 g = nI 0)) n 0 (a10, a11) (by omega) ⟨fun g _ => ⟨rfl, rfl⟩, fun g h1 h2 => absurd h1 (by omega)⟩ ?_ ?_
  · intro k r hr
    refine ⟨pk_in s 4 hs, br_t ?_ (nm_r (nI_1 s) (H _ _ hr.1 hr.2))⟩
    rw [nI_clamp (show s < 2 ^ 31 by omega), h5]
    exact nI_le (Nat.le_refl n) (by omega)
  · intro k i r hi hr hw
    refine ⟨pk_in s 4 hs, br_f ?_ (fd_addG_3 (n := m + i) (v := v) (w := nI 0) (by omega) hv (by decide) (nm_r (nI_1 i) (hw (upd r.1 (m + i) v, upd r.2 (m + i) (nI 0)) ⟨?_, ?_⟩)))⟩
    · rw [nI_clamp (show s < 2 ^ 31 by omega), h5]
      exact nI_ge hi (by omega)
    · intro g hg
      dsimp only
      rw [pk_un (show g ≠ m + i by omega), pk_un (show g ≠ m + i by omega)]
      exact hr.1 g hg
    · intro g h1 h2
      dsimp only
      by_cases e : g = m + i
      · rw [e, pk_us, pk_us]
        exact ⟨rfl, rfl⟩
      · rw [pk_un e, pk_un e]
        exact hr.2 g h1 (by omega)
theorem fd_g12_3 {post : St2 → Prop} {f0 f1 f4 f5 : Int32} {a1 a2 a3 a4 a5 a6 a7 a8 a9 a10 a11 a12 a13 a14 a15 a16 a17 : Nat → Int32} {x y : Nat} (hs : fd_St x y a5)
    (H : ∀ b10 b11 : Nat → Int32, fd_Gv x y b10 b11 → ∃ n, wX_gather_3_51 post n 0 f0 f1 0 (nI (x + y)) f4 f5 a1 a2 a3 a4 a5 a6 a7 a8 a9 b10 b11 a12 a13 a14 a15 a16 a17) :
    ∃ n, wX_gather_3_12 post n 0 f0 f1 0 0 f4 f5 a1 a2 a3 a4 a5 a6 a7 a8 a9 a10 a11 a12 a13 a14 a15 a16 a17 := by
  obtain ⟨hx, hy, h0, h1, h2, h3⟩ := hs
  refine ⟨0 + 1 + 1 + 1 + 1 + 1, br_f (by decide) (fd_g19_3 (s := 0) (m := 0) (n := x) (v := nI 1) (by omega) (by omega) h0 (by decide) (fun b10 b11 p1 p2 => ?_))⟩
  refine br_f (by decide) (fd_g19_3 (s := 1) (m := 0 + x) (n := y) (v := nI 2) (by omega) (by omega) h1 (by decide) (fun c10 c11 q1 q2 => ?_))
  refine br_f (by decide) (fd_g19_3 (s := 2) (m := 0 + x + y) (n := 0) (v := nI 4) (by omega) (by omega) h2 (by decide) (fun d10 d11 r1 r2 => ?_))
  refine br_f (by decide) (fd_g19_3 (s := 3) (m := 0 + x + y + 0) (n := 0) (v := nI 8) (by omega) (by omega) h3 (by decide) (fun e10 e11 t1 t2 => ?_))
  refine br_t (by decide) ?_
  rw [show 0 + x + y + 0 + 0 = x + y by omega]
  refine H e10 e11 ⟨fun g hg => ?_, fun g h1 h2 => ?_⟩
  · rw [(t1 g (by omega)).1, (t1 g (by omega)).2, (r1 g (by omega)).1, (r1 g (by omega)).2, (q1 g (by omega)).1, (q1 g (by omega)).2]
    exact p2 g (by omega) (by omega)
  · rw [(t1 g (by omega)).1, (t1 g (by omega)).2, (r1 g (by omega)).1, (r1 g (by omega)).2]
    exact q2 g (by omega) (by omega)
theorem fd_gat1_3 {post : St2 → Prop} {f2 f3 f4 f5 : Int32} {a1 a2 a3 a4 a5 a6 a7 a8 a9 a10 a11 a12 a13 a14 a15 a16 a17 : Nat → Int32} {x y pk t bk u : Nat} (hs : fd_St x y a5) (hp : pk < 128) (ht : t < 128) (hb : bk < 128) (hu : u < 128)
    (h6 : a6 0 = nI pk) (h2 : a2 0 = nI t) (h7 : a7 0 = nI bk) (h4 : a4 0 = nI u)
    (H : ∀ b8 b9 b10 b11 : Nat → Int32, b8 0 = nI pk → b9 0 = nI t → fd_Gv x y b10 b11 → b10 (x + y) = nI bk → b11 (x + y) = nI u → post (2, 1, nI 1, nI (x + y + 1), f4, f5, a1, a2, a3, a4, a5, a6, a7, b8, b9, b10, b11, a12, a13, a14, a15, a16, a17)) : wpX_gather_3 post (2, 1, f2, f3, f4, f5, a1, a2, a3, a4, a5, a6, a7, a8, a9, a10, a11, a12, a13, a14, a15, a16, a17) := by
  unfold wpX_gather_3
  refine fd_g12_3 hs (fun b10 b11 hg => ?_)
  have hx := hs.1
  have hy := hs.2.1
  refine ⟨0 + 1 + 1 + 1, br_f (by decide) (br_f (by decide) ⟨pk_in 0 8 (by omega), pk_in 0 8 (by omega), ?_⟩)⟩
  rw [sb_cl0, h7, h4]
  refine fd_addG_3 (n := x + y) (by omega) (fd_b8 bk hb) (fd_b8 u hu) ⟨pk_in 0 8 (by omega), pk_in 0 8 (by omega), ?_⟩
  rw [h6, h2]
  refine fd_addT_3 (n := 0) (by omega) (fd_b8 pk hp) (fd_b8 t ht) (nm_r fd_01 (br_f (by decide) (br_t (by decide) (nm_r fd_12 (br_t (by decide) (H _ _ _ _ pk_us pk_us ⟨fun g h => ?_, fun g h h' => ?_⟩ pk_us pk_us))))))
  · rw [pk_un (show g ≠ x + y by omega), pk_un (show g ≠ x + y by omega)]
    exact hg.1 g h
  · rw [pk_un (show g ≠ x + y by omega), pk_un (show g ≠ x + y by omega)]
    exact hg.2 g h h'
theorem fd_unY_3 {post : Int32 → St2 → Prop} {f0 f1 f4 f5 : Int32} {a1 a2 a3 a4 a5 a6 a7 a8 a9 a10 a11 a12 a13 a14 a15 a16 a17 : Nat → Int32} {x y pk t bk u k : Nat} (hx : x ≤ 3) (hy : y ≤ 3) (h : fd_Wd x y pk t bk u a8 a9 a10 a11) (ok : fd_ok x y pk) (hk : k ≤ 17)
    (hT : ∀ i, 0 < i → i < k + 1 → a8 i = nI 2 ∧ a9 i = nI 4)
    (H : ∀ (r le : Int32) (b12 b13 b14 b15 : Nat → Int32), (r = 0 ↔ k ≤ fd_due x y pk bk u) → post r (f0, f1, nI (k + 1), nI (x + y + 1), le, f5, a1, a2, a3, a4, a5, a6, a7, a8, a9, a10, a11, b12, b13, b14, b15, a16, a17)) :
    wpX_unmatched_3 post (f0, f1, nI (k + 1), nI (x + y + 1), f4, f5, a1, a2, a3, a4, a5, a6, a7, a8, a9, a10, a11, a12, a13, a14, a15, a16, a17) := by
  refine fd_unm_3 _ (by omega) (by omega) (fd_AsY h ok (by omega) hT) (fun le b12 b13 b14 b15 => H _ le b12 b13 b14 b15 ?_)
  have h1 := fd_cnt_le (fd_as1 (fd_g0 x pk) (x + fd_fo x pk) (x + y + fd_rt bk u)) (k + 1)
  rw [fd_nI0 (by omega), fd_cnt1 (fd_due_le (k := k) ok).1]
  exact (fd_due_le ok).2
theorem fd_unN_3 {post : Int32 → St2 → Prop} {f0 f1 f4 f5 : Int32} {a1 a2 a3 a4 a5 a6 a7 a8 a9 a10 a11 a12 a13 a14 a15 a16 a17 : Nat → Int32} {x y pk t bk u : Nat} (hx : x ≤ 3) (hy : y ≤ 3) (h : fd_Wd x y pk t bk u a8 a9 a10 a11) (no : ¬ fd_ok x y pk)
    (H : ∀ (le : Int32) (b12 b13 b14 b15 : Nat → Int32), post 1 (f0, f1, nI 1, nI (x + y + 1), le, f5, a1, a2, a3, a4, a5, a6, a7, a8, a9, a10, a11, b12, b13, b14, b15, a16, a17)) :
    wpX_unmatched_3 post (f0, f1, nI 1, nI (x + y + 1), f4, f5, a1, a2, a3, a4, a5, a6, a7, a8, a9, a10, a11, a12, a13, a14, a15, a16, a17) :=
  fd_unm_3 _ (by omega) (by omega) (fd_AsN h no) (fun le b12 b13 b14 b15 => H le b12 b13 b14 b15)
theorem fd_miss_3 {post : Int32 → St2 → Prop} {f2 f3 f4 f5 : Int32} {a1 a2 a3 a4 a5 a6 a7 a8 a9 a10 a11 a12 a13 a14 a15 a16 a17 : Nat → Int32} {x y pk t bk u : Nat} (hs : fd_St x y a5) (ha : fd_Ar pk t bk u) (h6 : a6 0 = nI pk) (h2 : a2 0 = nI t) (h7 : a7 0 = nI bk) (h4 : a4 0 = nI u)
    (H : ∀ (r c2 c3 c4 : Int32) (b8 b9 b10 b11 b12 b13 b14 b15 : Nat → Int32), (r = 0 ↔ fd_ok x y pk) → post r (2, 1, c2, c3, c4, f5, a1, a2, a3, a4, a5, a6, a7, b8, b9, b10, b11, b12, b13, b14, b15, a16, a17)) :
    wpX_missing_3 post (2, 1, f2, f3, f4, f5, a1, a2, a3, a4, a5, a6, a7, a8, a9, a10, a11, a12, a13, a14, a15, a16, a17) := by
  unfold wpX_missing_3
  have hx := hs.1
  have hy := hs.2.1
  obtain ⟨hp, hb, ht, hu⟩ := ha
  refine fd_gat1_3 hs (by omega) (by omega) (by omega) (by omega) h6 h2 h7 h4 (fun b8 b9 b10 b11 e8 e9 hG e10 e11 => ?_)
  have W : fd_Wd x y pk t bk u b8 b9 b10 b11 := ⟨hp, hb, ht, hu, e8, e9, hG, e10, e11⟩
  by_cases ok : fd_ok x y pk
  · exact fd_unY_3 (k := 0) hx hy W ok (by omega) (fun i h1 h2 => absurd h1 (by omega)) (fun r le b12 b13 b14 b15 e => H r _ _ _ _ _ _ _ _ _ _ _ ⟨fun _ => ok, fun _ => e.mpr (Nat.zero_le _)⟩)
  · exact fd_unN_3 hx hy W ok (fun le b12 b13 b14 b15 => H 1 _ _ _ _ _ _ _ _ _ _ _ ⟨fun z => absurd z (by decide), fun z => absurd z ok⟩)
end
section
/-! FleetDesk: the methods, one by one -/
/-- nothing is booked -/
def fd_K0 (x y : Nat) (s : St2) : Prop := match s with
  | (f0, f1, f2, f3, f4, f5, a1, a2, a3, a4, a5, a6, a7, a8, a9, a10, a11, a12, a13, a14, a15, a16, a17) => f0 = 2 ∧ f1 = 0 ∧ fd_St x y a5
/-- booking 0 stands -/
def fd_K1 (x y pk t bk u : Nat) (s : St2) : Prop := match s with
  | (f0, f1, f2, f3, f4, f5, a1, a2, a3, a4, a5, a6, a7, a8, a9, a10, a11, a12, a13, a14, a15, a16, a17) => f0 = 2 ∧ f1 = 1 ∧ fd_St x y a5 ∧ a1 0 = nI pk ∧ a2 0 = nI t ∧ a3 0 = nI bk ∧ a4 0 = nI u
def fd_N (s : St2) : Prop := match s with
  | (f0, f1, f2, f3, f4, f5, a1, a2, a3, a4, a5, a6, a7, a8, a9, a10, a11, a12, a13, a14, a15, a16, a17) => f5 = 0
def fd_P (p r : Nat) (s : St2) : Prop := match s with
  | (f0, f1, f2, f3, f4, f5, a1, a2, a3, a4, a5, a6, a7, a8, a9, a10, a11, a12, a13, a14, a15, a16, a17) => f5 = 1 ∧ a16 0 = nI p ∧ a17 0 = nI r
theorem fd_K0i {f2 f3 f4 f5 : Int32} {a1 a2 a3 a4 a5 a6 a7 a8 a9 a10 a11 a12 a13 a14 a15 a16 a17 : Nat → Int32} {x y : Nat} (hs : fd_St x y a5) : fd_K0 x y (2, 0, f2, f3, f4, f5, a1, a2, a3, a4, a5, a6, a7, a8, a9, a10, a11, a12, a13, a14, a15, a16, a17) := And.intro rfl (And.intro rfl hs)
theorem fd_K1i {f2 f3 f4 f5 : Int32} {a1 a2 a3 a4 a5 a6 a7 a8 a9 a10 a11 a12 a13 a14 a15 a16 a17 : Nat → Int32} {x y pk t bk u : Nat} (hs : fd_St x y a5) (h1 : a1 0 = nI pk) (h2 : a2 0 = nI t) (h3 : a3 0 = nI bk) (h4 : a4 0 = nI u) : fd_K1 x y pk t bk u (2, 1, f2, f3, f4, f5, a1, a2, a3, a4, a5, a6, a7, a8, a9, a10, a11, a12, a13, a14, a15, a16, a17) :=
  And.intro rfl (And.intro rfl (And.intro hs (And.intro h1 (And.intro h2 (And.intro h3 h4)))))
theorem fd_Ni {f0 f1 f2 f3 f4 : Int32} {a1 a2 a3 a4 a5 a6 a7 a8 a9 a10 a11 a12 a13 a14 a15 a16 a17 : Nat → Int32} : fd_N (f0, f1, f2, f3, f4, 0, a1, a2, a3, a4, a5, a6, a7, a8, a9, a10, a11, a12, a13, a14, a15, a16, a17) := rfl
theorem fd_Pi {f0 f1 f2 f3 f4 : Int32} {a1 a2 a3 a4 a5 a6 a7 a8 a9 a10 a11 a12 a13 a14 a15 a16 a17 : Nat → Int32} {p r : Nat} (h1 : a16 0 = nI p) (h2 : a17 0 = nI r) : fd_P p r (f0, f1, f2, f3, f4, 1, a1, a2, a3, a4, a5, a6, a7, a8, a9, a10, a11, a12, a13, a14, a15, a16, a17) := And.intro rfl (And.intro h1 h2)
def fd_good (p0 p1 p2 p3 : Int32) : Prop := ¬ p0 < 1 ∧ ¬ 15 < p0 ∧ ¬ p2 < 1 ∧ ¬ 15 < p2 ∧ ¬ p1 < 0 ∧ ¬ p3 ≤ p1 ∧ ¬ 8 < p3
theorem fd_args {post : Int32 → Prop} {p0 p1 p2 p3 : Int32} (h1 : fd_good p0 p1 p2 p3 → post 1) (h0 : ¬ fd_good p0 p1 p2 p3 → post 0) : wpX_argumentsOk post () p0 p1 p2 p3 := by
  unfold wpX_argumentsOk
  have E : ¬ fd_good p0 p1 p2 p3 → wX_argumentsOk_26 post p1 p3 := fun h => br_t rfl (h0 h)
  exact br_c (fun z => E (fun t => t.1 z)) (fun z1 => br_c (fun z => E (fun t => t.2.1 z)) (fun z2 => br_c (fun z => E (fun t => t.2.2.1 z)) (fun z3 => br_c (fun z => E (fun t => t.2.2.2.1 z)) (fun z4 =>
    br_f (by decide) (br_c (fun z => h0 (fun t => t.2.2.2.2.1 z)) (fun z5 => br_c (fun z => h0 (fun t => t.2.2.2.2.2.1 z)) (fun z6 => br_c (fun z => h0 (fun t => t.2.2.2.2.2.2 z)) (fun z7 => h1 ⟨z1, z2, z3, z4, z5, z6, z7⟩))))))))
theorem fd_feas {post : Int32 → St2 → Prop} {f2 f3 f4 f5 : Int32} {a1 a2 a3 a4 a5 a6 a7 a8 a9 a10 a11 a12 a13 a14 a15 a16 a17 : Nat → Int32} {x y pk t bk u : Nat} (hs : fd_St x y a5) (ha : fd_Ar pk t bk u) (h1 : a1 0 = nI pk) (h2 : a2 0 = nI t) (h3 : a3 0 = nI bk) (h4 : a4 0 = nI u)
    (HY : fd_ok x y pk → ∀ (c2 c3 c4 : Int32) (b6 b7 b8 b9 b10 b11 b12 b13 b14 b15 : Nat → Int32), post 1 (2, 1, c2, c3, c4, f5, a1, a2, a3, a4, a5, b6, b7, b8, b9, b10, b11, b12, b13, b14, b15, a16, a17))
    (HN : ¬ fd_ok x y pk → ∀ (c2 c3 c4 : Int32) (b6 b7 b8 b9 b10 b11 b12 b13 b14 b15 : Nat → Int32), post 0 (2, 1, c2, c3, c4, f5, a1, a2, a3, a4, a5, b6, b7, b8, b9, b10, b11, b12, b13, b14, b15, a16, a17)) :
    wpX_feasible post (2, 1, f2, f3, f4, f5, a1, a2, a3, a4, a5, a6, a7, a8, a9, a10, a11, a12, a13, a14, a15, a16, a17) := by
  unfold wpX_feasible
  have hp := ha.1
  have hb := ha.2.1
  refine fd_askP (fun b6 b7 e6 e7 => ?_)
  rw [h1, fd_nb (by omega)] at e6
  rw [h3, fd_nb (by omega)] at e7
  exact fd_miss hs ha e6 h2 e7 h4 (fun r c2 c3 c4 b8 b9 b10 b11 b12 b13 b14 b15 e => br_c (fun z => HY (e.mp z) _ _ _ _ _ _ _ _ _ _ _ _ _) (fun z => HN (fun t => z (e.mpr t)) _ _ _ _ _ _ _ _ _ _ _ _ _))
theorem fd_put {post : St2 → Prop} {f0 f1 f2 f3 f4 f5 : Int32} {a1 a2 a3 a4 a5 a6 a7 a8 a9 a10 a11 a12 a13 a14 a15 a16 a17 : Nat → Int32} {pk t bk u : Nat} (ha : fd_Ar pk t bk u)
    (H : ∀ b1 b2 b3 b4 : Nat → Int32, b1 0 = nI pk → b2 0 = nI t → b3 0 = nI bk → b4 0 = nI u → post (f0, f1, f2, f3, f4, f5, b1, b2, b3, b4, a5, a6, a7, a8, a9, a10, a11, a12, a13, a14, a15, a16, a17)) : wpX_put post (f0, f1, f2, f3, f4, f5, a1, a2, a3, a4, a5, a6, a7, a8, a9, a10, a11, a12, a13, a14, a15, a16, a17) 0 (nI pk) (nI t) (nI bk) (nI u) := by
  unfold wpX_put
  obtain ⟨hp, hb, ht, hu⟩ := ha
  have E : ∀ (f : Nat → Int32) (n : Nat), n < 128 → upd f (0 : Int32).toNatClampNeg (nI n).toInt8.toInt32 0 = nI n := fun f n hn => by
    rw [sb_cl0, pk_us, fd_b8 n hn]
  exact ⟨pk_in 0 8 (by omega), nm_e ⟨pk_in 0 8 (by omega), nm_e ⟨pk_in 0 8 (by omega), nm_e ⟨pk_in 0 8 (by omega), nm_e (H _ _ _ _ (E _ _ (by omega)) (E _ _ (by omega)) (E _ _ (by omega)) (E _ _ (by omega)))⟩⟩⟩⟩
/-- bad arguments: nothing changes -/
theorem fd_bookB {post : Int32 → St2 → Prop} {s : St2} {p0 p1 p2 p3 : Int32} (hb : ¬ fd_good p0 p1 p2 p3) (H : post (-1) s) : wpX_book post s p0 p1 p2 p3 := by
  obtain ⟨f0, f1, f2, f3, f4, f5, a1, a2, a3, a4, a5, a6, a7, a8, a9, a10, a11, a12, a13, a14, a15, a16, a17⟩ := s
  unfold wpX_book
  dsimp only
  unfold wpX_probe
  exact fd_args (fun z => absurd z hb) (fun _ => br_t rfl (br_t (by decide) H))
theorem fd_book {post : Int32 → St2 → Prop} {s : St2} {x y pk t bk u : Nat} (hK : fd_K0 x y s) (ha : fd_Ar pk t bk u) (hg : fd_good (nI pk) (nI t) (nI bk) (nI u))
    (HY : fd_ok x y pk → ∀ s', fd_K1 x y pk t bk u s' → fd_N s' → post 0 s') (HN : ¬ fd_ok x y pk → ∀ s', fd_K0 x y s' → post (-3) s') :
    wpX_book post s (nI pk) (nI t) (nI bk) (nI u) := by
  obtain ⟨f0, f1, f2, f3, f4, f5, a1, a2, a3, a4, a5, a6, a7, a8, a9, a10, a11, a12, a13, a14, a15, a16, a17⟩ := s
  obtain ⟨rfl, rfl, hs⟩ := hK
  unfold wpX_book
  dsimp only
  unfold wpX_probe
  refine fd_args (fun _ => br_f (by decide) ?_) (fun z => absurd hg z)
  unfold wpX_freeNumber
  refine ⟨0 + 1, br_f (by decide) (br_t (by decide) (br_t (by decide) ?_))⟩
  refine fd_put ha (fun b1 b2 b3 b4 e1 e2 e3 e4 => nm_r (e' := 1) (by decide) ?_)
  refine fd_feas hs ha e1 e2 e3 e4 (fun ok c2 c3 c4 b6 b7 b8 b9 b10 b11 b12 b13 b14 b15 => nm_r (e' := 0) (by decide) (br_f (by decide) (br_f (by decide) (nm_r (e' := 1) (show (0 : Int32) ||| ((1 : Int32) <<< ((0 : Int32) &&& 31)) = 1 by decide) ?_)))) (fun no c2 c3 c4 b6 b7 b8 b9 b10 b11 b12 b13 b14 b15 => nm_r (e' := 0) (by decide) (br_t rfl (br_t (by decide) ?_)))
  · exact HY ok _ (fd_K1i hs e1 e2 e3 e4) fd_Ni
  · exact HN no _ (fd_K0i hs)
theorem fd_holds0 {post : Int32 → Prop} {s : St2} {x y : Nat} (hK : fd_K0 x y s) (H : post 0) : wpX_holds post s 0 := by
  obtain ⟨f0, f1, f2, f3, f4, f5, a1, a2, a3, a4, a5, a6, a7, a8, a9, a10, a11, a12, a13, a14, a15, a16, a17⟩ := s
  obtain ⟨rfl, rfl, hs⟩ := hK
  unfold wpX_holds
  exact br_f (by decide) (br_f (by decide) (br_t (by decide) H))
theorem fd_holds1 {post : Int32 → Prop} {s : St2} {x y pk t bk u : Nat} (hK : fd_K1 x y pk t bk u s) (H : post 1) : wpX_holds post s 0 := by
  obtain ⟨f0, f1, f2, f3, f4, f5, a1, a2, a3, a4, a5, a6, a7, a8, a9, a10, a11, a12, a13, a14, a15, a16, a17⟩ := s
  obtain ⟨rfl, rfl, hs⟩ := hK
  unfold wpX_holds
  exact br_f (by decide) (br_f (by decide) (br_f (by decide) H))
theorem fd_bit : ∀ s, s < 4 → ∀ p, p < 16 → (((nI p >>> (nI s &&& 31)) &&& 1) = 0 ↔ p / 2 ^ s % 2 = 0) := by decide +kernel
theorem fd_pow : ∀ s, s < 4 → ((1 : Int32) <<< (nI s &&& 31)).toInt8.toInt32 = nI (2 ^ s) ∧ 2 ^ s < 16 := by decide +kernel
/-- one station tried for the pickup -/
theorem fd_np {post : Int32 → St2 → Prop} {f2 f3 f4 f5 : Int32} {a1 a2 a3 a4 a5 a6 a7 a8 a9 a10 a11 a12 a13 a14 a15 a16 a17 : Nat → Int32} {x y pk t bk u n s : Nat} (hx : s < 4) (hs : fd_St x y a5) (ha : fd_Ar pk t bk u) (h2 : a2 0 = nI t) (h7 : a7 0 = nI bk) (h4 : a4 0 = nI u)
    (HY : pk / 2 ^ s % 2 = 1 → fd_ok x y (2 ^ s) → ∀ (c2 c3 c4 : Int32) (b6 b8 b9 b10 b11 b12 b13 b14 b15 : Nat → Int32), b6 0 = nI (2 ^ s) → post (nI s) (2, 1, c2, c3, c4, f5, a1, a2, a3, a4, a5, b6, a7, b8, b9, b10, b11, b12, b13, b14, b15, a16, a17))
    (HN : ¬ (pk / 2 ^ s % 2 = 1 ∧ fd_ok x y (2 ^ s)) → ∀ (c2 c3 c4 : Int32) (b6 b8 b9 b10 b11 b12 b13 b14 b15 : Nat → Int32), wX_narrowPick_9 post 0 (nI pk) n (nI (s + 1)) 2 1 c2 c3 c4 f5 a1 a2 a3 a4 a5 b6 a7 b8 b9 b10 b11 b12 b13 b14 b15 a16 a17) :
    wX_narrowPick_9 post 0 (nI pk) (n + 1) (nI s) 2 1 f2 f3 f4 f5 a1 a2 a3 a4 a5 a6 a7 a8 a9 a10 a11 a12 a13 a14 a15 a16 a17 := by
  refine br_f (nI_ge (b := 4) hx (by decide)) (ek_if (fd_bit s hx pk ha.1) (fun z => nm_r (nI_1 s) (HN (fun t => by omega) _ _ _ _ _ _ _ _ _ _ _ _)) (fun z => ⟨pk_in 0 8 (by omega), nm_r (e' := upd a6 0 (nI (2 ^ s))) (fd_upd sb_cl0 (fd_pow s hx).1) ?_⟩))
  refine fd_miss_2 (pk := 2 ^ s) hs ⟨(fd_pow s hx).2, ha.2⟩ pk_us h2 h7 h4 (fun r c2 c3 c4 b8 b9 b10 b11 b12 b13 b14 b15 e => br_c (fun h => HY (by omega) (e.mp h) _ _ _ _ _ _ _ _ _ _ _ _ pk_us) (fun h => nm_r (nI_1 s) (HN (fun t => h (e.mpr t.2)) _ _ _ _ _ _ _ _ _ _ _ _)))
theorem fd_nPick {post : Int32 → St2 → Prop} {f2 f3 f4 f5 : Int32} {a1 a2 a3 a4 a5 a6 a7 a8 a9 a10 a11 a12 a13 a14 a15 a16 a17 : Nat → Int32} {x y pk t bk u : Nat} (hs : fd_St x y a5) (ha : fd_Ar pk t bk u) (ok : fd_ok x y pk) (h6 : a6 0 = nI pk) (h2 : a2 0 = nI t) (h7 : a7 0 = nI bk) (h4 : a4 0 = nI u)
    (H : ∀ (q : Nat) (c2 c3 c4 : Int32) (b6 b8 b9 b10 b11 b12 b13 b14 b15 : Nat → Int32), q < 16 → fd_ok x y q → b6 0 = nI q → post (nI (fd_fo x pk)) (2, 1, c2, c3, c4, f5, a1, a2, a3, a4, a5, b6, a7, b8, b9, b10, b11, b12, b13, b14, b15, a16, a17)) :
    wpX_narrowPick post (2, 1, f2, f3, f4, f5, a1, a2, a3, a4, a5, a6, a7, a8, a9, a10, a11, a12, a13, a14, a15, a16, a17) 0 := by
  unfold wpX_narrowPick
  unfold fd_fo at H
  have ok' := ok
  unfold fd_ok at ok'
  refine ⟨pk_in 0 8 (by omega), nm_r (e' := nI pk) (by rw [sb_cl0, h6]) ⟨0 + 1 + 1, fd_np (s := 0) (by omega) hs ha h2 h7 h4 (fun z o c2 c3 c4 b6 b8 b9 b10 b11 b12 b13 b14 b15 e => ?_) (fun z c2 c3 c4 b6 b8 b9 b10 b11 b12 b13 b14 b15 => ?_)⟩⟩
  · have hc : pk % 2 = 1 ∧ 0 < x := by
      unfold fd_ok at o
      omega
    rw [if_pos hc] at H
    exact H _ _ _ _ _ _ _ _ _ _ _ _ _ (by decide) o e
  · have hc : ¬ (pk % 2 = 1 ∧ 0 < x) := fun t => z ⟨by omega, Or.inl ⟨rfl, t.2⟩⟩
    rw [if_neg hc] at H
    refine fd_np (s := 1) (by omega) hs ha h2 h7 h4 (fun z o d2 d3 d4 d6 d8 d9 d10 d11 d12 d13 d14 d15 e => H _ _ _ _ _ _ _ _ _ _ _ _ _ (by decide) o e) (fun z => absurd ?_ z)
    exact ⟨by omega, Or.inr ⟨rfl, by omega⟩⟩
/-- the least station of a set -/
def fd_lb (b : Nat) : Nat := if b % 2 = 1 then 0 else if b / 2 % 2 = 1 then 1 else if b / 4 % 2 = 1 then 2 else 3
theorem fd_lbs : ∀ b, b < 16 → 0 < b → fd_lb b < 4 ∧ b / 2 ^ fd_lb b % 2 ≠ 0 ∧ ∀ s, s < fd_lb b → b / 2 ^ s % 2 = 0 := by decide +kernel
theorem fd_nBack {post : Int32 → St2 → Prop} {f2 f3 f4 f5 : Int32} {a1 a2 a3 a4 a5 a6 a7 a8 a9 a10 a11 a12 a13 a14 a15 a16 a17 : Nat → Int32} {x y pk t bk u : Nat} (hs : fd_St x y a5) (ha : fd_Ar pk t bk u) (hb : 0 < bk) (ok : fd_ok x y pk) (h6 : a6 0 = nI pk) (h2 : a2 0 = nI t) (h7 : a7 0 = nI bk) (h4 : a4 0 = nI u)
    (H : ∀ (c2 c3 c4 : Int32) (b7 b8 b9 b10 b11 b12 b13 b14 b15 : Nat → Int32), post (nI (fd_lb bk)) (2, 1, c2, c3, c4, f5, a1, a2, a3, a4, a5, a6, b7, b8, b9, b10, b11, b12, b13, b14, b15, a16, a17)) :
    wpX_narrowBack post (2, 1, f2, f3, f4, f5, a1, a2, a3, a4, a5, a6, a7, a8, a9, a10, a11, a12, a13, a14, a15, a16, a17) 0 := by
  unfold wpX_narrowBack
  obtain ⟨l1, l2, l3⟩ := fd_lbs bk ha.2.1 hb
  refine ⟨pk_in 0 8 (by omega), nm_r (e' := nI bk) (by rw [sb_cl0, h7]) ?_⟩
  refine pk_loop (σ := Unit) (fun n s _ => wX_narrowBack_9 post 0 (nI bk) n (nI s) 2 1 f2 f3 f4 f5 a1 a2 a3 a4 a5 a6 a7 a8 a9 a10 a11 a12 a13 a14 a15 a16 a17) (fun _ _ => True) (fd_lb bk) 0 () (by omega) trivial ?_ ?_
  · intro n _ _
    refine br_f (nI_ge (b := 4) l1 (by decide)) (ek_if (fd_bit _ l1 bk ha.2.1) (fun z => absurd z l2) (fun z => ⟨pk_in 0 8 (by omega), nm_r (e' := upd a7 0 (nI (2 ^ fd_lb bk))) (fd_upd sb_cl0 (fd_pow _ l1).1) ?_⟩))
    exact fd_miss_3 (bk := 2 ^ fd_lb bk) hs ⟨ha.1, (fd_pow _ l1).2, ha.2.2⟩ h6 h2 pk_us h4 (fun r c2 c3 c4 b8 b9 b10 b11 b12 b13 b14 b15 e => br_t (e.mpr ok) (H _ _ _ _ _ _ _ _ _ _ _ _))
  · intro n s _ hl _ hw
    exact br_f (nI_ge (b := 4) (by omega) (by decide)) (ek_if (fd_bit s (by omega) bk ha.2.1) (fun z => nm_r (nI_1 s) (hw () trivial)) (fun z => absurd (l3 s hl) z))
theorem fd_lb_lt (b : Nat) : fd_lb b < 128 := by
  unfold fd_lb
  repeat' split
  all_goals omega
theorem fd_fo_lt (x pk : Nat) : fd_fo x pk ≤ 1 := by
  unfold fd_fo
  split
  all_goals omega
theorem fd_plan {post : St2 → Prop} {s : St2} {x y pk t bk u : Nat} (hK : fd_K1 x y pk t bk u s) (hN : fd_N s) (ha : fd_Ar pk t bk u) (hb : 0 < bk) (ok : fd_ok x y pk)
    (H : ∀ s', fd_K1 x y pk t bk u s' → fd_P (fd_fo x pk) (fd_lb bk) s' → post s') : wpX_plan post s := by
  obtain ⟨f0, f1, f2, f3, f4, f5, a1, a2, a3, a4, a5, a6, a7, a8, a9, a10, a11, a12, a13, a14, a15, a16, a17⟩ := s
  obtain ⟨rfl, rfl, hs, h1, h2, h3, h4⟩ := hK
  have hp16 := ha.1
  have hb16 := ha.2.1
  have hfo := fd_fo_lt x pk
  have hlb := fd_lb_lt bk
  unfold wpX_plan
  refine br_t hN (fd_askP (fun b6 b7 e6 e7 => ?_))
  rw [h1, fd_nb (by omega)] at e6
  rw [h3, fd_nb (by omega)] at e7
  refine ⟨0 + 1 + 1 + 1, br_f (by decide) (br_f (by decide) ?_)⟩
  refine fd_nPick hs ha ok e6 h2 e7 h4 (fun q c2 c3 c4 b6 b8 b9 b10 b11 b12 b13 b14 b15 hq okq e6 => ⟨pk_in 0 8 (by omega), nm_r (e' := upd a16 0 (nI (fd_fo x pk))) (fd_upd sb_cl0 (fd_b8 _ (by omega))) ?_⟩)
  refine fd_nBack hs ⟨hq, ha.2⟩ hb okq e6 h2 e7 h4 (fun c2 c3 c4 b7 b8 b9 b10 b11 b12 b13 b14 b15 => ⟨pk_in 0 8 (by omega), nm_r (e' := upd a17 0 (nI (fd_lb bk))) (fd_upd sb_cl0 (fd_b8 _ hlb)) ?_⟩)
  exact nm_r fd_01 (br_f (by decide) (br_t (by decide) (nm_r fd_12 (br_t (by decide) (H _ (fd_K1i hs h1 h2 h3 h4) (fd_Pi pk_us pk_us))))))
theorem fd_pick0 {post : Int32 → St2 → Prop} {s : St2} {x y : Nat} (hK : fd_K0 x y s) (H : post (-1) s) : wpX_pickupOf post s 0 := by
  obtain ⟨f0, f1, f2, f3, f4, f5, a1, a2, a3, a4, a5, a6, a7, a8, a9, a10, a11, a12, a13, a14, a15, a16, a17⟩ := s
  unfold wpX_pickupOf
  exact fd_holds0 hK (br_t rfl H)
theorem fd_ret0 {post : Int32 → St2 → Prop} {s : St2} {x y : Nat} (hK : fd_K0 x y s) (H : post (-1) s) : wpX_returnOf post s 0 := by
  obtain ⟨f0, f1, f2, f3, f4, f5, a1, a2, a3, a4, a5, a6, a7, a8, a9, a10, a11, a12, a13, a14, a15, a16, a17⟩ := s
  unfold wpX_returnOf
  exact fd_holds0 hK (br_t rfl H)
theorem fd_pick1 {post : Int32 → St2 → Prop} {s : St2} {x y pk t bk u : Nat} (hK : fd_K1 x y pk t bk u s) (hN : fd_N s) (ha : fd_Ar pk t bk u) (hb : 0 < bk) (ok : fd_ok x y pk)
    (H : ∀ s', fd_K1 x y pk t bk u s' → fd_P (fd_fo x pk) (fd_lb bk) s' → post (nI (fd_fo x pk)) s') : wpX_pickupOf post s 0 := by
  obtain ⟨f0, f1, f2, f3, f4, f5, a1, a2, a3, a4, a5, a6, a7, a8, a9, a10, a11, a12, a13, a14, a15, a16, a17⟩ := s
  unfold wpX_pickupOf
  refine fd_holds1 hK (br_f (by decide) (fd_plan hK hN ha hb ok (fun s' k1 p1 => ?_)))
  have h := H s' k1 p1
  obtain ⟨f0, f1, f2, f3, f4, f5, a1, a2, a3, a4, a5, a6, a7, a8, a9, a10, a11, a12, a13, a14, a15, a16, a17⟩ := s'
  refine ⟨pk_in 0 8 (by omega), ?_⟩
  rw [sb_cl0, p1.2.1]
  exact h
theorem fd_ret1 {post : Int32 → St2 → Prop} {s : St2} {x y pk t bk u p r : Nat} (hK : fd_K1 x y pk t bk u s) (hP : fd_P p r s)
    (H : post (nI r) s) : wpX_returnOf post s 0 := by
  obtain ⟨f0, f1, f2, f3, f4, f5, a1, a2, a3, a4, a5, a6, a7, a8, a9, a10, a11, a12, a13, a14, a15, a16, a17⟩ := s
  unfold wpX_returnOf
  refine fd_holds1 hK (br_f (by decide) ?_)
  unfold wpX_plan
  refine br_f (by rw [hP.1]; decide) ⟨pk_in 0 8 (by omega), ?_⟩
  rw [sb_cl0, hP.2.2]
  exact H
theorem fd_cp0 {post : Int32 → St2 → Prop} {s : St2} {x y : Nat} (hK : fd_K0 x y s) (H : post 0 s) : wpX_couldPick post s 0 1 := by
  obtain ⟨f0, f1, f2, f3, f4, f5, a1, a2, a3, a4, a5, a6, a7, a8, a9, a10, a11, a12, a13, a14, a15, a16, a17⟩ := s
  unfold wpX_couldPick
  exact fd_holds0 hK (br_t rfl H)
theorem fd_cr0 {post : Int32 → St2 → Prop} {s : St2} {x y : Nat} (hK : fd_K0 x y s) (H : post 0 s) : wpX_couldReturn post s 0 1 := by
  obtain ⟨f0, f1, f2, f3, f4, f5, a1, a2, a3, a4, a5, a6, a7, a8, a9, a10, a11, a12, a13, a14, a15, a16, a17⟩ := s
  unfold wpX_couldReturn
  exact fd_holds0 hK (br_t rfl H)
def fd_cp (y pk : Nat) : Int32 := if pk / 2 % 2 = 1 ∧ 0 < y then 1 else 0
def fd_cr (bk : Nat) : Int32 := if bk / 2 % 2 = 1 then 1 else 0
theorem fd_bit1 : ∀ p, p < 16 → (((nI p >>> ((1 : Int32) &&& 31)) &&& 1) = 0 ↔ p / 2 % 2 = 0) := by decide +kernel
theorem fd_pow1 : ((1 : Int32) <<< ((1 : Int32) &&& 31)).toInt8.toInt32 = nI 2 := by decide
theorem fd_cp1 {post : Int32 → St2 → Prop} {s : St2} {x y pk t bk u : Nat} (hK : fd_K1 x y pk t bk u s) (ha : fd_Ar pk t bk u)
    (H : ∀ s', fd_K1 x y pk t bk u s' → post (fd_cp y pk) s') : wpX_couldPick post s 0 1 := by
  obtain ⟨f0, f1, f2, f3, f4, f5, a1, a2, a3, a4, a5, a6, a7, a8, a9, a10, a11, a12, a13, a14, a15, a16, a17⟩ := s
  unfold wpX_couldPick
  refine fd_holds1 hK (br_f (by decide) (br_f (by decide) (br_f (by decide) ⟨pk_in 0 8 (by omega), ?_⟩)))
  have K := hK
  obtain ⟨rfl, rfl, hs, h1, h2, h3, h4⟩ := hK
  have hp16 := ha.1
  have hb16 := ha.2.1
  rw [sb_cl0, h1]
  unfold fd_cp at H
  refine ek_if (fd_bit1 pk ha.1) (fun z => ?_) (fun z => ?_)
  · rw [if_neg (by omega)] at H
    exact H _ K
  · refine fd_askP (fun b6 b7 e6 e7 => ⟨pk_in 0 8 (by omega), nm_r (e' := upd b6 0 (nI 2)) (fd_upd rfl fd_pow1) ?_⟩)
    rw [h3, fd_nb (by omega)] at e7
    refine fd_miss (pk := 2) hs ⟨by omega, ha.2⟩ pk_us h2 e7 h4 (fun r c2 c3 c4 b8 b9 b10 b11 b12 b13 b14 b15 e => br_c (fun h => ?_) (fun h => ?_))
    · have o := e.mp h
      unfold fd_ok at o
      rw [if_pos (by omega)] at H
      exact H _ (fd_K1i hs h1 h2 h3 h4)
    · have o : ¬ fd_ok x y 2 := fun t => h (e.mpr t)
      unfold fd_ok at o
      rw [if_neg (by omega)] at H
      exact H _ (fd_K1i hs h1 h2 h3 h4)
theorem fd_cr1 {post : Int32 → St2 → Prop} {s : St2} {x y pk t bk u : Nat} (hK : fd_K1 x y pk t bk u s) (ha : fd_Ar pk t bk u) (ok : fd_ok x y pk)
    (H : ∀ s', post (fd_cr bk) s') : wpX_couldReturn post s 0 1 := by
  obtain ⟨f0, f1, f2, f3, f4, f5, a1, a2, a3, a4, a5, a6, a7, a8, a9, a10, a11, a12, a13, a14, a15, a16, a17⟩ := s
  unfold wpX_couldReturn
  refine fd_holds1 hK (br_f (by decide) (br_f (by decide) (br_f (by decide) ⟨pk_in 0 8 (by omega), ?_⟩)))
  obtain ⟨rfl, rfl, hs, h1, h2, h3, h4⟩ := hK
  have hp16 := ha.1
  have hb16 := ha.2.1
  rw [sb_cl0, h3]
  unfold fd_cr at H
  refine ek_if (fd_bit1 bk ha.2.1) (fun z => ?_) (fun z => ?_)
  · rw [if_neg (by omega)] at H
    exact H _
  · rw [if_pos (by omega)] at H
    refine fd_askP (fun b6 b7 e6 e7 => ⟨pk_in 0 8 (by omega), nm_r (e' := upd b7 0 (nI 2)) (fd_upd rfl fd_pow1) ?_⟩)
    rw [h1, fd_nb (by omega)] at e6
    exact fd_miss (bk := 2) hs ⟨ha.1, by omega, ha.2.2⟩ e6 h2 pk_us h4 (fun r c2 c3 c4 b8 b9 b10 b11 b12 b13 b14 b15 e => br_t (e.mpr ok) (H _))
end
section
/-! FleetDesk: spare -/
theorem fd_sp52 {post : Int32 → St2 → Prop} {J : Int32 → Int32 → Int32 → Int32 → Int32 → Int32 → Int32 → Int32 → Int32 → (Nat → Int32) → (Nat → Int32) → (Nat → Int32) → (Nat → Int32) → (Nat → Int32) → (Nat → Int32) → (Nat → Int32) → (Nat → Int32) → (Nat → Int32) → (Nat → Int32) → (Nat → Int32) → (Nat → Int32) → (Nat → Int32) → (Nat → Int32) → (Nat → Int32) → (Nat → Int32) → (Nat → Int32) → Prop} {f0 f1 f3 f4 f5 : Int32} {a1 a2 a3 a4 a5 a6 a7 a8 a9 a10 a11 a12 a13 a14 a15 a16 a17 : Nat → Int32} {c k T : Nat} {x3 : Int32} {Z : Prop} (hT : c + k = T) (hk : T ≤ 24)
    (HU : ∀ b8 b9 : Nat → Int32, (∀ i, i < c → b8 i = a8 i ∧ b9 i = a9 i) → (∀ i, c ≤ i → i < T → b8 i = nI 2 ∧ b9 i = nI 4) → ∀ ψ : Int32 → St2 → Prop, (∀ (r le : Int32) (b12 b13 b14 b15 : Nat → Int32), (r = 0 ↔ Z) → ψ r (f0, f1, nI T, f3, le, f5, a1, a2, a3, a4, a5, a6, a7, b8, b9, a10, a11, b12, b13, b14, b15, a16, a17)) → wpX_unmatched ψ (f0, f1, nI T, f3, f4, f5, a1, a2, a3, a4, a5, a6, a7, b8, b9, a10, a11, a12, a13, a14, a15, a16, a17))
    (HY : Z → ∀ (le : Int32) (b8 b9 b12 b13 b14 b15 : Nat → Int32), J (nI k) 1 (nI (k + 1)) f0 f1 (nI T) f3 le f5 a1 a2 a3 a4 a5 a6 a7 b8 b9 a10 a11 b12 b13 b14 b15 a16 a17)
    (HN : ¬ Z → ∀ (le : Int32) (b8 b9 b12 b13 b14 b15 : Nat → Int32), J x3 0 (nI (k + 1)) f0 f1 (nI T) f3 le f5 a1 a2 a3 a4 a5 a6 a7 b8 b9 a10 a11 b12 b13 b14 b15 a16 a17) :
    ∃ n, wX_spare_52 post J 1 4 x3 (nI k) n 0 f0 f1 (nI c) f3 f4 f5 a1 a2 a3 a4 a5 a6 a7 a8 a9 a10 a11 a12 a13 a14 a15 a16 a17 := by
  subst hT
  refine pk_loop (σ := (Nat → Int32) × (Nat → Int32)) (fun n q s => wX_spare_52 post J 1 4 x3 (nI k) n (nI q) f0 f1 (nI (c + q)) f3 f4 f5 a1 a2 a3 a4 a5 a6 a7 s.1 s.2 a10 a11 a12 a13 a14 a15 a16 a17) (fun q s => (∀ i, i < c → s.1 i = a8 i ∧ s.2 i = a9 i) ∧ (∀ i, c ≤ i → i < c + q → s.1 i = nI 2 ∧ s.2 i = nI 4)) k 0 (a8, a9) (by omega) ⟨fun i _ => ⟨rfl, rfl⟩, fun i h1 h2 => absurd h1 (by omega)⟩ ?_ ?_
  · intro n s hs
    exact pk_le k k (fun _ => HU s.1 s.2 hs.1 hs.2 _ (fun r le b12 b13 b14 b15 e => br_c (fun z => br_f (by decide) (nm_r (nI_1 k) (HY (e.mp z) _ _ _ _ _ _ _))) (fun z => br_t rfl (nm_r (nI_1 k) (HN (fun t => z (e.mpr t)) _ _ _ _ _ _ _))))) (fun z => absurd z (by omega))
  · intro n q s hq hs hw
    refine pk_le k q (fun z => absurd z (by omega)) (fun _ => fd_addT (n := c + q) (v := nI 2) (w := nI 4) (by omega) (by decide) (by decide) (nm_r (nI_1 q) (hw (upd s.1 (c + q) (nI 2), upd s.2 (c + q) (nI 4)) ⟨fun i hi => ?_, fun i h1 h2 => ?_⟩)))
    · dsimp only
      rw [pk_un (show i ≠ c + q by omega), pk_un (show i ≠ c + q by omega)]
      exact hs.1 i hi
    · dsimp only
      by_cases e : i = c + q
      · rw [e, pk_us, pk_us]
        exact ⟨rfl, rfl⟩
      · rw [pk_un e, pk_un e]
        exact hs.2 i h1 (by omega)
theorem fd_spare0 {post : Int32 → St2 → Prop} {s : St2} {x y : Nat} (hK : fd_K0 x y s)
    (H : ∀ s', fd_K0 x y s' → post (nI y) s') : wpX_spare post s 1 4 := by
  obtain ⟨f0, f1, f2, f3, f4, f5, a1, a2, a3, a4, a5, a6, a7, a8, a9, a10, a11, a12, a13, a14, a15, a16, a17⟩ := s
  obtain ⟨rfl, rfl, hs⟩ := hK
  have hx := hs.1
  have hy := hs.2.1
  unfold wpX_spare
  refine br_f (by decide) (br_f (by decide) (br_f (by decide) (br_t (by decide) ?_)))
  refine pk_loop (σ := Int32 × Int32 × Int32 × Int32 × Int32 × (Nat → Int32) × (Nat → Int32) × (Nat → Int32) × (Nat → Int32) × (Nat → Int32) × (Nat → Int32) × (Nat → Int32) × (Nat → Int32) × (Nat → Int32) × (Nat → Int32)) (fun n i s => wX_spare_29 post 1 4 n s.1 s.2.1 (nI (i + 1)) 2 0 s.2.2.1 s.2.2.2.1 s.2.2.2.2.1 f5 a1 a2 a3 a4 a5 s.2.2.2.2.2.1 s.2.2.2.2.2.2.1 s.2.2.2.2.2.2.2.1 s.2.2.2.2.2.2.2.2.1 s.2.2.2.2.2.2.2.2.2.1 s.2.2.2.2.2.2.2.2.2.2.1 s.2.2.2.2.2.2.2.2.2.2.2.1 s.2.2.2.2.2.2.2.2.2.2.2.2.1 s.2.2.2.2.2.2.2.2.2.2.2.2.2.1 s.2.2.2.2.2.2.2.2.2.2.2.2.2.2 a16 a17) (fun i s => (i ≤ y → s.1 = nI i ∧ s.2.1 = 1) ∧ (y < i → s.1 = nI y ∧ s.2.1 = 0)) (y + 1) 0 (0, 1, f2, f3, f4, a6, a7, a8, a9, a10, a11, a12, a13, a14, a15) (by omega) ⟨fun _ => ⟨rfl, rfl⟩, fun z => absurd z (by omega)⟩ ?_ ?_
  · intro n s hI
    obtain ⟨x3, x4, f2, f3, f4, a6, a7, a8, a9, a10, a11, a12, a13, a14, a15⟩ := s
    obtain ⟨e3, e4⟩ := hI.2 (by omega)
    dsimp only at e3 e4
    subst e3 e4
    have E : post (nI y) (2, 0, f2, f3, f4, f5, a1, a2, a3, a4, a5, a6, a7, a8, a9, a10, a11, a12, a13, a14, a15, a16, a17) := H _ (fd_K0i hs)
    exact br_c (fun _ => E) (fun _ => br_t rfl E)
  · intro n i s hi hI hw
    obtain ⟨x3, x4, f2, f3, f4, a6, a7, a8, a9, a10, a11, a12, a13, a14, a15⟩ := s
    obtain ⟨e3, e4⟩ := hI.1 (by omega)
    dsimp only at e3 e4
    subst e3 e4
    refine br_f (nI_nlt (a := 17) (by omega) (by decide)) (br_f (show ¬ (1 : Int32) = 0 by decide) (fd_askP (fun b6 b7 _ _ => fd_gat0 hs (fun b10 b11 hG => ?_))))
    refine fd_sp52 (c := 0) (k := i + 1) (T := i + 1) (Z := i + 1 ≤ y) (by omega) (by omega) (fun b8 b9 _ h9 ψ hψ => fd_un0 hx hy hG (by omega) (fun j hj => h9 j (by omega) hj) hψ) (fun z le b8 b9 b12 b13 b14 b15 => ?_) (fun z le b8 b9 b12 b13 b14 b15 => ?_)
    · exact hw (nI (i + 1), 1, _, _, le, _, _, b8, b9, _, _, b12, b13, b14, b15) ⟨fun _ => ⟨rfl, rfl⟩, fun t => absurd t (by omega)⟩
    · exact hw (nI i, 0, _, _, le, _, _, b8, b9, _, _, b12, b13, b14, b15) ⟨fun t => absurd t z, fun _ => ⟨by rw [show i = y by omega], rfl⟩⟩
theorem fd_due4 {x y pk bk u : Nat} (hy : y ≤ 3) : fd_due x y pk bk u ≤ 4 := by
  have := fd_rt_le bk u
  unfold fd_due
  omega
theorem fd_spare1 {post : Int32 → St2 → Prop} {s : St2} {x y pk t bk u : Nat} (hK : fd_K1 x y pk t bk u s) (ha : fd_Ar pk t bk u) (ok : fd_ok x y pk)
    (H : ∀ s', fd_K1 x y pk t bk u s' → post (nI (fd_due x y pk bk u)) s') : wpX_spare post s 1 4 := by
  obtain ⟨f0, f1, f2, f3, f4, f5, a1, a2, a3, a4, a5, a6, a7, a8, a9, a10, a11, a12, a13, a14, a15, a16, a17⟩ := s
  obtain ⟨rfl, rfl, hs, h1, h2, h3, h4⟩ := hK
  have hx := hs.1
  have hy := hs.2.1
  obtain ⟨hp, hb, ht, hu⟩ := ha
  have hd := fd_due4 (x := x) (pk := pk) (bk := bk) (u := u) hy
  revert H hd
  generalize hD : fd_due x y pk bk u = d
  intro H hd
  unfold wpX_spare
  refine br_f (by decide) (br_f (by decide) (br_f (by decide) (br_t (by decide) ?_)))
  refine pk_loop (σ := Int32 × Int32 × Int32 × Int32 × Int32 × (Nat → Int32) × (Nat → Int32) × (Nat → Int32) × (Nat → Int32) × (Nat → Int32) × (Nat → Int32) × (Nat → Int32) × (Nat → Int32) × (Nat → Int32) × (Nat → Int32)) (fun n i s => wX_spare_29 post 1 4 n s.1 s.2.1 (nI (i + 1)) 2 1 s.2.2.1 s.2.2.2.1 s.2.2.2.2.1 f5 a1 a2 a3 a4 a5 s.2.2.2.2.2.1 s.2.2.2.2.2.2.1 s.2.2.2.2.2.2.2.1 s.2.2.2.2.2.2.2.2.1 s.2.2.2.2.2.2.2.2.2.1 s.2.2.2.2.2.2.2.2.2.2.1 s.2.2.2.2.2.2.2.2.2.2.2.1 s.2.2.2.2.2.2.2.2.2.2.2.2.1 s.2.2.2.2.2.2.2.2.2.2.2.2.2.1 s.2.2.2.2.2.2.2.2.2.2.2.2.2.2 a16 a17) (fun i s => (i ≤ d → s.1 = nI i ∧ s.2.1 = 1) ∧ (d < i → s.1 = nI d ∧ s.2.1 = 0)) (d + 1) 0 (0, 1, f2, f3, f4, a6, a7, a8, a9, a10, a11, a12, a13, a14, a15) (by omega) ⟨fun _ => ⟨rfl, rfl⟩, fun z => absurd z (by omega)⟩ ?_ ?_
  · intro n s hI
    obtain ⟨x3, x4, f2, f3, f4, a6, a7, a8, a9, a10, a11, a12, a13, a14, a15⟩ := s
    obtain ⟨e3, e4⟩ := hI.2 (by omega)
    dsimp only at e3 e4
    subst e3 e4
    have E : post (nI d) (2, 1, f2, f3, f4, f5, a1, a2, a3, a4, a5, a6, a7, a8, a9, a10, a11, a12, a13, a14, a15, a16, a17) := H _ (fd_K1i hs h1 h2 h3 h4)
    exact br_c (fun _ => E) (fun _ => br_t rfl E)
  · intro n i s hi hI hw
    obtain ⟨x3, x4, f2, f3, f4, a6, a7, a8, a9, a10, a11, a12, a13, a14, a15⟩ := s
    obtain ⟨e3, e4⟩ := hI.1 (by omega)
    dsimp only at e3 e4
    subst e3 e4
    refine br_f (nI_nlt (a := 17) (by omega) (by decide)) (br_f (show ¬ (1 : Int32) = 0 by decide) (fd_askP (fun b6 b7 e6 e7 => ?_)))
    rw [h1, fd_nb (by omega)] at e6
    rw [h3, fd_nb (by omega)] at e7
    refine fd_gat1 hs (by omega) (by omega) (by omega) (by omega) e6 h2 e7 h4 (fun b8 b9 b10 b11 e8 e9 hG e10 e11 => ?_)
    refine fd_sp52 (c := 1) (k := i + 1) (T := i + 1 + 1) (Z := i + 1 ≤ d) (by omega) (by omega) (fun c8 c9 k8 k9 ψ hψ => ?_) (fun z le b8 b9 b12 b13 b14 b15 => ?_) (fun z le b8 b9 b12 b13 b14 b15 => ?_)
    · refine fd_unY (k := i + 1) hx hy ⟨hp, hb, ht, hu, ?_, ?_, hG, e10, e11⟩ ok (by omega) (fun j h1 h2 => k9 j h1 h2) (fun r le b12 b13 b14 b15 e => hψ r le b12 b13 b14 b15 ?_)
      · rw [(k8 0 (by omega)).1, e8]
      · rw [(k8 0 (by omega)).2, e9]
      · rw [hD] at e
        exact e
    · exact hw (nI (i + 1), 1, _, _, le, _, _, b8, b9, _, _, b12, b13, b14, b15) ⟨fun _ => ⟨rfl, rfl⟩, fun t => absurd t (by omega)⟩
    · exact hw (nI i, 0, _, _, le, _, _, b8, b9, _, _, b12, b13, b14, b15) ⟨fun t => absurd t z, fun _ => ⟨by rw [show i = d by omega], rfl⟩⟩
end
section
/-! FleetDesk: the law -/
theorem fd_clamp (p : Int32) : ∃ x, x ≤ 3 ∧ ∀ post : Int32 → Prop, post (nI x) → wpX_clamp post () p := by
  by_cases h0 : 0 ≤ p
  · by_cases h3 : p ≤ 3
    · obtain ⟨j, hj, e⟩ := nI_of2 (x := p) (M := 3) (n := 3) (by decide) (fun z => Int32.not_lt.mpr h0 z) h3
      exact ⟨j, hj, fun post hp => br_t h0 (br_t h3 (by rw [e]; exact hp))⟩
    · exact ⟨3, by omega, fun post hp => br_t h0 (br_f h3 hp)⟩
  · exact ⟨0, by omega, fun post hp => br_f h0 hp⟩
theorem fd_init {post : St2 → Prop} {p0 p1 : Int32} {x y : Nat} (hx : x ≤ 3) (hy : y ≤ 3) (h0 : ∀ post : Int32 → Prop, post (nI x) → wpX_clamp post () p0) (h1 : ∀ post : Int32 → Prop, post (nI y) → wpX_clamp post () p1)
    (H : ∀ s, fd_K0 x y s → post s) : wpX_init post 17 260 (0, 0, 0, 0, 0, 0) 2 p0 p1 0 := by
  unfold wpX_init
  dsimp only
  refine ⟨by decide, by decide, by decide, by decide, by decide, by decide, by decide, by decide, by decide, by decide, by decide, by decide, by decide, by decide, by decide, by decide, by decide, by decide, by decide, by decide, by decide, by decide, by decide, by decide, by decide, by decide, by decide, by decide, by decide, by decide, by decide, by decide, by decide, by decide, br_t (by decide) (br_t (by decide) ?_)⟩
  unfold wX_init_159
  refine h0 _ (nm_e (h1 _ (nm_e (br_t (by decide) (br_t (by decide) (nm_e (H _ (fd_K0i ⟨hx, hy, ?_, ?_, ?_, ?_⟩))))))))
  · rw [pk_un (by decide), pk_un (by decide), pk_us, fd_b8 x (by omega)]
  · rw [pk_un (by decide), pk_us, fd_b8 y (by omega)]
  · rw [pk_us]
    decide
  · rw [pk_un (by decide), pk_un (by decide), pk_un (by decide)]
    rfl
theorem fd_205 {post : Int32 → St0 → Prop} {mc ms kc ks : Nat} {z y : Int32} (H : post 1 ()) : wL_lawOf_205 post mc ms (-1) (-1) y 0 0 y z z kc ks :=
  br_t rfl (br_t rfl (br_t rfl (br_t rfl (br_t rfl (br_t rfl H)))))
/-- bad arguments -/
theorem fd_fin0 {post : Int32 → St0 → Prop} {mc ms kc ks : Nat} {p0 p1 p2 p3 x y : Int32} (hb : ¬ fd_good p0 p1 p2 p3) (H : post 1 ()) :
    wL_lawOf_107 post mc ms p0 p1 p2 p3 (-1) (-1) (-1) y 0 0 x y kc ks := by
  have A : wL_lawOf_192 post mc ms (-1) (-1) (-1) y 0 0 y 0 kc ks := br_t rfl (fd_205 H)
  have B : ∀ z0 z1 : Int32, wL_lawOf_177 post mc ms p0 p2 p3 (-1) (-1) (-1) y 0 0 y 0 z0 z1 kc ks := fun z0 z1 => nm_e (br_t rfl A)
  have C : ∀ z0 : Int32, wL_lawOf_167 post mc ms p0 p2 p3 (-1) (-1) (-1) y 0 0 y 0 z0 kc ks := fun z0 => br_c (fun _ => B _ _) (fun _ => B _ _)
  have D : wL_lawOf_155 post mc ms p0 p2 p3 (-1) (-1) (-1) y 0 0 x y 0 kc ks := br_c (fun _ => C _) (fun _ => C _)
  have E : wL_lawOf_154 post mc ms p0 p2 p3 (-1) (-1) (-1) y 0 0 x y kc ks := D
  exact br_c (fun _ => E) (fun z1 => br_c (fun _ => E) (fun z2 => br_c (fun _ => E) (fun z3 => br_c (fun _ => E) (fun z4 => br_c (fun _ => E) (fun z5 => br_c (fun _ => E) (fun z6 => br_c (fun _ => E) (fun z7 => absurd ⟨z1, z2, z3, z4, z5, z6, z7⟩ hb)))))))
/-- good arguments: the way to 177 with the set of the stations in stock -/
theorem fd_fin1 {post : Int32 → St0 → Prop} {mc ms kc ks : Nat} {p0 p1 p2 p3 x7 x8 x9 x10 x11 x12 : Int32} {x y : Nat} (hx : x ≤ 3) (hy : y ≤ 3) (hg : fd_good p0 p1 p2 p3)
    (H : ∀ (z0 z1 : Int32) (f : Nat), f < 4 → z1 + z0 = nI f → (f % 2 = 1 ↔ 0 < x) → (f / 2 % 2 = 1 ↔ 0 < y) → wL_lawOf_177 post mc ms p0 p2 p3 x7 x8 x9 x10 x11 x12 (nI y) 1 z0 z1 kc ks) :
    wL_lawOf_107 post mc ms p0 p1 p2 p3 x7 x8 x9 x10 x11 x12 (nI x) (nI y) kc ks := by
  obtain ⟨z1, z2, z3, z4, z5, z6, z7⟩ := hg
  refine br_f z1 (br_f z2 (br_f z3 (br_f z4 (br_f z5 (br_f z6 (br_f z7 ?_))))))
  refine pk_le x 0 (fun ex => pk_le y 0 (fun ey => H 0 0 0 (by omega) (by decide) (by omega) (by omega)) (fun ey => H 2 0 2 (by omega) (by decide) (by omega) (by omega))) (fun ex => pk_le y 0 (fun ey => H 0 1 1 (by omega) (by decide) (by omega) (by omega)) (fun ey => H 2 1 3 (by omega) (by decide) (by omega) (by omega)))
theorem fd_and0 : ∀ p, p < 16 → ∀ f, f < 4 → ((nI p &&& nI f) = 0 ↔ ¬ ((p % 2 = 1 ∧ f % 2 = 1) ∨ (p / 2 % 2 = 1 ∧ f / 2 % 2 = 1))) := by decide +kernel
theorem fd_and2 : ∀ p, p < 16 → ∀ f, f < 4 → ((nI p &&& nI f) = 2 ↔ ¬ (p % 2 = 1 ∧ f % 2 = 1) ∧ (p / 2 % 2 = 1 ∧ f / 2 % 2 = 1)) := by decide +kernel
theorem fd_and22 : ∀ p, p < 16 → ∀ f, f < 4 → (((nI p &&& nI f) &&& 2) = 0 ↔ ¬ (p / 2 % 2 = 1 ∧ f / 2 % 2 = 1)) := by decide +kernel
theorem fd_and4 : ∀ p, p < 16 → ((nI p &&& 2) = 0 ↔ ¬ p / 2 % 2 = 1) := by decide +kernel
/-- what least answers -/
def fd_lv (v : Int32) : Int32 := if (v &&& 1) = 0 then (if (v &&& 2) = 0 then (if (v &&& 4) = 0 then (if (v &&& 8) = 0 then -1 else 3) else 2) else 1) else 0
theorem fd_least {post : Int32 → Prop} {v r : Int32} (e : fd_lv v = r) (H : post r) : wpL_least post () v := by
  unfold fd_lv at e
  unfold wpL_least
  refine br_c (fun h1 => br_c (fun h2 => br_c (fun h4 => br_c (fun h8 => ?_) (fun h8 => ?_)) (fun h4 => ?_)) (fun h2 => ?_)) (fun h1 => ?_)
  · rw [if_pos h1, if_pos h2, if_pos h4, if_pos h8] at e
    rw [e]; exact H
  · rw [if_pos h1, if_pos h2, if_pos h4, if_neg h8] at e
    rw [e]; exact H
  · rw [if_pos h1, if_pos h2, if_neg h4] at e
    rw [e]; exact H
  · rw [if_pos h1, if_neg h2] at e
    rw [e]; exact H
  · rw [if_neg h1] at e
    rw [e]; exact H
theorem fd_lv1 : ∀ p, p < 16 → ∀ f, f < 4 → ((p % 2 = 1 ∧ f % 2 = 1) ∨ (p / 2 % 2 = 1 ∧ f / 2 % 2 = 1)) → fd_lv (nI p &&& nI f) = nI (if p % 2 = 1 ∧ f % 2 = 1 then 0 else 1) := by decide +kernel
theorem fd_lv2 : ∀ b, b < 16 → 0 < b → fd_lv (nI b) = nI (fd_lb b) := by decide +kernel
/-- refused -/
theorem fd_finN {post : Int32 → St0 → Prop} {mc ms kc ks : Nat} {x y pk t bk u : Nat} (hx : x ≤ 3) (hy : y ≤ 3) (ha : fd_Ar pk t bk u) (hg : fd_good (nI pk) (nI t) (nI bk) (nI u)) (no : ¬ fd_ok x y pk) (H : post 1 ()) :
    wL_lawOf_107 post mc ms (nI pk) (nI t) (nI bk) (nI u) (-3) (-1) (-1) (nI y) 0 0 (nI x) (nI y) kc ks := by
  refine fd_fin1 hx hy hg (fun z0 z1 f hf ef e1 e2 => nm_r ef (br_f (by decide) (br_t ?_ (br_f (by decide) (fd_205 H)))))
  rw [fd_and0 pk ha.1 f hf]
  unfold fd_ok at no
  omega
/-- accepted -/
theorem fd_322 {post : Int32 → St0 → Prop} {mc ms kc ks : Nat} {x y pk bk f : Nat} {w : Int32} (hp : pk < 16) (hb : bk < 16) (hb0 : 0 < bk) (hf : f < 4) (e1 : f % 2 = 1 ↔ 0 < x) (e2 : f / 2 % 2 = 1 ↔ 0 < y) (ok : fd_ok x y pk) (H : post 1 ()) :
    wL_lawOf_322 post mc ms (nI pk) (nI bk) 0 (nI (fd_fo x pk)) (nI (fd_lb bk)) w (fd_cp y pk) (fd_cr bk) (nI f) (fd_cr bk) w kc ks := by
  unfold fd_ok at ok
  have E1 : fd_lv (nI pk &&& nI f) = nI (fd_fo x pk) := by
    rw [fd_lv1 pk hp f hf (by omega)]
    unfold fd_fo
    by_cases c : pk % 2 = 1 ∧ 0 < x
    · rw [if_pos c, if_pos (by omega)]
    · rw [if_neg c, if_neg (by omega)]
  refine br_t rfl (fd_least E1 (br_t rfl (fd_least (fd_lv2 bk hb hb0) (br_t rfl (br_t rfl ?_)))))
  refine ek_if (fd_and22 pk hp f hf) (fun z => br_t ?_ (br_t rfl H)) (fun z => br_t ?_ (br_t rfl H))
  · unfold fd_cp
    rw [if_neg (by omega)]
  · unfold fd_cp
    rw [if_pos (by omega)]
theorem fd_finY {post : Int32 → St0 → Prop} {mc ms kc ks : Nat} {x y pk t bk u : Nat} (hx : x ≤ 3) (hy : y ≤ 3) (ha : fd_Ar pk t bk u) (hb0 : 0 < bk) (hg : fd_good (nI pk) (nI t) (nI bk) (nI u)) (ok : fd_ok x y pk) (H : post 1 ()) :
    wL_lawOf_107 post mc ms (nI pk) (nI t) (nI bk) (nI u) 0 (nI (fd_fo x pk)) (nI (fd_lb bk)) (nI (fd_due x y pk bk u)) (fd_cp y pk) (fd_cr bk) (nI x) (nI y) kc ks := by
  obtain ⟨hp, hb, ht, hu⟩ := ha
  refine fd_fin1 hx hy hg (fun z0 z1 f hf ef e1 e2 => nm_r ef (br_f (by decide) (br_f ?_ ?_)))
  · rw [fd_and0 pk hp f hf]
    unfold fd_ok at ok
    omega
  have L : ∀ w, w = nI (fd_due x y pk bk u) → wL_lawOf_322 post mc ms (nI pk) (nI bk) 0 (nI (fd_fo x pk)) (nI (fd_lb bk)) (nI (fd_due x y pk bk u)) (fd_cp y pk) (fd_cr bk) (nI f) (fd_cr bk) w kc ks := fun w e => by
    rw [e]
    exact fd_322 hp hb hb0 hf e1 e2 ok H
  have M : ∀ z, z = nI (fd_fo x pk) → wL_lawOf_256 post mc ms (nI pk) (nI bk) (nI u) 0 (nI (fd_fo x pk)) (nI (fd_lb bk)) (nI (fd_due x y pk bk u)) (fd_cp y pk) (fd_cr bk) (nI y) (nI f) z kc ks := by
    intro z ez
    subst ez
    have hfo := fd_fo_lt x pk
    have hfy : fd_fo x pk ≤ y := by
      unfold fd_fo
      unfold fd_ok at ok
      by_cases c : pk % 2 = 1 ∧ 0 < x
      · rw [if_pos c]; omega
      · rw [if_neg c]; omega
    have N : ∀ q, q = fd_cr bk → wL_lawOf_270 post mc ms (nI pk) (nI bk) (nI u) 0 (nI (fd_fo x pk)) (nI (fd_lb bk)) (nI (fd_due x y pk bk u)) (fd_cp y pk) (fd_cr bk) (nI y) (nI f) (nI (fd_fo x pk)) q kc ks := by
      intro q eq
      subst eq
      unfold fd_due at L ⊢
      refine pk_lt 4 u (fun h4 => ?_) (fun h4 => ?_)
      · have er : fd_rt bk u = 0 := by
          unfold fd_rt
          rw [if_neg (by omega)]
        refine pk_eq (fd_fo x pk) 0 (fun h0 => L _ ?_) (fun h0 => nm_e (L _ ?_))
        · rw [er, h0]
          rfl
        · rw [er, show fd_fo x pk = 1 by omega]
          exact pk_sub (b := 1) (by omega)
      · have S : ∀ v, v = nI (fd_fo x pk) → wL_lawOf_294 post mc ms (nI pk) (nI bk) 0 (nI (fd_fo x pk)) (nI (fd_lb bk)) (nI (y + fd_rt bk u - fd_fo x pk)) (fd_cp y pk) (fd_cr bk) (nI f) (fd_cr bk) v (nI y) kc ks := by
          intro v ev
          subst ev
          by_cases c : bk / 2 % 2 = 1
          · have ec : fd_cr bk = 1 := by
              unfold fd_cr
              rw [if_pos c]
            have er : fd_rt bk u = 1 := by
              unfold fd_rt
              rw [if_pos ⟨h4, c⟩]
            refine br_f (by rw [ec]; decide) (nm_e (L _ ?_))
            rw [er, pk_sub hfy, nI_1]
            rw [show y - fd_fo x pk + 1 = y + 1 - fd_fo x pk by omega]
          · have ec : fd_cr bk = 0 := by
              unfold fd_cr
              rw [if_neg c]
            have er : fd_rt bk u = 0 := by
              unfold fd_rt
              rw [if_neg (by omega)]
            refine br_t ec (nm_e (L _ ?_))
            rw [er, pk_sub hfy]
            exact nI_add _ 0
        exact pk_eq (fd_fo x pk) 0 (fun h0 => S 0 (by rw [h0]; rfl)) (fun h0 => S 1 (by rw [show fd_fo x pk = 1 by omega]; rfl))
    refine ek_if (fd_and4 bk hb) (fun z => N 0 ?_) (fun z => N 1 ?_)
    · unfold fd_cr
      rw [if_neg z]
    · unfold fd_cr
      rw [if_pos (by omega)]
  have ok' := ok
  unfold fd_ok at ok'
  refine ek_if (fd_and2 pk hp f hf) (fun z => M 1 ?_) (fun z => M 0 ?_)
  · unfold fd_fo
    rw [if_neg (by omega)]
    rfl
  · unfold fd_fo
    rw [if_pos (by omega)]
    rfl
theorem fd_goodN {p0 p1 p2 p3 : Int32} (h : fd_good p0 p1 p2 p3) : ∃ pk t bk u : Nat, p0 = nI pk ∧ p1 = nI t ∧ p2 = nI bk ∧ p3 = nI u ∧ fd_Ar pk t bk u ∧ 0 < bk := by
  obtain ⟨z1, z2, z3, z4, z5, z6, z7⟩ := h
  have L1 : ∀ p : Int32, ¬ p < 1 → ¬ 15 < p → ∃ j : Nat, j < 16 ∧ 0 < j ∧ p = nI j := by
    intro p a b
    have a' : (1 : Int32) ≤ p := Int32.not_lt.mp a
    have b' : p ≤ 15 := Int32.not_lt.mp b
    have a2 : ¬ p < 0 := fun z => a (Int32.lt_trans z (by decide))
    obtain ⟨j, hj, e⟩ := nI_of2 (x := p) (M := 15) (n := 15) (by decide) a2 b'
    refine ⟨j, by omega, ?_, e⟩
    rcases Nat.eq_zero_or_pos j with z | z
    · rw [z] at e
      rw [e] at a
      exact absurd (show nI 0 < 1 by decide) a
    · exact z
  obtain ⟨pk, h1, h2, e1⟩ := L1 p0 z1 z2
  obtain ⟨bk, h3, h4, e2⟩ := L1 p2 z3 z4
  obtain ⟨t, ht, e3⟩ := nI_of z5
  have u0 : ¬ p3 < 0 := fun z => z6 (Int32.le_trans (Int32.le_of_lt z) (Int32.not_lt.mp z5))
  obtain ⟨u, hu, e4⟩ := nI_of2 (x := p3) (M := 8) (n := 8) (by decide) u0 (Int32.not_lt.mp z7)
  refine ⟨pk, t, bk, u, e1, e3, e2, e4, ⟨h1, h3, ?_, hu⟩, h4⟩
  rw [e3, e4, nI_leI (by omega) ht] at z6
  omega
theorem fd_87 {post : Int32 → St0 → Prop} {mc ms kc ks y : Nat} {b p0 p1 p2 p3 x7 x8 x9 x10 x11 x12 z0 : Int32} (cy : ∀ post : Int32 → Prop, post (nI y) → wpX_clamp post () b)
    (H : wL_lawOf_107 post mc ms p0 p1 p2 p3 x7 x8 x9 x10 x11 x12 z0 (nI y) kc ks) : wL_lawOf_87 post mc ms b p0 p1 p2 p3 x7 x8 x9 x10 x11 x12 z0 kc ks :=
  cy (fun z => wL_lawOf_107 post mc ms p0 p1 p2 p3 x7 x8 x9 x10 x11 x12 z0 z kc ks) H
theorem fd_lawOf {post : Int32 → St0 → Prop} {a b p0 p1 p2 p3 : Int32} (H : post 1 ()) : wpL_lawOf post 80 1280 () a b p0 p1 p2 p3 := by
  obtain ⟨x, hx, cx⟩ := fd_clamp a
  obtain ⟨y, hy, cy⟩ := fd_clamp b
  unfold wpL_lawOf
  refine ⟨by decide, by decide, 17, 260, by decide, by decide, fd_init hx hy cx cy (fun s hK => ?_)⟩
  obtain ⟨f0, f1, f2, f3, f4, f5, a1, a2, a3, a4, a5, a6, a7, a8, a9, a10, a11, a12, a13, a14, a15, a16, a17⟩ := s
  by_cases hg : fd_good p0 p1 p2 p3
  · obtain ⟨pk, t, bk, u, rfl, rfl, rfl, rfl, ha, hb0⟩ := fd_goodN hg
    refine fd_book hK ha hg (fun ok s k1 n1 => ?_) (fun no s k0 => ?_)
    · obtain ⟨f0, f1, f2, f3, f4, f5, a1, a2, a3, a4, a5, a6, a7, a8, a9, a10, a11, a12, a13, a14, a15, a16, a17⟩ := s
      refine fd_pick1 k1 n1 ha hb0 ok (fun s k1 p1 => ?_)
      obtain ⟨f0, f1, f2, f3, f4, f5, a1, a2, a3, a4, a5, a6, a7, a8, a9, a10, a11, a12, a13, a14, a15, a16, a17⟩ := s
      refine fd_ret1 k1 p1 (fd_spare1 k1 ha ok (fun s k1 => ?_))
      obtain ⟨f0, f1, f2, f3, f4, f5, a1, a2, a3, a4, a5, a6, a7, a8, a9, a10, a11, a12, a13, a14, a15, a16, a17⟩ := s
      refine fd_cp1 k1 ha (fun s k1 => ?_)
      obtain ⟨f0, f1, f2, f3, f4, f5, a1, a2, a3, a4, a5, a6, a7, a8, a9, a10, a11, a12, a13, a14, a15, a16, a17⟩ := s
      refine fd_cr1 k1 ha ok (fun s => ?_)
      obtain ⟨f0, f1, f2, f3, f4, f5, a1, a2, a3, a4, a5, a6, a7, a8, a9, a10, a11, a12, a13, a14, a15, a16, a17⟩ := s
      exact cx (fun z => wL_lawOf_87 post _ _ b _ _ _ _ _ _ _ _ _ _ z _ _) (fd_87 cy (fd_finY hx hy ha hb0 hg ok H))
    · obtain ⟨f0, f1, f2, f3, f4, f5, a1, a2, a3, a4, a5, a6, a7, a8, a9, a10, a11, a12, a13, a14, a15, a16, a17⟩ := s
      refine fd_pick0 k0 (fd_ret0 k0 (fd_spare0 k0 (fun s k0 => ?_)))
      obtain ⟨f0, f1, f2, f3, f4, f5, a1, a2, a3, a4, a5, a6, a7, a8, a9, a10, a11, a12, a13, a14, a15, a16, a17⟩ := s
      refine fd_cp0 k0 (fd_cr0 k0 ?_)
      exact cx (fun z => wL_lawOf_87 post _ _ b _ _ _ _ _ _ _ _ _ _ z _ _) (fd_87 cy (fd_finN hx hy ha hg no H))
  · refine fd_bookB hg (fd_pick0 hK (fd_ret0 hK (fd_spare0 hK (fun s k0 => ?_))))
    obtain ⟨f0, f1, f2, f3, f4, f5, a1, a2, a3, a4, a5, a6, a7, a8, a9, a10, a11, a12, a13, a14, a15, a16, a17⟩ := s
    refine fd_cp0 k0 (fd_cr0 k0 ?_)
    exact cx (fun z => wL_lawOf_87 post _ _ b _ _ _ _ _ _ _ _ _ _ z _ _) (fd_87 cy (fd_fin0 hg H))
theorem fd_cell {post : Int32 → Prop} {xs : Nat → Int32} {L : Nat} (hL : L ≤ 6) (q : Nat) (hq : q < 6) (H : ∀ v, post v) : wpL_cellAt post L xs () (nI q) :=
  pk_le L q (fun _ => H _) (fun z => ⟨pk_in q L z, H _⟩)
end
section
theorem i_vc (xs : Nat → Int32) (L : Nat) (hL : L ≤ 6) : wpL_law (fun r => r = 1) L xs := by
  unfold wpL_law
  exact fd_cell hL 0 (by omega) (fun _ => fd_cell hL 1 (by omega) (fun _ => fd_cell hL 2 (by omega) (fun _ => fd_cell hL 3 (by omega) (fun _ => fd_cell hL 4 (by omega) (fun _ => fd_cell hL 5 (by omega) (fun _ => ⟨80, 1280, by decide, by decide, fd_lawOf rfl⟩))))))
end
