section
/-! numbers: a value that is a natural number below n -/
def cs_pg (p : Int32) (n : Nat) : Prop := ∃ z, z < n ∧ p = nI z
theorem cs_pgI {z n : Nat} (h : z < n) : cs_pg (nI z) n := ⟨z, h, rfl⟩
theorem cs_pgN {p : Int32} {n : Nat} (hn : n < 2 ^ 31) (h : p < 0) : ¬ cs_pg p n := by
  rintro ⟨z, hz, rfl⟩
  exact nI_pos (by omega) h
theorem cs_pgB {p : Int32} {n : Nat} (hn : n < 2 ^ 31) (h : ¬ p < nI n) : ¬ cs_pg p n := by
  rintro ⟨z, hz, rfl⟩
  exact h (nI_lt hz hn)
theorem cs_pgG {p : Int32} {n : Nat} (hn : n < 2 ^ 31) (h0 : ¬ p < 0) (h : p < nI n) : cs_pg p n := by
  obtain ⟨j, hj, rfl⟩ := nI_of h0
  exact ⟨j, (nI_ltI hj hn).mp h, rfl⟩
theorem cs_pgE {p : Int32} {n : Nat} (hn : n + 1 < 2 ^ 31) (h0 : ¬ p < 0) (h : p ≤ nI n) : cs_pg p (n + 1) := by
  obtain ⟨j, hj, rfl⟩ := nI_of h0
  have := (nI_leI hj (by omega)).mp h
  exact ⟨j, by omega, rfl⟩
theorem cs_pgF {p : Int32} {n : Nat} (hn : n + 1 < 2 ^ 31) (h : ¬ p ≤ nI n) : ¬ cs_pg p (n + 1) := by
  rintro ⟨z, hz, rfl⟩
  exact h (nI_le (by omega) (by omega))
theorem cs_rng {p : Int32} {A B : Prop} (n : Nat) (hn : n < 2 ^ 31) (f : cs_pg p n → A) (g : ¬ cs_pg p n → B) : (p < 0 → B) ∧ (¬ p < 0 → ((p < nI n → A) ∧ (¬ p < nI n → B))) :=
  br_c (fun h => g (cs_pgN hn h)) (fun h => br_c (fun h' => f (cs_pgG hn h h')) (fun h' => g (cs_pgB hn h')))
theorem cs_rngE {p : Int32} {A B : Prop} (n : Nat) (hn : n + 1 < 2 ^ 31) (f : cs_pg p (n + 1) → A) (g : ¬ cs_pg p (n + 1) → B) : (p < 0 → B) ∧ (¬ p < 0 → ((p ≤ nI n → A) ∧ (¬ p ≤ nI n → B))) :=
  br_c (fun h => g (cs_pgN hn h)) (fun h => br_c (fun h' => f (cs_pgE hn h h')) (fun h' => g (cs_pgF hn h')))
/-! the three checks of arguments -/
theorem cs_badPage {post : Int32 → Prop} {u : St2} {p : Int32} (f : cs_pg p 12 → post 0) (g : ¬ cs_pg p 12 → post 1) : wpX_badPage post u p := by
  obtain ⟨ck, ps, a1, a2, a3, a4, a5, a6, a7, a8, a9, a10, a11, a12, a13, a14⟩ := u
  exact cs_rng 12 (by decide) f g
theorem cs_badPlace {post : Int32 → Prop} {u : St2} {p : Int32} (f : cs_pg p 16 → post 0) (g : ¬ cs_pg p 16 → post 1) : wpX_badPlace post u p := by
  obtain ⟨ck, ps, a1, a2, a3, a4, a5, a6, a7, a8, a9, a10, a11, a12, a13, a14⟩ := u
  exact cs_rng 16 (by decide) f g
theorem cs_badByte {post : Int32 → Prop} {u : St2} {p : Int32} (f : cs_pg p 256 → post 0) (g : ¬ cs_pg p 256 → post 1) : wpX_badByte post u p := by
  obtain ⟨ck, ps, a1, a2, a3, a4, a5, a6, a7, a8, a9, a10, a11, a12, a13, a14⟩ := u
  exact cs_rngE 255 (by decide) f g
/-! the picture: k frames hold the pages P 0 .. P (k-1), all among x and y; M is what each page holds -/
def cs_K (x y : Nat) (M : Nat → Nat → Int32) (k : Nat) (P : Nat → Nat) (a1 a2 a3 a4 a7 a11 : Nat → Int32) : Prop :=
  k ≤ 2 ∧ (∀ f, f < k → P f < 12 ∧ (P f = x ∨ P f = y) ∧ a4 f = nI (P f) ∧ a1 (P f) = 1 ∧ a2 (P f) = nI f ∧ ∀ j, j < 16 → a3 (f * 16 + j) = M (P f) j) ∧
  (∀ f, k ≤ f → f < 3 → a4 f < 0) ∧ (∀ p, p < 12 → (∀ f, f < k → P f ≠ p) → a1 p = 0 ∧ ∀ j, j < 16 → M p j = 0) ∧ (∀ e, e < 8 → a7 e < 0) ∧ (∀ s, s < 12 → a11 s < 0)
def cs_ok (x y : Nat) (M : Nat → Nat → Int32) (a1 a2 a3 a4 a7 a11 : Nat → Int32) : Prop := ∃ (k : Nat) (P : Nat → Nat), cs_K x y M k P a1 a2 a3 a4 a7 a11
def cs_S (x y : Nat) (M : Nat → Nat → Int32) (u : St2) : Prop := match u with
  | (_, _, a1, a2, a3, a4, _, _, a7, _, _, _, a11, _, _, _) => cs_ok x y M a1 a2 a3 a4 a7 a11
def cs_set (M : Nat → Nat → Int32) (z i : Nat) (v : Int32) : Nat → Nat → Int32 := fun p j => if p = z ∧ j = i then v else M p j
theorem cs_setS {M : Nat → Nat → Int32} {z i : Nat} {v : Int32} : cs_set M z i v z i = v := if_pos ⟨rfl, rfl⟩
theorem cs_setN {M : Nat → Nat → Int32} {z i p j : Nat} {v : Int32} (h : ¬ (p = z ∧ j = i)) : cs_set M z i v p j = M p j := if_neg h
section
variable {x y z f : Nat} {M M' : Nat → Nat → Int32} {a1 a2 a3 a4 a7 a11 b3 : Nat → Int32}
theorem cs_ext (h : ∀ p j, p < 12 → j < 16 → M' p j = M p j) (o : cs_ok x y M a1 a2 a3 a4 a7 a11) : cs_ok x y M' a1 a2 a3 a4 a7 a11 := by
  obtain ⟨k, P, hk, h1, h2, h3, h4, h5⟩ := o
  refine ⟨k, P, hk, fun g hg => ?_, h2, fun p hp hn => ?_, h4, h5⟩
  · obtain ⟨e1, e2, e3, e4, e5, e6⟩ := h1 g hg
    exact ⟨e1, e2, e3, e4, e5, fun j hj => by rw [e6 j hj, h _ j e1 hj]⟩
  · obtain ⟨e1, e2⟩ := h3 p hp hn
    exact ⟨e1, fun j hj => by rw [h p j hp hj, e2 j hj]⟩
theorem cs_find {k : Nat} {P : Nat → Nat} (o : cs_K x y M k P a1 a2 a3 a4 a7 a11) (hz : z < 12) (h1 : a1 z = 1) : ∃ g, g < k ∧ P g = z := by
  by_cases h : ∃ g, g < k ∧ P g = z
  · exact h
  · have e := (o.2.2.2.1 z hz (fun g hg e => h ⟨g, hg, e⟩)).1
    rw [h1] at e
    exact absurd e (by decide)
theorem cs_find' {k : Nat} {P : Nat → Nat} (o : cs_K x y M k P a1 a2 a3 a4 a7 a11) (hz : z < 12) (h1 : a1 z = 1) (h2 : a2 z = nI f) (hf : f < 3) : f < k ∧ P f = z := by
  obtain ⟨g, hg, e⟩ := cs_find o hz h1
  have e5 := (o.2.1 g hg).2.2.2.2.1
  have hk := o.1
  rw [e, h2] at e5
  have : f = g := (nI_eq (by omega) (by omega)).mp e5
  subst this
  exact ⟨hg, e⟩
theorem cs_read (o : cs_ok x y M a1 a2 a3 a4 a7 a11) (hz : z < 12) (h1 : a1 z = 1) (h2 : a2 z = nI f) (hf : f < 3) : ∀ j, j < 16 → a3 (f * 16 + j) = M z j := by
  obtain ⟨k, P, o⟩ := o
  obtain ⟨hg, e⟩ := cs_find' o hz h1 h2 hf
  have := (o.2.1 f hg).2.2.2.2.2
  rw [e] at this
  exact this
theorem cs_place (o : cs_ok x y M a1 a2 a3 a4 a7 a11) (hz : z < 12) (h1 : a1 z = 1) : ∃ g, g < 2 ∧ a2 z = nI g ∧ a4 g = nI z := by
  obtain ⟨k, P, o⟩ := o
  obtain ⟨g, hg, e⟩ := cs_find o hz h1
  have hk := o.1
  have t := o.2.1 g hg
  rw [e] at t
  exact ⟨g, by omega, t.2.2.2.2.1, t.2.2.1⟩
theorem cs_put {i : Nat} {v : Int32} (o : cs_ok x y M a1 a2 a3 a4 a7 a11) (hz : z < 12) (h1 : a1 z = 1) (h2 : a2 z = nI f) (hf : f < 3) (hi : i < 16) : cs_ok x y (cs_set M z i v) a1 a2 (upd a3 (f * 16 + i) v) a4 a7 a11 := by
  obtain ⟨k, P, o⟩ := o
  obtain ⟨hg, e⟩ := cs_find' o hz h1 h2 hf
  obtain ⟨hk, o1, o2, o3, o4, o5⟩ := o
  refine ⟨k, P, hk, fun g hg' => ?_, o2, fun p hp hn => ?_, o4, o5⟩
  · obtain ⟨e1, e2, e3, e4, e5, e6⟩ := o1 g hg'
    refine ⟨e1, e2, e3, e4, e5, fun j hj => ?_⟩
    by_cases c : g = f
    · subst c
      by_cases d : j = i
      · subst d
        rw [pk_us, e, cs_setS]
      · rw [pk_un (by omega), cs_setN (fun t => d t.2)]
        exact e6 j hj
    · rw [pk_un (by omega), cs_setN (fun t => c ?_)]
      · exact e6 j hj
      · have q := (o1 f hg).2.2.2.2.1
        rw [e, ← t.1, e5] at q
        exact (nI_eq (by omega) (by omega)).mp q
  · obtain ⟨e1, e2⟩ := o3 p hp hn
    refine ⟨e1, fun j hj => ?_⟩
    rw [cs_setN (fun t => hn f hg (by rw [e, t.1]))]
    exact e2 j hj
theorem cs_add (o : cs_ok x y M a1 a2 a3 a4 a7 a11) (hz : z < 12) (hxy : z = x ∨ z = y) (h1 : ¬ a1 z = 1) : ∃ k, k < 2 ∧ (∀ g, g < k → 0 ≤ a4 g) ∧ a4 k < 0 ∧ a1 z = 0 ∧
    ∀ c3 : Nat → Int32, (∀ j, j < 16 → c3 (k * 16 + j) = 0) → (∀ g j, g ≠ k → j < 16 → c3 (g * 16 + j) = a3 (g * 16 + j)) → cs_ok x y M (upd (upd a1 z 0) z 1) (upd a2 z (nI k)) c3 (upd a4 k (nI z)) a7 a11 := by
  obtain ⟨k, P, hk, o1, o2, o3, o4, o5⟩ := o
  have hn : ∀ g, g < k → P g ≠ z := fun g hg e => h1 (by rw [← e]; exact (o1 g hg).2.2.2.1)
  have hk2 : k < 2 := by
    rcases Nat.lt_or_ge k 2 with h | h
    · exact h
    · exfalso
      have k0 := o1 0 (by omega)
      have k1 := o1 1 (by omega)
      have n0 := hn 0 (by omega)
      have n1 := hn 1 (by omega)
      have ne : P 0 ≠ P 1 := by
        intro e
        have e0 := k0.2.2.2.2.1
        rw [e, k1.2.2.2.2.1] at e0
        exact absurd e0 (by decide)
      have c0 := k0.2.1
      have c1 := k1.2.1
      omega
  refine ⟨k, hk2, fun g hg => by rw [(o1 g hg).2.2.1]; exact nI_pos' (by have := (o1 g hg).1; omega), o2 k (by omega) (by omega), (o3 z hz hn).1, fun c3 hc hd => ?_⟩
  refine ⟨k + 1, fun g => if g = k then z else P g, by omega, fun g hg => ?_, fun g hg hg3 => ?_, fun p hp hq => ?_, o4, o5⟩
  · by_cases c : g = k
    · subst c
      simp only [if_true]
      refine ⟨hz, hxy, pk_us, pk_us, pk_us, fun j hj => ?_⟩
      rw [hc j hj, (o3 z hz hn).2 j hj]
    · simp only [c, if_false]
      obtain ⟨e1, e2, e3, e4, e5, e6⟩ := o1 g (by omega)
      have ne := hn g (by omega)
      refine ⟨e1, e2, by rw [pk_un c]; exact e3, by rw [pk_un ne, pk_un ne]; exact e4, by rw [pk_un ne]; exact e5, fun j hj => ?_⟩
      rw [hd g j c hj]
      exact e6 j hj
  · rw [pk_un (by omega)]
    exact o2 g (by omega) hg3
  · have pz : p ≠ z := by
      intro e
      have t : (if k = k then z else P k) ≠ p := hq k (by omega)
      rw [if_pos rfl] at t
      exact t e.symm
    have := o3 p hp (fun g hg => by
      have t : (if g = k then z else P g) ≠ p := hq g (by omega)
      rw [if_neg (by omega)] at t
      exact t)
    rw [pk_un pz, pk_un pz]
    exact this
/-- a loop that fills the places from f*16 on, place by place -/
theorem cs_fresh (hc : ∀ g j, g ≠ f → j < 16 → b3 (g * 16 + j) = a3 (g * 16 + j)) {i : Nat} {v : Int32} (hi : i < 16) : ∀ g j, g ≠ f → j < 16 → upd b3 (f * 16 + i) v (g * 16 + j) = a3 (g * 16 + j) := by
  intro g j hg hj
  rw [pk_un (by omega)]
  exact hc g j hg hj
end
end
section
section
variable {x y z f k : Nat} {M M' : Nat → Nat → Int32} {ck ps : Int32} {a1 a2 a3 a4 a5 a6 a7 a8 a9 a10 a11 a12 a13 a14 b1 b3 : Nat → Int32}
/-! the constructor -/
theorem cs_m1 {s : Nat → Int32} {i : Nat} (h : ∀ j, j < i → s j < 0) {c : Nat} (hc : c = i) : ∀ j, j < i + 1 → upd s c (-1) j < 0 := by
  intro j hj
  subst hc
  by_cases e : j = c
  · rw [e, pk_us]
    decide
  · rw [pk_un e]
    exact h j (by omega)
theorem cs_init {post : St2 → Prop} {mc ms : Nat} (hc : 14 ≤ mc) (hs : 422 ≤ ms)
    (H : ∀ c4 c7 c11 : Nat → Int32, (∀ j, j < 3 → c4 j < 0) → (∀ j, j < 8 → c7 j < 0) → (∀ j, j < 12 → c11 j < 0) → post (ck, ps, (fun _ => 0), (fun _ => 0), (fun _ => 0), c4, (fun _ => 0), (fun _ => 0), c7, (fun _ => 0), (fun _ => 0), (fun _ => 0), c11, (fun _ => 0), (fun _ => 0), (fun _ => 0))) :
    wpX_init post mc ms (ck, ps) := by
  have L3 : ∀ c4 c7 : Nat → Int32, (∀ j, j < 3 → c4 j < 0) → (∀ j, j < 8 → c7 j < 0) → ∃ n, wX_init_157 post mc ms 14 422 ck ps n 0 (fun _ => 0) (fun _ => 0) (fun _ => 0) c4 (fun _ => 0) (fun _ => 0) c7 (fun _ => 0) (fun _ => 0) (fun _ => 0) (fun _ => 0) (fun _ => 0) (fun _ => 0) (fun _ => 0) := fun c4 c7 h4 h7 =>
    pk_loop (fun n i s => wX_init_157 post mc ms 14 422 ck ps n (nI i) (fun _ => 0) (fun _ => 0) (fun _ => 0) c4 (fun _ => 0) (fun _ => 0) c7 (fun _ => 0) (fun _ => 0) (fun _ => 0) s (fun _ => 0) (fun _ => 0) (fun _ => 0)) (fun i s => ∀ j, j < i → s j < 0) 12 0 (fun _ => 0) (by omega) (fun j hj => absurd hj (by omega))
      (fun n s h => pk_le 12 12 (fun _ => H c4 c7 s h4 h7 h) (fun z => absurd z (by omega)))
      (fun n i s hi h hw => pk_le 12 i (fun z => absurd z (by omega)) (fun _ => ⟨pk_in i 12 hi, nm_e (nm_r (nI_1 i) (hw _ (cs_m1 h (nI_clamp (by omega)))))⟩))
  have L2 : ∀ c4 : Nat → Int32, (∀ j, j < 3 → c4 j < 0) → ∃ n, wX_init_136 post mc ms 14 422 ck ps n 0 (fun _ => 0) (fun _ => 0) (fun _ => 0) c4 (fun _ => 0) (fun _ => 0) (fun _ => 0) (fun _ => 0) (fun _ => 0) (fun _ => 0) (fun _ => 0) (fun _ => 0) (fun _ => 0) (fun _ => 0) := fun c4 h4 =>
    pk_loop (fun n i s => wX_init_136 post mc ms 14 422 ck ps n (nI i) (fun _ => 0) (fun _ => 0) (fun _ => 0) c4 (fun _ => 0) (fun _ => 0) s (fun _ => 0) (fun _ => 0) (fun _ => 0) (fun _ => 0) (fun _ => 0) (fun _ => 0) (fun _ => 0)) (fun i s => ∀ j, j < i → s j < 0) 8 0 (fun _ => 0) (by omega) (fun j hj => absurd hj (by omega))
      (fun n s h => pk_le 8 8 (fun _ => L3 c4 s h4 h) (fun z => absurd z (by omega)))
      (fun n i s hi h hw => pk_le 8 i (fun z => absurd z (by omega)) (fun _ => ⟨pk_in i 8 hi, nm_e (nm_r (nI_1 i) (hw _ (cs_m1 h (nI_clamp (by omega)))))⟩))
  have L1 : ∃ n, wX_init_116 post mc ms 14 422 ck ps n 0 (fun _ => 0) (fun _ => 0) (fun _ => 0) (fun _ => 0) (fun _ => 0) (fun _ => 0) (fun _ => 0) (fun _ => 0) (fun _ => 0) (fun _ => 0) (fun _ => 0) (fun _ => 0) (fun _ => 0) (fun _ => 0) :=
    pk_loop (fun n i s => wX_init_116 post mc ms 14 422 ck ps n (nI i) (fun _ => 0) (fun _ => 0) (fun _ => 0) s (fun _ => 0) (fun _ => 0) (fun _ => 0) (fun _ => 0) (fun _ => 0) (fun _ => 0) (fun _ => 0) (fun _ => 0) (fun _ => 0) (fun _ => 0)) (fun i s => ∀ j, j < i → s j < 0) 3 0 (fun _ => 0) (by omega) (fun j hj => absurd hj (by omega))
      (fun n s h => pk_le 3 3 (fun _ => L2 s h) (fun z => absurd z (by omega)))
      (fun n i s hi h hw => pk_le 3 i (fun z => absurd z (by omega)) (fun _ => ⟨pk_in i 3 hi, nm_e (nm_r (nI_1 i) (hw _ (cs_m1 h (nI_clamp (by omega)))))⟩))
  exact ⟨by omega, by omega, by omega, by omega, by omega, by omega, by omega, by omega, by omega, by omega, by omega, by omega, by omega, by omega, by omega, by omega, by omega, by omega, by omega, by omega, by omega, by omega, by omega, by omega, by omega, by omega, by omega, by omega, L1⟩
theorem cs_ok0 {x y : Nat} {c4 c7 c11 : Nat → Int32} (h4 : ∀ j, j < 3 → c4 j < 0) (h7 : ∀ j, j < 8 → c7 j < 0) (h11 : ∀ j, j < 12 → c11 j < 0) : cs_ok x y (fun _ _ => 0) (fun _ => 0) a2 a3 c4 c7 c11 :=
  ⟨0, fun _ => 0, by omega, fun g hg => absurd hg (by omega), fun g _ hg => h4 g hg, fun _ _ _ => ⟨rfl, fun _ _ => rfl⟩, h7, h11⟩
/-! bring -/
theorem cs_freeFrame {post : Int32 → St2 → Prop} (hk : k < 3) (h0 : ∀ g, g < k → 0 ≤ a4 g) (h1 : a4 k < 0) (H : post (nI k) (ck, ps, a1, a2, a3, a4, a5, a6, a7, a8, a9, a10, a11, a12, a13, a14)) :
    wpX_freeFrame post (ck, ps, a1, a2, a3, a4, a5, a6, a7, a8, a9, a10, a11, a12, a13, a14) :=
  pk_loop (fun n i s => wX_freeFrame_4 post ck ps a1 a2 a3 a4 a5 a6 a7 a8 a9 a10 a11 a12 a13 a14 n s (nI i)) (fun _ s => cs_pg s 3) k 0 0 (by omega) ⟨0, by omega, rfl⟩
    (fun n s h => pk_le 3 k (fun z => absurd z (by omega)) (fun _ => ⟨pk_in k 3 hk, br_f (by rw [nI_clamp (by omega)]; exact fun t => absurd h1 (Int32.not_lt.mpr t)) H⟩))
    (fun n i s hi h hw => pk_le 3 i (fun z => absurd z (by omega)) (fun _ => ⟨pk_in i 3 (by omega), br_t (by rw [nI_clamp (by omega)]; exact h0 i hi) ⟨pk_in i 3 (by omega), (by obtain ⟨t, ht, rfl⟩ := h; exact pk_in t 3 ht), br_c (fun _ => nm_r (nI_1 i) (hw s h)) (fun _ => nm_r (nI_1 i) (hw _ ⟨i, by omega, rfl⟩))⟩⟩))
/-- the copy of the plain page (all 0) into frame f, and what stands behind it -/
theorem cs_bring147 {post : Int32 → St2 → Prop} (hz : z < 12) (hf : f < 3) (h13 : ∀ j, j < 16 → a13 j = 0)
    (H : ∀ (c3 : Nat → Int32) (ck' : Int32) (c5 : Nat → Int32), (∀ j, j < 16 → c3 (f * 16 + j) = 0) → (∀ g j, g ≠ f → j < 16 → c3 (g * 16 + j) = a3 (g * 16 + j)) →
      post (nI (f * 16)) (ck', ps, upd a1 z 1, upd a2 z (nI f), c3, upd a4 f (nI z), c5, a6, a7, a8, a9, a10, a11, a12, a13, a14)) :
    ∃ n, wX_bring_147 post (nI z) (nI f) ck ps n 0 a1 a2 a3 a4 a5 a6 a7 a8 a9 a10 a11 a12 a13 a14 :=
  pk_loop (fun n i s => wX_bring_147 post (nI z) (nI f) ck ps n (nI i) a1 a2 s a4 a5 a6 a7 a8 a9 a10 a11 a12 a13 a14) (fun i s => (∀ j, j < i → s (f * 16 + j) = 0) ∧ ∀ g j, g ≠ f → j < 16 → s (g * 16 + j) = a3 (g * 16 + j)) 16 0 a3 (by omega) ⟨fun j hj => absurd hj (by omega), fun g j _ _ => rfl⟩
    (fun n s h => pk_le 16 16 (fun _ => ⟨pk_in f 3 hf, nm_r (by rw [nI_clamp (by omega)]) (nm_e ⟨pk_in f 3 hf, nm_e ⟨pk_in z 12 hz, nm_r (by rw [nI_clamp (by omega)]) ⟨pk_in z 12 hz, nm_r (by rw [nI_clamp (by omega)]) (ek_v (P := fun r => post r _) (pk_mul f 16) (H s _ _ h.1 h.2))⟩⟩⟩)⟩) (fun z => absurd z (by omega)))
    (fun n i s hi h hw => pk_le 16 i (fun z => absurd z (by omega)) (fun _ => by
      have e : nI f * 16 + nI i = nI (f * 16 + i) := by
        rw [show (16 : Int32) = nI 16 from rfl, pk_mul, nI_add]
      refine ⟨pk_in i 16 hi, pk_in (f * 16 + i) 48 (by omega) e, nm_r (by rw [e, nI_clamp (by omega), nI_clamp (by omega), h13 i hi]) (nm_r (nI_1 i) (hw (upd s (f * 16 + i) 0) ⟨?_, cs_fresh h.2 hi⟩))⟩
      intro j hj
      by_cases c : j = i
      · rw [c, pk_us]
      · rw [pk_un (by omega)]
        exact h.1 j (by omega)))
theorem cs_bring52 {post : Int32 → St2 → Prop} (hz : z < 12) (hf : f < 3) (h1 : a1 z = 0)
    (H : ∀ (c3 : Nat → Int32) (ck' : Int32) (c5 c13 : Nat → Int32), (∀ j, j < 16 → c3 (f * 16 + j) = 0) → (∀ g j, g ≠ f → j < 16 → c3 (g * 16 + j) = a3 (g * 16 + j)) →
      post (nI (f * 16)) (ck', ps, upd (upd a1 z 0) z 1, upd a2 z (nI f), c3, upd a4 f (nI z), c5, a6, a7, a8, a9, a10, a11, a12, c13, a14)) :
    ∃ n, wX_bring_52 post (nI z) (nI f) ck ps n 0 a1 a2 a3 a4 a5 a6 a7 a8 a9 a10 a11 a12 a13 a14 := by
  have n1 : ¬ a1 (nI z).toNatClampNeg = 1 := by rw [nI_clamp (by omega), h1]; decide
  have n2 : ¬ a1 (nI z).toNatClampNeg = 2 := by rw [nI_clamp (by omega), h1]; decide
  have n3 : ¬ a1 (nI z).toNatClampNeg = 3 := by rw [nI_clamp (by omega), h1]; decide
  have vz : vp_in (nI z) 12 := pk_in z 12 hz
  have B : ∀ c13 : Nat → Int32, (∀ j, j < 16 → c13 j = 0) → wX_bring_140 post (nI z) (nI f) ck ps a1 a2 a3 a4 a5 a6 a7 a8 a9 a10 a11 a12 c13 a14 := by
    intro c13 h13
    unfold wX_bring_140 wpX_release
    exact ⟨vz, br_f n1 ⟨vz, br_f n2 ⟨vz, br_f n3 ⟨vz, nm_r (by rw [nI_clamp (by omega)]) (cs_bring147 hz hf h13 (fun c3 ck' c5 q1 q2 => H c3 ck' c5 c13 q1 q2))⟩⟩⟩⟩
  exact pk_loop (fun n i s => wX_bring_52 post (nI z) (nI f) ck ps n (nI i) a1 a2 a3 a4 a5 a6 a7 a8 a9 a10 a11 a12 s a14) (fun i s => ∀ j, j < i → s j = 0) 16 0 a13 (by omega) (fun j hj => absurd hj (by omega))
    (fun n s h => pk_le 16 16 (fun _ => ⟨vz, br_f n2 ⟨vz, br_f n3 (B s h)⟩⟩) (fun z => absurd z (by omega)))
    (fun n i s hi h hw => pk_le 16 i (fun z => absurd z (by omega)) (fun _ => ⟨pk_in i 16 hi, nm_r (by rw [nI_clamp (by omega)]) (nm_r (nI_1 i) (hw (upd s i 0) (by
      intro j hj
      by_cases c : j = i
      · rw [c, pk_us]
      · rw [pk_un c]
        exact h j (by omega))))⟩))
/-- bring: the page z is in a frame g afterwards, nothing that any page holds has changed -/
theorem cs_bring {post : Int32 → St2 → Prop} (hz : z < 12) (hxy : z = x ∨ z = y) (o : cs_ok x y M a1 a2 a3 a4 a7 a11)
    (H : ∀ (g : Nat) (ck' : Int32) (c1 c2 c3 c4 c5 c13 : Nat → Int32), g < 3 → c1 z = 1 → c2 z = nI g → cs_ok x y M c1 c2 c3 c4 a7 a11 →
      post (nI (g * 16)) (ck', ps, c1, c2, c3, c4, c5, a6, a7, a8, a9, a10, a11, a12, c13, a14)) :
    wpX_bring post (ck, ps, a1, a2, a3, a4, a5, a6, a7, a8, a9, a10, a11, a12, a13, a14) (nI z) := by
  have vz : vp_in (nI z) 12 := pk_in z 12 hz
  have cz : (nI z).toNatClampNeg = z := nI_clamp (by omega)
  unfold wpX_bring
  refine nm_e ⟨vz, ?_⟩
  rw [cz]
  by_cases h1 : a1 z = 1
  · obtain ⟨g, hg, e2, e4⟩ := cs_place o hz h1
    rw [e2]
    exact br_t h1 ⟨vz, pk_in g 3 (by omega), nm_e ⟨vz, ek_v (P := fun r => post r _) (pk_mul g 16) (H g _ _ _ _ _ _ _ (by omega) h1 e2 o)⟩⟩
  · obtain ⟨k, hk, k0, k1, k2, k3⟩ := cs_add o hz hxy h1
    exact br_f h1 (cs_freeFrame (by omega) k0 k1 (cs_bring52 hz (by omega) k2 (fun c3 ck' c5 c13 q1 q2 => H k ck' _ _ c3 _ c5 c13 (by omega) pk_us pk_us (k3 c3 q1 q2))))
end
end
section
/-! what the calls make of the pages, and what they answer -/
def cs_fl (M : Nat → Nat → Int32) (z c i : Nat) (v : Int32) : Nat → Nat → Int32 := fun p j => if p = z ∧ c ≤ j ∧ j < i then v else M p j
def cs_mv (M : Nat → Nat → Int32) (z c m : Nat) : Nat → Nat → Int32 := fun p j => if p = z ∧ j < m then M z (c + j) else M p j
def cs_cp (M : Nat → Nat → Int32) (z w m : Nat) : Nat → Nat → Int32 := fun p j => if p = z ∧ j < m then M w j else M p j
def cs_sum (c : Nat → Int32) : Nat → Int32
  | 0 => 0
  | k + 1 => cs_sum c k + (nI k + 1) * c k
def cs_cnt (c d : Nat → Int32) : Nat → Int32
  | 0 => 0
  | k + 1 => if c k = d k then cs_cnt c d k else cs_cnt c d k + 1
theorem cs_flS {M : Nat → Nat → Int32} {z c k p j : Nat} {v : Int32} (hc : c ≤ k) : cs_fl M z c (k + 1) v p j = cs_set (cs_fl M z c k v) z k v p j := by
  by_cases hj : p = z ∧ j = k
  · obtain ⟨rfl, rfl⟩ := hj
    rw [cs_setS]
    exact if_pos ⟨rfl, by omega, by omega⟩
  · rw [cs_setN hj]
    unfold cs_fl
    by_cases h : p = z ∧ c ≤ j ∧ j < k
    · rw [if_pos h, if_pos ⟨h.1, h.2.1, by omega⟩]
    · rw [if_neg h, if_neg (by omega)]
theorem cs_mvS {M : Nat → Nat → Int32} {z c k p j : Nat} : cs_mv M z c (k + 1) p j = cs_set (cs_mv M z c k) z k (M z (c + k)) p j := by
  by_cases hj : p = z ∧ j = k
  · obtain ⟨rfl, rfl⟩ := hj
    rw [cs_setS]
    exact if_pos ⟨rfl, by omega⟩
  · rw [cs_setN hj]
    unfold cs_mv
    by_cases h : p = z ∧ j < k
    · rw [if_pos h, if_pos ⟨h.1, by omega⟩]
    · rw [if_neg h, if_neg (by omega)]
theorem cs_cpS {M : Nat → Nat → Int32} {z w k p j : Nat} : cs_cp M z w (k + 1) p j = cs_set (cs_cp M z w k) z k (M w k) p j := by
  by_cases hj : p = z ∧ j = k
  · obtain ⟨rfl, rfl⟩ := hj
    rw [cs_setS]
    exact if_pos ⟨rfl, by omega⟩
  · rw [cs_setN hj]
    unfold cs_cp
    by_cases h : p = z ∧ j < k
    · rw [if_pos h, if_pos ⟨h.1, by omega⟩]
    · rw [if_neg h, if_neg (by omega)]
section
variable {x y z f k : Nat} {M M' : Nat → Nat → Int32} {ck ps : Int32} {a1 a2 a3 a4 a5 a6 a7 a8 a9 a10 a11 a12 a13 a14 b1 b3 : Nat → Int32}
theorem cs_write {post : Int32 → St2 → Prop} {u : St2} {p i b : Int32} (o : cs_S x y M u) (hp : ∀ z, z < 12 → p = nI z → z = x ∨ z = y)
    (H1 : ∀ z c e, z < 12 → c < 16 → e < 256 → p = nI z → i = nI c → b = nI e → ∀ u', cs_S x y (cs_set M z c (nI e)) u' → post (M z c) u')
    (H0 : ¬ (cs_pg p 12 ∧ cs_pg i 16 ∧ cs_pg b 256) → post (-1) u) : wpX_write post u p i b := by
  obtain ⟨ck, ps, a1, a2, a3, a4, a5, a6, a7, a8, a9, a10, a11, a12, a13, a14⟩ := u
  unfold wpX_write
  dsimp only
  refine cs_badPage (fun hz => br_t rfl (cs_badPlace (fun hc => br_t rfl (cs_badByte (fun he => br_t rfl ?_) (fun h => br_f (by decide) (H0 (fun t => h t.2.2))))) (fun h => br_f (by decide) (H0 (fun t => h t.2.1))))) (fun h => br_f (by decide) (H0 (fun t => h t.1)))
  obtain ⟨z, hz, rfl⟩ := hz
  obtain ⟨c, hc, rfl⟩ := hc
  obtain ⟨e, he, rfl⟩ := he
  refine cs_bring hz (hp z hz rfl) o (fun g ck' c1 c2 c3 c4 c5 c13 hg e1 e2 o' => ?_)
  have ev : nI (g * 16) + nI c = nI (g * 16 + c) := nI_add _ _
  have vi : vp_in (nI (g * 16) + nI c) 48 := pk_in (g * 16 + c) 48 (by omega) ev
  exact ⟨vi, nm_r (e' := M z c) (by rw [ev, nI_clamp (by omega)]; exact cs_read o' hz e1 e2 hg c hc) ⟨vi, nm_r (by rw [ev, nI_clamp (by omega)]) (H1 z c e hz hc he rfl rfl rfl _ (cs_put o' hz e1 e2 hg hc))⟩⟩
theorem cs_fill {post : Int32 → St2 → Prop} {u : St2} {p i b : Int32} (o : cs_S x y M u) (hp : ∀ z, z < 12 → p = nI z → z = x ∨ z = y)
    (H1 : ∀ z c e, z < 12 → c < 16 → e < 256 → p = nI z → i = nI c → b = nI e → ∀ u', cs_S x y (cs_fl M z c 16 (nI e)) u' → post (nI (15 - c + 1)) u')
    (H0 : ¬ (cs_pg p 12 ∧ cs_pg i 16 ∧ cs_pg b 256) → post (-1) u) : wpX_fill post u p i 15 b := by
  obtain ⟨ck, ps, a1, a2, a3, a4, a5, a6, a7, a8, a9, a10, a11, a12, a13, a14⟩ := u
  unfold wpX_fill
  dsimp only
  refine cs_badPage (fun hz => br_t rfl (cs_badPlace (fun hc => br_t rfl (cs_badPlace (fun _ => br_t rfl (cs_badByte (fun he => br_t rfl ?_) (fun h => br_f (by decide) (H0 (fun t => h t.2.2))))) (fun h => absurd (cs_pgI (z := 15) (by decide)) h))) (fun h => br_f (by decide) (H0 (fun t => h t.2.1))))) (fun h => br_f (by decide) (H0 (fun t => h t.1)))
  obtain ⟨z, hz, rfl⟩ := hz
  obtain ⟨c, hc, rfl⟩ := hc
  obtain ⟨e, he, rfl⟩ := he
  refine cs_bring hz (hp z hz rfl) o (fun g ck' c1 c2 c3 c4 c5 c13 hg e1 e2 o' => ?_)
  exact pk_loop (fun n k s => wX_fill_45 post (nI c) 15 (nI e) (nI (g * 16)) ck' ps n (nI k) c1 c2 s c4 c5 a6 a7 a8 a9 a10 a11 a12 c13 a14) (fun k s => c ≤ k ∧ cs_ok x y (cs_fl M z c k (nI e)) c1 c2 s c4 a7 a11) 16 c c3 (by omega)
    ⟨Nat.le_refl c, cs_ext (fun p j _ _ => if_neg (by omega)) o'⟩
    (fun n s h => pk_lt 15 16 (fun _ => pk_le c 15 (fun hle => ek_v (P := fun r => post r _) (show (nI 15 - nI c) + 1 = nI (15 - c + 1) by rw [pk_sub hle, nI_1]) (H1 z c e hz hc he rfl rfl rfl _ h.2)) (fun t => absurd t (by omega))) (fun t => absurd t (by omega)))
    (fun n k s hk h hw => pk_lt 15 k (fun t => absurd t (by omega)) (fun _ => by
      have ev : nI (g * 16) + nI k = nI (g * 16 + k) := nI_add _ _
      refine ⟨pk_in (g * 16 + k) 48 (by omega) ev, nm_r (by rw [ev, nI_clamp (by omega)]) (nm_r (nI_1 k) (hw _ ⟨by omega, cs_ext (fun p j _ _ => cs_flS h.1) (cs_put (i := k) (v := nI e) h.2 hz e1 e2 hg hk)⟩))⟩))
theorem cs_move {post : Int32 → St2 → Prop} {u : St2} {p i n : Int32} (o : cs_S x y M u) (hp : ∀ z, z < 12 → p = nI z → z = x ∨ z = y)
    (H1 : ∀ z c m, z < 12 → c < 16 → c + m ≤ 16 → p = nI z → i = nI c → n = nI m → ∀ u', cs_S x y (cs_mv M z c m) u' → post 0 u')
    (H0 : ¬ (∃ z c m, z < 12 ∧ c < 16 ∧ c + m ≤ 16 ∧ p = nI z ∧ i = nI c ∧ n = nI m) → post (-1) u) : wpX_move post u p i 0 n := by
  obtain ⟨ck, ps, a1, a2, a3, a4, a5, a6, a7, a8, a9, a10, a11, a12, a13, a14⟩ := u
  unfold wpX_move
  dsimp only
  refine cs_badPage (fun hz => br_t rfl (cs_badPlace (fun hc => br_t rfl (cs_badPlace (fun _ => br_t rfl ?_) (fun h => absurd (cs_pgI (z := 0) (by decide)) h))) (fun h => br_f (by decide) (H0 ?_)))) (fun h => br_f (by decide) (H0 ?_))
  · obtain ⟨z, hz, rfl⟩ := hz
    obtain ⟨c, hc, rfl⟩ := hc
    refine br_c (fun h => H0 ?_) (fun h0 => ?_)
    · rintro ⟨_, c', m, _, _, hm, _, _, rfl⟩
      exact nI_pos (by omega) h
    obtain ⟨m, hm, rfl⟩ := nI_of h0
    refine pk_lt 16 m (fun h => H0 ?_) (fun hm16 => ?_)
    · rintro ⟨_, c', m', _, _, hm', _, _, e⟩
      have := (nI_eq hm (by omega)).mp e
      omega
    refine pk_lt 16 (c + m) (fun h => H0 ?_) (fun hcm => ?_) rfl (nI_add c m)
    · rintro ⟨_, c', m', _, hc', hm', _, e', e⟩
      have := (nI_eq hm (by omega)).mp e
      have := (nI_eq (by omega) (by omega)).mp e'
      omega
    refine pk_le (0 + m) 16 (fun _ => ?_) (fun t => absurd t (by omega)) (nI_add 0 m)
    refine cs_bring hz (hp z hz rfl) o (fun g ck' c1 c2 c3 c4 c5 c13 hg e1 e2 o' => ?_)
    exact pk_loop (fun n k s => wX_move_68 post (nI c) 0 (nI m) (nI (g * 16)) ck' ps n (nI k) c1 c2 s c4 c5 a6 a7 a8 a9 a10 a11 a12 c13 a14) (fun k s => cs_ok x y (cs_mv M z c k) c1 c2 s c4 a7 a11) m 0 c3 (by omega)
      (cs_ext (fun p j _ _ => if_neg (by omega)) o')
      (fun n s h => pk_le m m (fun _ => H1 z c m hz hc hcm rfl rfl rfl _ h) (fun t => absurd t (by omega)))
      (fun n k s hk h hw => pk_le m k (fun t => absurd t (by omega)) (fun _ => by
        have ev : nI (g * 16) + nI c + nI k = nI (g * 16 + (c + k)) := by rw [nI_add, nI_add, Nat.add_assoc]
        have ew : nI (g * 16) + 0 + nI k = nI (g * 16 + k) := by rw [← nI_0, nI_add, nI_add, Nat.add_zero]
        have rd := cs_read h hz e1 e2 hg (c + k) (by omega)
        rw [show cs_mv M z c k z (c + k) = M z (c + k) from if_neg (by omega)] at rd
        refine ⟨pk_in (g * 16 + (c + k)) 48 (by omega) ev, pk_in (g * 16 + k) 48 (by omega) ew, nm_r (by rw [ev, ew, nI_clamp (by omega), nI_clamp (by omega), rd]) (nm_r (nI_1 k) (hw _ (cs_ext ?_ (cs_put (i := k) (v := M z (c + k)) h hz e1 e2 hg (by omega)))))⟩
        exact fun p j _ _ => cs_mvS))
  · rintro ⟨_, c', _, _, hc', _, _, e, _⟩
    exact h ⟨c', hc', e⟩
  · rintro ⟨z', _, _, hz', _, _, e, _⟩
    exact h ⟨z', hz', e⟩
theorem cs_sumC {post : Int32 → St2 → Prop} {u : St2} {q : Int32} (o : cs_S x y M u) (hp : ∀ z, z < 12 → q = nI z → z = x ∨ z = y)
    (H1 : ∀ z, z < 12 → q = nI z → ∀ u', cs_S x y M u' → post (cs_sum (M z) 16) u') (H0 : ¬ cs_pg q 12 → post (-1) u) : wpX_sum post u q := by
  obtain ⟨ck, ps, a1, a2, a3, a4, a5, a6, a7, a8, a9, a10, a11, a12, a13, a14⟩ := u
  unfold wpX_sum
  dsimp only
  refine cs_badPage (fun hz => br_t rfl ?_) (fun h => br_f (by decide) (H0 h))
  obtain ⟨z, hz, rfl⟩ := hz
  refine cs_bring hz (hp z hz rfl) o (fun g ck' c1 c2 c3 c4 c5 c13 hg e1 e2 o' => ?_)
  exact pk_loop (fun n k s => wX_sum_21 post (nI (g * 16)) ck' ps c1 c2 c3 c4 c5 a6 a7 a8 a9 a10 a11 a12 c13 a14 n s (nI k)) (fun k s => s = cs_sum (M z) k) 16 0 0 (by omega) rfl
    (fun n s h => pk_le 16 16 (fun _ => ek_v (P := fun r => post r _) h (H1 z hz rfl _ o')) (fun t => absurd t (by omega)))
    (fun n k s hk h hw => pk_le 16 k (fun t => absurd t (by omega)) (fun _ => by
      have ev : nI (g * 16) + nI k = nI (g * 16 + k) := nI_add _ _
      refine ⟨pk_in (g * 16 + k) 48 (by omega) ev, nm_e (nm_r (nI_1 k) (hw _ ?_))⟩
      rw [ev, nI_clamp (by omega), cs_read o' hz e1 e2 hg k hk, h]
      rfl))
theorem cs_hold {post : St2 → Prop} (hz : z < 12) (hxy : z = x ∨ z = y) (o : cs_ok x y M a1 a2 a3 a4 a7 a11)
    (H : ∀ (ck' : Int32) (c1 c2 c3 c4 c5 c13 c14 : Nat → Int32), cs_ok x y M c1 c2 c3 c4 a7 a11 → (∀ j, j < 16 → c14 j = M z j) →
      post (ck', ps, c1, c2, c3, c4, c5, a6, a7, a8, a9, a10, a11, a12, c13, c14)) :
    wpX_hold post (ck, ps, a1, a2, a3, a4, a5, a6, a7, a8, a9, a10, a11, a12, a13, a14) (nI z) := by
  unfold wpX_hold
  dsimp only
  refine cs_bring hz hxy o (fun g ck' c1 c2 c3 c4 c5 c13 hg e1 e2 o' => ?_)
  exact pk_loop (fun n k s => wX_hold_8 post (nI (g * 16)) ck' ps n (nI k) c1 c2 c3 c4 c5 a6 a7 a8 a9 a10 a11 a12 c13 s) (fun k s => ∀ j, j < k → s j = M z j) 16 0 a14 (by omega) (fun j hj => absurd hj (by omega))
    (fun n s h => pk_le 16 16 (fun _ => H _ _ _ _ _ _ _ s o' h) (fun t => absurd t (by omega)))
    (fun n k s hk h hw => pk_le 16 k (fun t => absurd t (by omega)) (fun _ => by
      have ev : nI (g * 16) + nI k = nI (g * 16 + k) := nI_add _ _
      refine ⟨pk_in (g * 16 + k) 48 (by omega) ev, pk_in k 16 hk, nm_r (by rw [ev, nI_clamp (by omega), nI_clamp (by omega), cs_read o' hz e1 e2 hg k hk]) (nm_r (nI_1 k) (hw (upd s k (M z k)) ?_))⟩
      intro j hj
      by_cases e : j = k
      · rw [e, pk_us]
      · rw [pk_un e]
        exact h j (by omega)))
theorem cs_copy {post : Int32 → St2 → Prop} {u : St2} {p q : Int32} (o : cs_S x y M u) (hp : ∀ z, z < 12 → p = nI z → z = x ∨ z = y) (hq : ∀ z, z < 12 → q = nI z → z = x ∨ z = y)
    (H1 : ∀ z w, z < 12 → w < 12 → p = nI z → q = nI w → ∀ u' M', cs_S x y M' u' → post (cs_cnt (M z) (M w) 16) u')
    (H0 : ¬ (cs_pg p 12 ∧ cs_pg q 12) → post (-1) u) : wpX_copy post u p q := by
  obtain ⟨ck, ps, a1, a2, a3, a4, a5, a6, a7, a8, a9, a10, a11, a12, a13, a14⟩ := u
  unfold wpX_copy
  dsimp only
  refine cs_badPage (fun hz => br_t rfl (cs_badPage (fun hw => br_t rfl ?_) (fun h => br_f (by decide) (H0 (fun t => h t.2))))) (fun h => br_f (by decide) (H0 (fun t => h t.1)))
  obtain ⟨z, hz, rfl⟩ := hz
  obtain ⟨w, hw, rfl⟩ := hw
  refine cs_hold hw (hq w hw rfl) o (fun ck' c1 c2 c3 c4 c5 c13 c14 o1 h14 => ?_)
  refine cs_bring hz (hp z hz rfl) o1 (fun g ck' d1 d2 d3 d4 d5 d13 hg e1 e2 o' => ?_)
  refine pk_loop (fun n k (s : Int32 × (Nat → Int32)) => wX_copy_35 post (nI (g * 16)) ck' ps n s.1 (nI k) d1 d2 s.2 d4 d5 a6 a7 a8 a9 a10 a11 a12 d13 c14) (fun k s => s.1 = cs_cnt (M z) (M w) k ∧ cs_ok x y (cs_cp M z w k) d1 d2 s.2 d4 a7 a11) 16 0 (0, d3) (by omega)
    ⟨rfl, cs_ext (fun p j _ _ => if_neg (by omega)) o'⟩
    (fun n s h => pk_le 16 16 (fun _ => ek_v (P := fun r => post r _) h.1 (H1 z w hz hw rfl rfl _ _ h.2)) (fun t => absurd t (by omega))) ?_
  intro n k s hk h hW
  refine pk_le 16 k (fun t => absurd t (by omega)) (fun _ => ?_)
  have ev : nI (g * 16) + nI k = nI (g * 16 + k) := nI_add _ _
  have vi : vp_in (nI (g * 16) + nI k) 48 := pk_in (g * 16 + k) 48 (by omega) ev
  have rd := cs_read h.2 hz e1 e2 hg k hk
  rw [show cs_cp M z w k z k = M z k from if_neg (by omega)] at rd
  have nx : cs_ok x y (cs_cp M z w (k + 1)) d1 d2 (upd s.2 (g * 16 + k) (M w k)) d4 a7 a11 := by
    exact cs_ext (fun p j _ _ => cs_cpS) (cs_put (i := k) (v := M w k) h.2 hz e1 e2 hg hk)
  have st : ∀ r, r = cs_cnt (M z) (M w) (k + 1) → wX_copy_64 post (wX_copy_35 post (nI (g * 16)) ck' ps n) (nI (g * 16)) r (nI k) ck' ps d1 d2 s.2 d4 d5 a6 a7 a8 a9 a10 a11 a12 d13 c14 := by
    intro r hr
    unfold wX_copy_64
    exact ⟨pk_in k 16 hk, vi, nm_r (e' := upd s.2 (g * 16 + k) (M w k)) (by rw [ev, nI_clamp (by omega), nI_clamp (by omega), h14 k hk]) (nm_r (nI_1 k) (hW (r, upd s.2 (g * 16 + k) (M w k)) ⟨hr, nx⟩))⟩
  refine ⟨vi, pk_in k 16 hk, ?_⟩
  rw [ev, nI_clamp (by omega), nI_clamp (by omega), rd, h14 k hk]
  by_cases c : M z k = M w k
  · exact br_t c (st _ (by rw [h.1]; exact (if_pos c).symm))
  · exact br_f c (nm_e (st _ (by rw [h.1]; exact (if_neg c).symm)))
end
end
section
/-! away: evict and all that it calls; only that it ends is wanted -/
theorem cs_fx (f k : Nat) : nI f * 16 + nI k = nI (f * 16 + k) := by
  rw [show (16 : Int32) = nI 16 from rfl, pk_mul, nI_add]
theorem cs_d1 : ∀ z, z < 12 → ¬ (nI z + 1 < nI z - 1) ∧ ¬ (nI z + 1 < nI z - 1 + 1) ∧ ¬ (nI z + 1 < nI z - 1 + 1 + 1) ∧ (nI z + 1 < nI z - 1 + 1 + 1 + 1) := by decide +kernel
/-- the announced place of pack: none, or one below the size -/
def cs_an (x3 : Int32) (i s : Nat) : Prop := (x3 = -1 ∧ s ≤ i) ∨ (∃ t, x3 = nI t ∧ t < s ∧ s ≤ i + 1)
section
variable {x y z f g k base i r s : Nat} {ck ps : Int32} {a1 a2 a3 a4 a5 a6 a7 a8 a9 a10 a11 a12 a13 a14 : Nat → Int32}
theorem cs_blankFrame {post : Int32 → Prop} (hf : f < 3) (H : ∀ r, post r) : wpX_blankFrame post (ck, ps, a1, a2, a3, a4, a5, a6, a7, a8, a9, a10, a11, a12, a13, a14) (nI f) :=
  pk_loop (fun n k s => wX_blankFrame_4 post (nI f) ck ps a1 a2 a3 a4 a5 a6 a7 a8 a9 a10 a11 a12 a13 a14 n s (nI k)) (fun _ s => s = 0 ∨ s = 1) 16 0 1 (by omega) (Or.inr rfl)
    (fun n s h => pk_le 16 16 (fun _ => ⟨by rcases h with rfl | rfl <;> rfl, H s⟩) (fun t => absurd t (by omega)))
    (fun n k s hk h hw => pk_le 16 k (fun t => absurd t (by omega)) (fun _ => br_c (fun _ => nm_r (nI_1 k) (hw 0 (Or.inl rfl))) (fun _ => ⟨pk_in (f * 16 + k) 48 (by omega) (cs_fx f k), br_c (fun _ => nm_r (nI_1 k) (hw 1 (Or.inr rfl))) (fun _ => nm_r (nI_1 k) (hw 0 (Or.inl rfl)))⟩)))
theorem cs_append {post : St2 → Prop} {v : Int32} (hs : s < 24) (H : ∀ c12 : Nat → Int32, post (ck, nI (s + 1), a1, a2, a3, a4, a5, a6, a7, a8, a9, a10, a11, c12, a13, a14)) : wpX_append post (ck, nI s, a1, a2, a3, a4, a5, a6, a7, a8, a9, a10, a11, a12, a13, a14) v :=
  And.intro (pk_in s 24 hs) (nm_e (nm_r (nI_1 s) (H _)))
theorem cs_repeatAt {post : Int32 → Prop} {bk : Nat} (hb : base + 16 ≤ 48) (hi : i ≤ 16) (hk : bk ≤ i) (H : ∀ m, m + i ≤ 16 → post (nI m)) : wpX_repeatAt post (ck, ps, a1, a2, a3, a4, a5, a6, a7, a8, a9, a10, a11, a12, a13, a14) (nI base) (nI i) (nI bk) :=
  pk_loop (fun n k s => wX_repeatAt_6 post (nI base) (nI bk) ck ps a1 a2 a3 a4 a5 a6 a7 a8 a9 a10 a11 a12 a13 a14 n s (nI k)) (fun k s => ∃ m, s = nI m ∧ m + i = k) 16 i 0 hi ⟨0, rfl, Nat.zero_add i⟩
    (fun n s h => pk_le 16 16 (fun _ => by obtain ⟨m, rfl, hm⟩ := h; exact H m (by omega)) (fun t => absurd t (by omega)))
    (fun n k s hk16 h hw => pk_le 16 k (fun t => absurd t (by omega)) (fun _ => by
      obtain ⟨m, rfl, hm⟩ := h
      exact ⟨pk_in (base + k) 48 (by omega) (nI_add base k), pk_in (base + k - bk) 48 (by omega) (by rw [nI_add, pk_sub (by omega)]), br_c (fun _ => nm_r (nI_1 m) (nm_r (nI_1 k) (hw _ ⟨m + 1, rfl, by omega⟩))) (fun _ => H m (by omega))⟩))
theorem cs_pack131 {post : St2 → Prop} {J : Int32 → Int32 → Int32 → Int32 → Int32 → (Nat → Int32) → (Nat → Int32) → (Nat → Int32) → (Nat → Int32) → (Nat → Int32) → (Nat → Int32) → (Nat → Int32) → (Nat → Int32) → (Nat → Int32) → (Nat → Int32) → (Nat → Int32) → (Nat → Int32) → (Nat → Int32) → (Nat → Int32) → Prop} {t : Nat} (hb : base + 16 ≤ 48) (hi : i < 16) (ht : t < s) (hs : s ≤ i + 1)
    (HJ : ∀ (x3' : Int32) (i' s' : Nat) (c12 : Nat → Int32), i' ≤ 16 → cs_an x3' i' s' → J x3' (nI i') (nI (r + 1)) ck (nI s') a1 a2 a3 a4 a5 a6 a7 a8 a9 a10 a11 c12 a13 a14) :
    wX_pack_131 post J (nI base) (nI t) (nI i) (nI r) ck (nI s) a1 a2 a3 a4 a5 a6 a7 a8 a9 a10 a11 a12 a13 a14 :=
  And.intro (pk_in t 24 (by omega)) ⟨pk_in t 24 (by omega), nm_e ⟨pk_in (base + i) 48 (by omega) (nI_add base i), cs_append (by omega) (fun c12 => nm_r (nI_1 i) (nm_r (nI_1 r) (HJ _ _ _ c12 (by omega) (Or.inr ⟨t, rfl, by omega, by omega⟩))))⟩⟩
theorem cs_pack41 {post : St2 → Prop} {J : Int32 → Int32 → Int32 → Int32 → Int32 → (Nat → Int32) → (Nat → Int32) → (Nat → Int32) → (Nat → Int32) → (Nat → Int32) → (Nat → Int32) → (Nat → Int32) → (Nat → Int32) → (Nat → Int32) → (Nat → Int32) → (Nat → Int32) → (Nat → Int32) → (Nat → Int32) → (Nat → Int32) → Prop} {x3 : Int32} (hb : base + 16 ≤ 48) (hi : i < 16) (hx : cs_an x3 i s)
    (HJ : ∀ (x3' : Int32) (i' s' : Nat) (c12 : Nat → Int32), i' ≤ 16 → cs_an x3' i' s' → J x3' (nI i') (nI (r + 1)) ck (nI s') a1 a2 a3 a4 a5 a6 a7 a8 a9 a10 a11 c12 a13 a14) :
    ∃ n, wX_pack_41 post J (nI base) x3 (nI i) (nI r) ck (nI s) a1 a2 a3 a4 a5 a6 a7 a8 a9 a10 a11 a12 a13 a14 n 0 0 1 := by
  have hs : s ≤ i + 1 := by
    rcases hx with ⟨_, h⟩ | ⟨t, _, _, h⟩ <;> omega
  refine pk_loop (fun n k (q : Int32 × Int32) => wX_pack_41 post J (nI base) x3 (nI i) (nI r) ck (nI s) a1 a2 a3 a4 a5 a6 a7 a8 a9 a10 a11 a12 a13 a14 n q.1 q.2 (nI k)) (fun k q => ∃ m, q.1 = nI m ∧ m + i ≤ 16) (i + 1) 1 (0, 0) (by omega) ⟨0, rfl, by omega⟩ ?_ ?_
  · rintro n ⟨q1, q2⟩ ⟨m, hq, hm⟩
    have hq' : q1 = nI m := hq
    subst hq'
    refine pk_lt i (i + 1) (fun _ => pk_lt m 2 (fun _ => ?_) (fun h2 => ?_)) (fun t => absurd t (by omega))
    · rcases hx with ⟨rfl, h⟩ | ⟨t, rfl, ht, h⟩
      · exact br_f (by decide) (cs_append (by omega) (fun c12 => cs_pack131 hb hi (by omega) (by omega) HJ))
      · exact br_t (nI_pos' (by omega)) (cs_pack131 hb hi ht h HJ)
    · exact cs_append (by omega) (fun c12 => nm_r (nI_add i m) (nm_r (nI_1 r) (HJ _ _ _ c12 (by omega) (Or.inl ⟨rfl, by omega⟩))))
  · intro n k q hk h hw
    exact pk_lt i k (fun t => absurd t (by omega)) (fun _ => cs_repeatAt hb (by omega) (by omega) (fun m hm => br_c (fun _ => nm_r (nI_1 k) (hw q h)) (fun _ => nm_r (nI_1 k) (hw (nI m, nI k) ⟨m, rfl, hm⟩))))
theorem cs_pack18 {post : St2 → Prop} (hb : base + 16 ≤ 48) (H : ∀ (s : Nat) (c12 : Nat → Int32), s ≤ 17 → post (ck, nI s, a1, a2, a3, a4, a5, a6, a7, a8, a9, a10, a11, c12, a13, a14)) :
    ∀ (m r i s : Nat) (x3 : Int32) (c12 : Nat → Int32), r + m = 16 → i ≤ 16 → cs_an x3 i s → wX_pack_18 post (nI base) (m + 1) x3 (nI i) (nI r) ck (nI s) a1 a2 a3 a4 a5 a6 a7 a8 a9 a10 a11 c12 a13 a14 := by
  intro m
  induction m with
  | zero =>
    intro r i s x3 c12 hr hi hx
    have hs : s ≤ i + 1 := by
      rcases hx with ⟨_, h⟩ | ⟨t, _, _, h⟩ <;> omega
    exact pk_le 16 r (fun _ => H s c12 (by omega)) (fun t => absurd t (by omega))
  | succ m ih =>
    intro r i s x3 c12 hr hi hx
    have hs : s ≤ i + 1 := by
      rcases hx with ⟨_, h⟩ | ⟨t, _, _, h⟩ <;> omega
    exact pk_le 16 r (fun t => absurd t (by omega)) (fun _ => pk_le 16 i (fun _ => H s c12 (by omega)) (fun h16 => cs_pack41 hb h16 hx (fun x3' i' s' d12 hi' hx' => ih (r + 1) i' s' x3' d12 (by omega) hi' hx')))
theorem cs_pack {post : St2 → Prop} (hf : f < 3) (H : ∀ (s : Nat) (c12 : Nat → Int32), s ≤ 17 → post (ck, nI s, a1, a2, a3, a4, a5, a6, a7, a8, a9, a10, a11, c12, a13, a14)) : wpX_pack post (ck, ps, a1, a2, a3, a4, a5, a6, a7, a8, a9, a10, a11, a12, a13, a14) (nI f) :=
  nm_r (e' := nI (f * 16)) (pk_mul f 16) ⟨17, cs_pack18 (base := f * 16) (by omega) H 16 0 0 0 (-1) a12 (by omega) (by omega) (Or.inl ⟨rfl, by omega⟩)⟩
/-! the pool -/
theorem cs_held {post : Int32 → Prop} (h7 : ∀ e, e < 8 → a7 e < 0) (hg : g < 4) (H : post 0) : wpX_held post (ck, ps, a1, a2, a3, a4, a5, a6, a7, a8, a9, a10, a11, a12, a13, a14) (nI g) := by
  have e1 : nI g * 2 = nI (g * 2) := pk_mul g 2
  have e2 : nI g * 2 + 1 = nI (g * 2 + 1) := by rw [e1, nI_1]
  exact And.intro (pk_in (g * 2) 8 (by omega) e1) (br_t (by rw [e1, nI_clamp (by omega)]; exact h7 _ (by omega)) (And.intro (pk_in (g * 2 + 1) 8 (by omega) e2) (br_t (by rw [e2, nI_clamp (by omega)]; exact h7 _ (by omega)) H)))
theorem cs_roomIn {post : Int32 → Prop} (h7 : ∀ e, e < 8 → a7 e < 0) (hg : g < 4) (H : post 16) : wpX_roomIn post (ck, ps, a1, a2, a3, a4, a5, a6, a7, a8, a9, a10, a11, a12, a13, a14) (nI g) := by
  have e1 : nI g * 2 = nI (g * 2) := pk_mul g 2
  have e2 : nI g * 2 + 1 = nI (g * 2 + 1) := by rw [e1, nI_1]
  exact And.intro (pk_in (g * 2) 8 (by omega) e1) (br_t (by rw [e1, nI_clamp (by omega)]; exact h7 _ (by omega)) (And.intro (pk_in (g * 2 + 1) 8 (by omega) e2) (br_t (by rw [e2, nI_clamp (by omega)]; exact h7 _ (by omega)) H)))
theorem cs_pf63 {post : Int32 → Prop} (h7 : ∀ e, e < 8 → a7 e < 0) (H : post 0) : ∀ g, g ≤ 4 → ∀ x2 : Int32, (g = 0 → x2 = 0) → wX_poolFrame_63 post 100 ck ps a1 a2 a3 a4 a5 a6 a7 a8 a9 a10 a11 a12 a13 a14 (g + 1) x2 (nI g + (-1)) := by
  intro g
  induction g with
  | zero =>
    intro _ x2 h
    rw [h rfl]
    exact br_t (by decide) H
  | succ g ih =>
    intro hg x2 _
    rw [pk_m1 g]
    exact br_f (nI_pos (by omega)) (cs_held h7 (by omega) (br_t rfl (br_t rfl (nm_e (ih (by omega) (nI g) (fun e => by rw [e, nI_0]))))))
theorem cs_poolFrame {post : Int32 → Prop} {v : Int32} (h7 : ∀ e, e < 8 → a7 e < 0) (H : post 0) : wpX_poolFrame post (ck, ps, a1, a2, a3, a4, a5, a6, a7, a8, a9, a10, a11, a12, a13, a14) v :=
  pk_loop (fun n k (_ : Unit) => wX_poolFrame_8 post v ck ps a1 a2 a3 a4 a5 a6 a7 a8 a9 a10 a11 a12 a13 a14 n (-1) 100 (nI k)) (fun _ _ => True) 4 0 () (by omega) trivial
    (fun n _ _ => pk_le 4 4 (fun _ => ⟨5, ek_v (P := fun t => wX_poolFrame_63 post 100 ck ps a1 a2 a3 a4 a5 a6 a7 a8 a9 a10 a11 a12 a13 a14 5 (-1) t) (show (3 : Int32) = nI 4 + (-1) by decide) (cs_pf63 h7 H 4 (by omega) (-1) (fun e => absurd e (by omega)))⟩) (fun t => absurd t (by omega)))
    (fun n k _ hk _ hw => pk_le 4 k (fun t => absurd t (by omega)) (fun _ => cs_held h7 hk (cs_roomIn h7 hk (br_f (by decide) (nm_r (nI_1 k) (hw () trivial))))))
theorem cs_sp43 {post : St2 → Prop} (hs : s < 16) (hz : z < 12) (H : ∀ (c p : Int32) (b1 b2 b3 b4 b5 b6 b7 b8 b9 b10 b11 b12 b13 b14 : Nat → Int32), post (c, p, b1, b2, b3, b4, b5, b6, b7, b8, b9, b10, b11, b12, b13, b14)) : ∃ n, wX_storePacked_43 post 0 (nI z) 0 0 ck (nI s) n 0 a1 a2 a3 a4 a5 a6 a7 a8 a9 a10 a11 a12 a13 a14 :=
  pk_loop (fun n k q => wX_storePacked_43 post 0 (nI z) 0 0 ck (nI s) n (nI k) a1 a2 a3 a4 a5 q a7 a8 a9 a10 a11 a12 a13 a14) (fun _ _ => True) s 0 a6 (by omega) trivial
    (fun n q _ => pk_le s s (fun _ => nm_e ⟨pk_in 0 4 (by omega), nm_e ⟨pk_in z 12 hz, nm_e ⟨pk_in z 12 hz, nm_e (H _ _ _ _ _ _ _ _ _ _ _ _ _ _ _ _)⟩⟩⟩) (fun t => absurd t (by omega)))
    (fun n k q hk _ hw => pk_le s k (fun t => absurd t (by omega)) (fun _ => ⟨pk_in k 24 (by omega), pk_in (0 + k) 64 (by omega) (nI_add 0 k), nm_e (nm_r (nI_1 k) (hw _ trivial))⟩))
theorem cs_storePacked {post : St2 → Prop} (hs : s < 16) (hz : z < 12) (h7 : a7 0 < 0) (H : ∀ (c p : Int32) (b1 b2 b3 b4 b5 b6 b7 b8 b9 b10 b11 b12 b13 b14 : Nat → Int32), post (c, p, b1, b2, b3, b4, b5, b6, b7, b8, b9, b10, b11, b12, b13, b14)) : wpX_storePacked post (ck, nI s, a1, a2, a3, a4, a5, a6, a7, a8, a9, a10, a11, a12, a13, a14) 0 (nI z) :=
  nm_r (e' := (0 : Int32)) (by decide) ⟨pk_in 0 8 (by omega), br_t (by rw [sb_cl0]; exact h7) (And.intro (pk_in 0 8 (by omega)) (nm_e ⟨pk_in 0 8 (by omega), nm_e (nm_r (e' := (0 : Int32)) (by decide) (br_f (by decide) (cs_sp43 hs hz H)))⟩))⟩
/-! the swap area -/
theorem cs_fs30 {post : Int32 → Prop} {x1 x2 v : Int32} {n : Nat} (h1 : ∀ p, p < 12 → ¬ a1 p = 3) (hn : ¬ x1 + 1 < v) (H : wX_freeSlot_30 post x1 ck ps a1 a2 a3 a4 a5 a6 a7 a8 a9 a10 a11 a12 a13 a14 n x2 (v + 1)) : wX_freeSlot_30 post x1 ck ps a1 a2 a3 a4 a5 a6 a7 a8 a9 a10 a11 a12 a13 a14 (n + 1) x2 v :=
  br_f hn (br_c (fun _ => nm_e H) (fun h0 => br_c (fun _ => nm_e H) (fun h12 => by
    obtain ⟨j, hj, rfl⟩ := nI_of h0
    have hj12 : j < 12 := by
      rcases Nat.lt_or_ge j 12 with t | t
      · exact t
      · exact absurd (nI_le t hj) h12
    exact ⟨pk_in j 12 hj12, br_f (by rw [nI_clamp hj]; exact h1 j hj12) (nm_e H)⟩)))
theorem cs_fs5 {post : Int32 → Prop} (hz : z < 12) (h1 : ∀ p, p < 12 → ¬ a1 p = 3) (h11 : ∀ p, p < 12 → a11 p < 0) (H : post 0) : ∀ g, g ≤ 12 → ∀ x2 : Int32, (g = 0 → x2 = 0) → wX_freeSlot_5 post (nI z) ck ps a1 a2 a3 a4 a5 a6 a7 a8 a9 a10 a11 a12 a13 a14 (g + 1) x2 (nI g + (-1)) := by
  intro g
  induction g with
  | zero =>
    intro _ x2 h
    rw [h rfl]
    obtain ⟨d1, d2, d3, d4⟩ := cs_d1 z hz
    exact br_t (by decide) (nm_e ⟨4, cs_fs30 h1 d1 (cs_fs30 h1 d2 (cs_fs30 h1 d3 (br_t d4 H)))⟩)
  | succ g ih =>
    intro hg x2 _
    rw [pk_m1 g]
    exact br_f (nI_pos (by omega)) ⟨pk_in g 12 (by omega), br_f (by rw [nI_clamp (by omega)]; exact Int32.not_le.mpr (h11 g (by omega))) (nm_e (ih (by omega) (nI g) (fun e => by rw [e, nI_0])))⟩
theorem cs_freeSlot {post : Int32 → Prop} (hz : z < 12) (h1 : ∀ p, p < 12 → ¬ a1 p = 3) (h11 : ∀ p, p < 12 → a11 p < 0) (H : post 0) : wpX_freeSlot post (ck, ps, a1, a2, a3, a4, a5, a6, a7, a8, a9, a10, a11, a12, a13, a14) (nI z) :=
  ⟨13, ek_v (P := fun t => wX_freeSlot_5 post (nI z) ck ps a1 a2 a3 a4 a5 a6 a7 a8 a9 a10 a11 a12 a13 a14 13 (-1) t) (show (11 : Int32) = nI 12 + (-1) by decide) (cs_fs5 hz h1 h11 H 12 (by omega) (-1) (fun e => absurd e (by omega)))⟩
theorem cs_storeSlot {post : St2 → Prop} (hz : z < 12) (H : ∀ (c p : Int32) (b1 b2 b3 b4 b5 b6 b7 b8 b9 b10 b11 b12 b13 b14 : Nat → Int32), post (c, p, b1, b2, b3, b4, b5, b6, b7, b8, b9, b10, b11, b12, b13, b14)) : wpX_storeSlot post (ck, ps, a1, a2, a3, a4, a5, a6, a7, a8, a9, a10, a11, a12, a13, a14) 0 (nI z) :=
  br_t (by decide) (pk_loop (fun n k q => wX_storeSlot_7 post 0 (nI z) ck ps n (nI k) a1 a2 a3 a4 a5 a6 a7 a8 a9 q a11 a12 a13 a14) (fun _ _ => True) 16 0 a10 (by omega) trivial
    (fun n q _ => pk_le 16 16 (fun _ => ⟨pk_in 0 12 (by omega), nm_e ⟨pk_in z 12 hz, nm_e ⟨pk_in z 12 hz, nm_e (H _ _ _ _ _ _ _ _ _ _ _ _ _ _ _ _)⟩⟩⟩) (fun t => absurd t (by omega)))
    (fun n k q hk _ hw => pk_le 16 k (fun t => absurd t (by omega)) (fun _ => ⟨pk_in k 16 hk, pk_in (0 * 16 + k) 192 (by omega) (cs_fx 0 k), nm_e (nm_r (nI_1 k) (hw _ trivial))⟩)))
theorem cs_u3 {c : Nat} (h1 : ∀ p, p < 12 → ¬ a1 p = 3) : ∀ p, p < 12 → ¬ upd a1 c 0 p = 3 := by
  intro p hp
  by_cases e : p = c
  · rw [e, pk_us]
    decide
  · rw [pk_un e]
    exact h1 p hp
theorem cs_evict49 {post : St2 → Prop} (hg : g < 3) (hz : z < 12) (h1 : ∀ p, p < 12 → ¬ a1 p = 3) (h11 : ∀ p, p < 12 → a11 p < 0) (H : ∀ (c p : Int32) (b1 b2 b3 b4 b5 b6 b7 b8 b9 b10 b11 b12 b13 b14 : Nat → Int32), post (c, p, b1, b2, b3, b4, b5, b6, b7, b8, b9, b10, b11, b12, b13, b14)) : ∃ n, wX_evict_49 post (nI g) (nI z) ck ps n 0 a1 a2 a3 a4 a5 a6 a7 a8 a9 a10 a11 a12 a13 a14 :=
  pk_loop (fun n k q => wX_evict_49 post (nI g) (nI z) ck ps n (nI k) a1 a2 a3 a4 a5 a6 a7 a8 a9 a10 a11 a12 q a14) (fun _ _ => True) 16 0 a13 (by omega) trivial
    (fun n q _ => pk_le 16 16 (fun _ => ⟨pk_in z 12 hz, nm_e (cs_freeSlot hz (cs_u3 h1) h11 (cs_storeSlot hz H))⟩) (fun t => absurd t (by omega)))
    (fun n k q hk _ hw => pk_le 16 k (fun t => absurd t (by omega)) (fun _ => ⟨pk_in (g * 16 + k) 48 (by omega) (cs_fx g k), pk_in k 16 hk, nm_e (nm_r (nI_1 k) (hw _ trivial))⟩))
theorem cs_evict {post : St2 → Prop} (hg : g < 3) (h4 : a4 g = nI z) (hz : z < 12) (h1 : ∀ p, p < 12 → ¬ a1 p = 3) (h7 : ∀ e, e < 8 → a7 e < 0) (h11 : ∀ p, p < 12 → a11 p < 0) (H : ∀ (c p : Int32) (b1 b2 b3 b4 b5 b6 b7 b8 b9 b10 b11 b12 b13 b14 : Nat → Int32), post (c, p, b1, b2, b3, b4, b5, b6, b7, b8, b9, b10, b11, b12, b13, b14)) : wpX_evict post (ck, ps, a1, a2, a3, a4, a5, a6, a7, a8, a9, a10, a11, a12, a13, a14) (nI g) := by
  have vz : vp_in (nI z) 12 := pk_in z 12 hz
  have e4 : a4 (nI g).toNatClampNeg = nI z := by rw [nI_clamp (by omega)]; exact h4
  exact And.intro (pk_in g 3 hg) (nm_r e4 ⟨pk_in g 3 hg, nm_e (cs_blankFrame hg (fun r => br_c
    (fun _ => cs_pack hg (fun s c12 hs => pk_lt s 16 (fun h16 => ⟨vz, nm_e (cs_poolFrame h7 (br_t (by decide) (cs_storePacked h16 hz (h7 0 (by omega)) H)))⟩) (fun _ => cs_evict49 hg hz h1 h11 H)))
    (fun _ => ⟨vz, nm_e (H _ _ _ _ _ _ _ _ _ _ _ _ _ _ _ _)⟩)))⟩)
theorem cs_away {post : Int32 → St2 → Prop} {u : St2} {q : Int32} {M : Nat → Nat → Int32} (o : cs_S x y M u)
    (H1 : cs_pg q 12 → ∀ u', post 0 u') (H0 : ¬ cs_pg q 12 → post (-1) u) : wpX_away post u q := by
  obtain ⟨ck, ps, a1, a2, a3, a4, a5, a6, a7, a8, a9, a10, a11, a12, a13, a14⟩ := u
  unfold wpX_away
  dsimp only
  refine cs_badPage (fun hz => br_t rfl ?_) (fun h => br_f (by decide) (H0 h))
  have H2 := H1 hz
  obtain ⟨z, hz, rfl⟩ := hz
  have vz : vp_in (nI z) 12 := pk_in z 12 hz
  refine ⟨vz, ?_⟩
  rw [nI_clamp (show z < 2 ^ 31 by omega)]
  by_cases h1 : a1 z = 1
  · obtain ⟨g, hg, e2, e4⟩ := cs_place o hz h1
    obtain ⟨k, P, ok⟩ := o
    rw [e2]
    refine br_t h1 ⟨vz, cs_evict (by omega) e4 hz ?_ ok.2.2.2.2.1 ok.2.2.2.2.2 (fun _ _ _ _ _ _ _ _ _ _ _ _ _ _ _ _ => H2 _)⟩
    intro p hp
    by_cases c : ∃ f, f < k ∧ P f = p
    · obtain ⟨f, hf, rfl⟩ := c
      rw [(ok.2.1 f hf).2.2.2.1]
      decide
    · rw [(ok.2.2.2.1 p hp (fun f hf e => c ⟨f, hf, e⟩)).1]
      decide
  · exact br_f h1 (H2 _)
end
end
section
/-! each call with one way on: what it answered and what the pages hold, told as one fact -/
def cs_Wd (p i b : Int32) : Prop := cs_pg p 12 ∧ cs_pg i 16 ∧ cs_pg b 256
def cs_Vd (p i n : Int32) : Prop := ∃ z c m, z < 12 ∧ c < 16 ∧ c + m ≤ 16 ∧ p = nI z ∧ i = nI c ∧ n = nI m
def cs_rw (p i b : Int32) (M M' : Nat → Nat → Int32) (r : Int32) : Prop :=
  (∃ z c e, z < 12 ∧ c < 16 ∧ e < 256 ∧ p = nI z ∧ i = nI c ∧ b = nI e ∧ M' = cs_set M z c (nI e) ∧ r = M z c) ∨ (¬ cs_Wd p i b ∧ M' = M ∧ r = -1)
def cs_rf (p i b : Int32) (M M' : Nat → Nat → Int32) (r : Int32) : Prop :=
  (∃ z c e, z < 12 ∧ c < 16 ∧ e < 256 ∧ p = nI z ∧ i = nI c ∧ b = nI e ∧ M' = cs_fl M z c 16 (nI e) ∧ r = nI (15 - c + 1)) ∨ (¬ cs_Wd p i b ∧ M' = M ∧ r = -1)
def cs_rm (p i n : Int32) (M M' : Nat → Nat → Int32) (r : Int32) : Prop :=
  (∃ z c m, z < 12 ∧ c < 16 ∧ c + m ≤ 16 ∧ p = nI z ∧ i = nI c ∧ n = nI m ∧ M' = cs_mv M z c m ∧ r = 0) ∨ (¬ cs_Vd p i n ∧ M' = M ∧ r = -1)
def cs_rs (q : Int32) (M : Nat → Nat → Int32) (r : Int32) : Prop := (∃ w, w < 12 ∧ q = nI w ∧ r = cs_sum (M w) 16) ∨ (¬ cs_pg q 12 ∧ r = -1)
def cs_rc (p q : Int32) (M : Nat → Nat → Int32) (r : Int32) : Prop := (∃ z w, z < 12 ∧ w < 12 ∧ p = nI z ∧ q = nI w ∧ r = cs_cnt (M z) (M w) 16) ∨ (¬ (cs_pg p 12 ∧ cs_pg q 12) ∧ r = -1)
def cs_ra (q : Int32) (r : Int32) : Prop := (cs_pg q 12 ∧ r = 0) ∨ (¬ cs_pg q 12 ∧ r = -1)
section
variable {x y : Nat} {M : Nat → Nat → Int32} {post : Int32 → St2 → Prop} {u : St2} {p q i b n : Int32}
theorem cs_writeR (o : cs_S x y M u) (hp : ∀ z, z < 12 → p = nI z → z = x ∨ z = y) (H : ∀ r u' M', cs_S x y M' u' → cs_rw p i b M M' r → post r u') : wpX_write post u p i b :=
  cs_write o hp (fun z c e hz hc he ep ei eb u' o' => H _ u' _ o' (Or.inl ⟨z, c, e, hz, hc, he, ep, ei, eb, rfl, rfl⟩)) (fun h => H _ _ _ o (Or.inr ⟨h, rfl, rfl⟩))
theorem cs_fillR (o : cs_S x y M u) (hp : ∀ z, z < 12 → p = nI z → z = x ∨ z = y) (H : ∀ r u' M', cs_S x y M' u' → cs_rf p i b M M' r → post r u') : wpX_fill post u p i 15 b :=
  cs_fill o hp (fun z c e hz hc he ep ei eb u' o' => H _ u' _ o' (Or.inl ⟨z, c, e, hz, hc, he, ep, ei, eb, rfl, rfl⟩)) (fun h => H _ _ _ o (Or.inr ⟨h, rfl, rfl⟩))
theorem cs_moveR (o : cs_S x y M u) (hp : ∀ z, z < 12 → p = nI z → z = x ∨ z = y) (H : ∀ r u' M', cs_S x y M' u' → cs_rm p i n M M' r → post r u') : wpX_move post u p i 0 n :=
  cs_move o hp (fun z c e hz hc he ep ei eb u' o' => H _ u' _ o' (Or.inl ⟨z, c, e, hz, hc, he, ep, ei, eb, rfl, rfl⟩)) (fun h => H _ _ _ o (Or.inr ⟨h, rfl, rfl⟩))
theorem cs_sumR (o : cs_S x y M u) (hp : ∀ z, z < 12 → q = nI z → z = x ∨ z = y) (H : ∀ r u', cs_S x y M u' → cs_rs q M r → post r u') : wpX_sum post u q :=
  cs_sumC o hp (fun z hz e u' o' => H _ u' o' (Or.inl ⟨z, hz, e, rfl⟩)) (fun h => H _ _ o (Or.inr ⟨h, rfl⟩))
theorem cs_copyR (o : cs_S x y M u) (hp : ∀ z, z < 12 → p = nI z → z = x ∨ z = y) (hq : ∀ z, z < 12 → q = nI z → z = x ∨ z = y) (H : ∀ r u' M', cs_S x y M' u' → cs_rc p q M r → post r u') : wpX_copy post u p q :=
  cs_copy o hp hq (fun z w hz hw e e' u' M' o' => H _ u' M' o' (Or.inl ⟨z, w, hz, hw, e, e', rfl⟩)) (fun h => H _ _ _ o (Or.inr ⟨h, rfl⟩))
theorem cs_awayR (o : cs_S x y M u) (H : ∀ r u', cs_ra q r → post r u') : wpX_away post u q :=
  cs_away o (fun h u' => H _ u' (Or.inl ⟨h, rfl⟩)) (fun h => H _ _ (Or.inr ⟨h, rfl⟩))
end
/-! sums and counts -/
theorem cs_sumG {c d : Nat → Int32} {k : Nat} (h : ∀ j, j < k → c j = d j) : cs_sum c k = cs_sum d k := by
  induction k with
  | zero => rfl
  | succ k ih =>
    show cs_sum c k + (nI k + 1) * c k = cs_sum d k + (nI k + 1) * d k
    rw [ih (fun j hj => h j (by omega)), h k (by omega)]
theorem cs_sumM (v : Int32) (d : Nat → Int32) (k : Nat) : cs_sum (fun j => v * d j) k = v * cs_sum d k := by
  induction k with
  | zero =>
    show (0 : Int32) = v * 0
    rw [Int32.mul_zero]
  | succ k ih =>
    show cs_sum (fun j => v * d j) k + (nI k + 1) * (v * d k) = v * (cs_sum d k + (nI k + 1) * d k)
    rw [ih]
    grind
theorem cs_sum0 (k : Nat) : cs_sum (fun _ => 0) k = 0 := by
  induction k with
  | zero => rfl
  | succ k ih =>
    show cs_sum (fun _ => 0) k + (nI k + 1) * 0 = 0
    rw [ih, Int32.mul_zero]
    rfl
theorem cs_cntG {c d c' d' : Nat → Int32} {k : Nat} (h : ∀ j, j < k → (c j = d j ↔ c' j = d' j)) : cs_cnt c d k = cs_cnt c' d' k := by
  induction k with
  | zero => rfl
  | succ k ih =>
    show (if c k = d k then cs_cnt c d k else cs_cnt c d k + 1) = (if c' k = d' k then cs_cnt c' d' k else cs_cnt c' d' k + 1)
    rw [ih (fun j hj => h j (by omega))]
    by_cases e : c k = d k
    · rw [if_pos e, if_pos ((h k (by omega)).mp e)]
    · rw [if_neg e, if_neg (fun t => e ((h k (by omega)).mpr t))]
theorem cs_cnt0 {c d : Nat → Int32} {k : Nat} (h : ∀ j, j < k → c j = d j) : cs_cnt c d k = 0 := by
  induction k with
  | zero => rfl
  | succ k ih =>
    show (if c k = d k then cs_cnt c d k else cs_cnt c d k + 1) = 0
    rw [if_pos (h k (by omega)), ih (fun j hj => h j (by omega))]
/-- the two ends of a page: below h, and from c on -/
def cs_b (h c j : Nat) : Int32 := if j < h ∨ c ≤ j then 1 else 0
theorem cs_tabS : ∀ c, c < 16 → ∀ h, h < 16 → h ≤ c → cs_sum (cs_b h c) 16 = (136 - ((nI c * (nI c + 1)) / 2)) + ((nI h * (nI h + 1)) / 2) := by decide +kernel
theorem cs_tabC : ∀ c, c < 16 → ∀ h, h < 16 → h ≤ c → cs_cnt (cs_b h c) (fun _ => 0) 16 = (16 - nI c) + nI h := by decide +kernel
/-! the law's own checks, by flags -/
def cs_fg (v : Int32) (A : Prop) : Prop := (v = 1 ∧ A) ∨ (v = 0 ∧ ¬ A)
theorem cs_fgE (A : Prop) : ∃ v, cs_fg v A := by
  by_cases h : A
  · exact ⟨1, Or.inl ⟨rfl, h⟩⟩
  · exact ⟨0, Or.inr ⟨rfl, h⟩⟩
theorem cs_fg1 {v : Int32} {A : Prop} (f : cs_fg v A) (h : A) : v = 1 := by
  rcases f with ⟨e, _⟩ | ⟨_, n⟩
  · exact e
  · exact absurd h n
theorem cs_fg0 {v : Int32} {A : Prop} (f : cs_fg v A) (h : ¬ A) : v = 0 := by
  rcases f with ⟨_, n⟩ | ⟨e, _⟩
  · exact absurd n h
  · exact e
theorem cs_fgT {v : Int32} {A : Prop} (f : cs_fg v A) (h : ¬ v = 0) : A := by
  rcases f with ⟨_, n⟩ | ⟨e, _⟩
  · exact n
  · exact absurd e h
theorem cs_fgF {v : Int32} {A : Prop} (f : cs_fg v A) (h : v = 0) : ¬ A := by
  rcases f with ⟨e, _⟩ | ⟨_, n⟩
  · rw [h] at e
    exact absurd e (by decide)
  · exact n
theorem cs_check {post : Int32 → St0 → Prop} {mc ms kc ks : Nat} {p i b q n r6 r7 r8 r9 r10 r11 pI qI iI wI mI hd sz : Int32} (h : post 1 ())
    (fP : cs_fg pI (¬ p < 0 ∧ ¬ 11 < p)) (fQ : cs_fg qI (¬ q < 0 ∧ ¬ 11 < q)) (fI : cs_fg iI (¬ i < 0 ∧ ¬ 15 < i))
    (fW : cs_fg wI (¬ pI = 0 ∧ ¬ iI = 0 ∧ ¬ b < 0 ∧ ¬ 255 < b)) (fV : cs_fg mI (¬ pI = 0 ∧ ¬ iI = 0 ∧ ¬ n < 0 ∧ ¬ 16 < n ∧ ¬ 16 < i + n))
    (hd0 : mI = 0 → hd = 0) (hd1 : ¬ mI = 0 → i ≤ n → hd = i) (hd2 : ¬ mI = 0 → ¬ i ≤ n → hd = n)
    (sz0 : wI = 0 → sz = 0) (sz1 : b = 0 → sz = 0) (sz2 : ¬ wI = 0 → ¬ b = 0 → sz = (16 - i) + hd)
    (R6 : wI = 0 → r6 = -1) (R6' : ¬ wI = 0 → r6 = 0) (R7 : wI = 0 → r7 = -1) (R7' : ¬ wI = 0 → r7 = 16 - i) (R8 : mI = 0 → r8 = -1) (R8' : ¬ mI = 0 → r8 = 0)
    (R9 : qI = 0 → r9 = -1) (R9' : ¬ qI = 0 → q = p → ¬ wI = 0 → r9 = b * ((136 - ((i * (i + 1)) / 2)) + ((hd * (hd + 1)) / 2))) (R9'' : ¬ qI = 0 → (¬ q = p ∨ wI = 0) → r9 = 0)
    (R10 : (pI = 0 ∨ qI = 0) → r10 = -1) (R10' : ¬ pI = 0 → ¬ qI = 0 → p = q → r10 = 0) (R10'' : ¬ pI = 0 → ¬ qI = 0 → ¬ p = q → r10 = sz)
    (R11 : qI = 0 → r11 = -1) (R11' : ¬ qI = 0 → r11 = 0) :
    (p < 0 → wL_lawOf_82 post mc ms p i b q n r6 r7 r8 r9 r10 r11 kc ks) ∧ (¬ p < 0 → ((11 < p → wL_lawOf_82 post mc ms p i b q n r6 r7 r8 r9 r10 r11 kc ks) ∧ (¬ 11 < p → wL_lawOf_83 post mc ms p i b q n r6 r7 r8 r9 r10 r11 1 kc ks))) := by
  have L358 : ∀ z0 z1 : Int32, z1 = z0 → wL_lawOf_358 post mc ms r11 qI z0 z1 kc ks := fun z0 z1 e =>
    br_t e (br_c (fun c => br_t (R11 c) h) (fun c => br_t (R11' c) h))
  have L328 : ∀ z0 z1 : Int32, z1 = z0 → wL_lawOf_328 post mc ms p q r10 r11 pI qI sz z0 z1 kc ks := fun z0 z1 e =>
    br_t e (br_c (fun c => L358 _ _ (R10 (Or.inl c))) (fun c => br_c (fun d => L358 _ _ (R10 (Or.inr d))) (fun d => br_c (fun g => L358 _ _ (R10' c d g)) (fun g => L358 _ _ (R10'' c d g)))))
  have L277 : ∀ z0 z1 : Int32, z1 = z0 → wL_lawOf_277 post mc ms p i b q r9 r10 r11 pI qI wI hd sz z0 z1 kc ks := fun z0 z1 e =>
    br_t e (br_c (fun c => L328 _ _ (R9 c)) (fun c => br_c (fun d => br_c (fun w => L328 _ _ (R9'' c (Or.inr w))) (fun w => ⟨by decide, by decide, L328 _ _ (R9' c d w)⟩)) (fun d => L328 _ _ (R9'' c (Or.inl d)))))
  have L262 : ∀ z0 z1 : Int32, z1 = z0 → wL_lawOf_262 post mc ms p i b q r8 r9 r10 r11 pI qI wI mI hd sz z0 z1 kc ks := fun z0 z1 e =>
    br_t e (br_c (fun c => L277 _ _ (R8 c)) (fun c => L277 _ _ (R8' c)))
  have L246 : ∀ z0 z1 : Int32, z1 = z0 → wL_lawOf_246 post mc ms p i b q r7 r8 r9 r10 r11 pI qI wI mI (16 - i) hd sz z0 z1 kc ks := fun z0 z1 e =>
    br_t e (br_c (fun c => L262 _ _ (R7 c)) (fun c => L262 _ _ (R7' c)))
  have L232 : wL_lawOf_232 post mc ms p i b q r6 r7 r8 r9 r10 r11 pI qI wI mI (16 - i) hd sz kc ks :=
    br_c (fun c => L246 _ _ (R6 c)) (fun c => L246 _ _ (R6' c))
  have L212 : wL_lawOf_212 post mc ms p i b q r6 r7 r8 r9 r10 r11 pI qI wI mI (16 - i) hd kc ks := by
    refine br_c (fun c => ?_) (fun c => br_c (fun d => ?_) (fun d => ?_))
    · rw [sz0 c] at L232
      exact L232
    · rw [sz1 d] at L232
      exact L232
    · rw [sz2 c d] at L232
      exact L232
  have L183 : wL_lawOf_183 post mc ms p i b q n r6 r7 r8 r9 r10 r11 pI qI wI mI kc ks := by
    refine nm_e (br_c (fun c => ?_) (fun c => br_c (fun d => ?_) (fun d => ?_)))
    · rw [hd0 c] at L212
      exact L212
    · rw [hd1 c d] at L212
      exact L212
    · rw [hd2 c d] at L212
      exact L212
  have L145 : wL_lawOf_145 post mc ms p i b q n r6 r7 r8 r9 r10 r11 pI qI iI wI kc ks := by
    have Z : ¬ (¬ pI = 0 ∧ ¬ iI = 0 ∧ ¬ n < 0 ∧ ¬ 16 < n ∧ ¬ 16 < i + n) → wL_lawOf_182 post mc ms p i b q n r6 r7 r8 r9 r10 r11 pI qI wI kc ks := by
      intro hn
      rw [cs_fg0 fV hn] at L183
      exact L183
    refine br_c (fun c => Z (fun t => t.1 c)) (fun c => br_c (fun d => Z (fun t => t.2.1 d)) (fun d => br_c (fun e => Z (fun t => t.2.2.1 e)) (fun e => br_c (fun g => Z (fun t => t.2.2.2.1 g)) (fun g => br_c (fun k => Z (fun t => t.2.2.2.2 k)) (fun k => ?_)))))
    rw [cs_fg1 fV ⟨c, d, e, g, k⟩] at L183
    exact L183
  have L117 : wL_lawOf_117 post mc ms p i b q n r6 r7 r8 r9 r10 r11 pI qI iI kc ks := by
    have Z : ¬ (¬ pI = 0 ∧ ¬ iI = 0 ∧ ¬ b < 0 ∧ ¬ 255 < b) → wL_lawOf_144 post mc ms p i b q n r6 r7 r8 r9 r10 r11 pI qI iI kc ks := by
      intro hn
      rw [cs_fg0 fW hn] at L145
      exact L145
    refine br_c (fun c => Z (fun t => t.1 c)) (fun c => br_c (fun d => Z (fun t => t.2.1 d)) (fun d => br_c (fun e => Z (fun t => t.2.2.1 e)) (fun e => br_c (fun g => Z (fun t => t.2.2.2 g)) (fun g => ?_))))
    rw [cs_fg1 fW ⟨c, d, e, g⟩] at L145
    exact L145
  have L100 : wL_lawOf_100 post mc ms p i b q n r6 r7 r8 r9 r10 r11 pI qI kc ks := by
    have Z : ¬ (¬ i < 0 ∧ ¬ 15 < i) → wL_lawOf_116 post mc ms p i b q n r6 r7 r8 r9 r10 r11 pI qI kc ks := by
      intro hn
      rw [cs_fg0 fI hn] at L117
      exact L117
    refine br_c (fun c => Z (fun t => t.1 c)) (fun c => br_c (fun d => Z (fun t => t.2 d)) (fun d => ?_))
    rw [cs_fg1 fI ⟨c, d⟩] at L117
    exact L117
  have L83 : wL_lawOf_83 post mc ms p i b q n r6 r7 r8 r9 r10 r11 pI kc ks := by
    have Z : ¬ (¬ q < 0 ∧ ¬ 11 < q) → wL_lawOf_99 post mc ms p i b q n r6 r7 r8 r9 r10 r11 pI kc ks := by
      intro hn
      rw [cs_fg0 fQ hn] at L100
      exact L100
    refine br_c (fun c => Z (fun t => t.1 c)) (fun c => br_c (fun d => Z (fun t => t.2 d)) (fun d => ?_))
    rw [cs_fg1 fQ ⟨c, d⟩] at L100
    exact L100
  have Z : ¬ (¬ p < 0 ∧ ¬ 11 < p) → wL_lawOf_82 post mc ms p i b q n r6 r7 r8 r9 r10 r11 kc ks := by
    intro hn
    rw [cs_fg0 fP hn] at L83
    exact L83
  refine br_c (fun c => Z (fun t => t.1 c)) (fun c => br_c (fun d => Z (fun t => t.2 d)) (fun d => ?_))
  rw [cs_fg1 fP ⟨c, d⟩] at L83
  exact L83
end
section
theorem cs_in11 {p : Int32} (n : Nat) (hn : n + 1 < 2 ^ 31) : (¬ p < 0 ∧ ¬ nI n < p) ↔ cs_pg p (n + 1) := by
  constructor
  · rintro ⟨h0, h⟩
    obtain ⟨j, hj, rfl⟩ := nI_of h0
    refine ⟨j, ?_, rfl⟩
    rcases Nat.lt_or_ge j (n + 1) with t | t
    · exact t
    · exact absurd (nI_lt (show n < j by omega) hj) h
  · rintro ⟨z, hz, rfl⟩
    exact ⟨nI_pos (by omega), nI_nlt (by omega) (by omega)⟩
theorem cs_inj {z z' : Nat} {p : Int32} (e : p = nI z) (e' : p = nI z') (h : z < 300) (h' : z' < 300) : z' = z := by
  rw [e] at e'
  exact ((nI_eq (by omega) (by omega)).mp e').symm
theorem cs_Vi {p i n : Int32} : (cs_pg p 12 ∧ cs_pg i 16 ∧ ¬ n < 0 ∧ ¬ 16 < n ∧ ¬ 16 < i + n) ↔ cs_Vd p i n := by
  constructor
  · rintro ⟨⟨z, hz, rfl⟩, ⟨c, hc, rfl⟩, h0, h16, hs⟩
    obtain ⟨m, hm, rfl⟩ := (cs_in11 16 (by decide)).mp ⟨h0, h16⟩
    refine ⟨z, c, m, hz, hc, ?_, rfl, rfl, rfl⟩
    rw [nI_add] at hs
    rcases Nat.lt_or_ge 16 (c + m) with t | t
    · exact absurd (nI_lt t (by omega)) hs
    · exact t
  · rintro ⟨z, c, m, hz, hc, hm, rfl, rfl, rfl⟩
    obtain ⟨h0, h16⟩ := (cs_in11 (p := nI m) 16 (by decide)).mpr ⟨m, by omega, rfl⟩
    refine ⟨cs_pgI hz, cs_pgI hc, h0, h16, ?_⟩
    rw [nI_add]
    exact nI_nlt hm (by decide)
section
variable {p i b n r6 r7 r8 : Int32} {M1 M2 M3 : Nat → Nat → Int32}
theorem cs_pureN (hW : ¬ cs_Wd p i b) (w1 : cs_rw p i b (fun _ _ => 0) M1 r6) (w2 : cs_rf p i b M1 M2 r7) (w3 : cs_rm p i n M2 M3 r8) : r6 = -1 ∧ r7 = -1 ∧ ∀ x j, M3 x j = 0 := by
  rcases w1 with ⟨z, c, e, hz, hc, he, ep, ei, eb, _⟩ | ⟨_, m1, h6⟩
  · exact absurd ⟨⟨z, hz, ep⟩, ⟨c, hc, ei⟩, ⟨e, he, eb⟩⟩ hW
  rcases w2 with ⟨z, c, e, hz, hc, he, ep, ei, eb, _⟩ | ⟨_, m2, h7⟩
  · exact absurd ⟨⟨z, hz, ep⟩, ⟨c, hc, ei⟩, ⟨e, he, eb⟩⟩ hW
  refine ⟨h6, h7, fun x j => ?_⟩
  rcases w3 with ⟨z, c, m, _, _, _, _, _, _, m3, _⟩ | ⟨_, m3, _⟩
  · rw [m3, m2, m1]
    unfold cs_mv
    by_cases t : x = z ∧ j < m
    · rw [if_pos t]
    · rw [if_neg t]
  · rw [m3, m2, m1]
theorem cs_pureW (hW : cs_Wd p i b) (w1 : cs_rw p i b (fun _ _ => 0) M1 r6) (w2 : cs_rf p i b M1 M2 r7) (w3 : cs_rm p i n M2 M3 r8) : r6 = 0 ∧ r7 = 16 - i ∧
    ∃ z c e h, z < 12 ∧ c < 16 ∧ e < 256 ∧ h ≤ c ∧ p = nI z ∧ i = nI c ∧ b = nI e ∧ (∀ x j, j < 16 → M3 x j = if x = z ∧ (j < h ∨ c ≤ j) then nI e else 0) ∧
      ((¬ cs_Vd p i n ∧ h = 0) ∨ (∃ m, cs_Vd p i n ∧ m ≤ 16 ∧ n = nI m ∧ h = min c m)) := by
  rcases w1 with ⟨z, c, e, hz, hc, he, ep, ei, eb, m1, h6⟩ | ⟨h, _⟩
  rotate_left
  · exact absurd hW h
  rcases w2 with ⟨z', c', e', hz', hc', he', ep', ei', eb', m2, h7⟩ | ⟨h, _⟩
  rotate_left
  · exact absurd hW h
  have ez := cs_inj ep ep' (by omega) (by omega)
  have ec := cs_inj ei ei' (by omega) (by omega)
  have ee := cs_inj eb eb' (by omega) (by omega)
  subst ez ec ee
  have D2 : ∀ x j, j < 16 → M2 x j = if x = z' ∧ c' ≤ j then nI e' else 0 := by
    intro x j hj
    rw [m2, m1]
    unfold cs_fl
    by_cases t : x = z' ∧ c' ≤ j
    · rw [if_pos ⟨t.1, t.2, hj⟩, if_pos t]
    · rw [if_neg (fun s => t ⟨s.1, s.2.1⟩), if_neg t, cs_setN (fun s => t ⟨s.1, by omega⟩)]
  refine ⟨h6, ?_, ?_⟩
  · rw [h7, ei, show (16 : Int32) = nI 16 from rfl, pk_sub (by omega), show 15 - c' + 1 = 16 - c' by omega]
  rcases w3 with ⟨z, c, m, hz3, hc3, hm3, ep3, ei3, en3, m3, _⟩ | ⟨hV, m3, _⟩
  · have ez := cs_inj ep ep3 (by omega) (by omega)
    have ec := cs_inj ei ei3 (by omega) (by omega)
    subst ez ec
    refine ⟨z, c, e', min c m, hz3, hc3, he', Nat.min_le_left c m, ep3, ei3, eb, fun x j hj => ?_, Or.inr ⟨m, ⟨z, c, m, hz3, hc3, hm3, ep3, ei3, en3⟩, by omega, en3, rfl⟩⟩
    rw [m3]
    unfold cs_mv
    by_cases t : x = z ∧ j < m
    · rw [if_pos t, D2 z (c + j) (by omega), if_pos ⟨rfl, by omega⟩, if_pos ⟨t.1, by omega⟩]
    · rw [if_neg t, D2 x j hj]
      by_cases s : x = z ∧ c ≤ j
      · rw [if_pos s, if_pos ⟨s.1, Or.inr s.2⟩]
      · rw [if_neg s, if_neg (by omega)]
  · refine ⟨z', c', e', 0, hz', hc', he', by omega, ep, ei, eb, fun x j hj => ?_, Or.inl ⟨hV, rfl⟩⟩
    rw [m3, D2 x j hj]
    by_cases s : x = z' ∧ c' ≤ j
    · rw [if_pos s, if_pos ⟨s.1, Or.inr s.2⟩]
    · rw [if_neg s, if_neg (by omega)]
theorem cs_head {p i n mI : Int32} (fV : mI = 0 → ¬ cs_Vd p i n) (fV' : ¬ mI = 0 → cs_Vd p i n) {c h : Nat} (hc : c < 16) (ei : i = nI c) {hd : Int32} (hd0 : mI = 0 → hd = 0) (hd1 : ¬ mI = 0 → i ≤ n → hd = i) (hd2 : ¬ mI = 0 → ¬ i ≤ n → hd = n)
    (hh : (¬ cs_Vd p i n ∧ h = 0) ∨ (∃ m, cs_Vd p i n ∧ m ≤ 16 ∧ n = nI m ∧ h = min c m)) : hd = nI h := by
  rcases hh with ⟨hV, rfl⟩ | ⟨m, hV, hm, en, rfl⟩
  · by_cases e : mI = 0
    · rw [hd0 e, nI_0]
    · exact absurd (fV' e) hV
  · have e : ¬ mI = 0 := fun e => fV e hV
    by_cases t : c ≤ m
    · rw [hd1 e (by rw [ei, en]; exact nI_le t (by omega)), ei, show min c m = c by omega]
    · rw [hd2 e (by rw [ei, en]; exact nI_ge (by omega) (by omega)), en, show min c m = m by omega]
end
theorem cs_lawOf (p i b q n : Int32) : wpL_lawOf (fun r _ => r = 1) 250 4000 () p i b q n := by
  obtain ⟨x, hx⟩ : ∃ x, ∀ z, z < 12 → p = nI z → z = x := by
    by_cases h : cs_pg p 12
    · obtain ⟨x, hx, rfl⟩ := h
      exact ⟨x, fun z hz e => ((nI_eq (by omega) (by omega)).mp e).symm⟩
    · exact ⟨0, fun z hz e => absurd ⟨z, hz, e⟩ h⟩
  obtain ⟨y, hy⟩ : ∃ y, ∀ z, z < 12 → q = nI z → z = y := by
    by_cases h : cs_pg q 12
    · obtain ⟨x, hx, rfl⟩ := h
      exact ⟨x, fun z hz e => ((nI_eq (by omega) (by omega)).mp e).symm⟩
    · exact ⟨0, fun z hz e => absurd ⟨z, hz, e⟩ h⟩
  have hp : ∀ z, z < 12 → p = nI z → z = x ∨ z = y := fun z hz e => Or.inl (hx z hz e)
  have hq : ∀ z, z < 12 → q = nI z → z = x ∨ z = y := fun z hz e => Or.inr (hy z hz e)
  refine ⟨by omega, by omega, 249, 3984, by omega, by omega, cs_init (by omega) (by omega) (fun c4 c7 c11 h4 h7 h11 => ?_)⟩
  have o : cs_S x y (fun _ _ => 0) (0, 0, (fun _ => 0), (fun _ => 0), (fun _ => 0), c4, (fun _ => 0), (fun _ => 0), c7, (fun _ => 0), (fun _ => 0), (fun _ => 0), c11, (fun _ => 0), (fun _ => 0), (fun _ => 0)) := cs_ok0 h4 h7 h11
  refine cs_writeR o hp (fun r6 u1 M1 o1 w1 => ?_)
  obtain ⟨ck, ps, a1, a2, a3, a4, a5, a6, a7, a8, a9, a10, a11, a12, a13, a14⟩ := u1
  refine cs_fillR o1 hp (fun r7 u2 M2 o2 w2 => ?_)
  obtain ⟨ck, ps, a1, a2, a3, a4, a5, a6, a7, a8, a9, a10, a11, a12, a13, a14⟩ := u2
  refine cs_moveR o2 hp (fun r8 u3 M3 o3 w3 => ?_)
  obtain ⟨ck, ps, a1, a2, a3, a4, a5, a6, a7, a8, a9, a10, a11, a12, a13, a14⟩ := u3
  refine cs_sumR o3 hq (fun r9 u4 o4 w4 => ?_)
  obtain ⟨ck, ps, a1, a2, a3, a4, a5, a6, a7, a8, a9, a10, a11, a12, a13, a14⟩ := u4
  refine cs_copyR o4 hp hq (fun r10 u5 M5 o5 w5 => ?_)
  obtain ⟨ck, ps, a1, a2, a3, a4, a5, a6, a7, a8, a9, a10, a11, a12, a13, a14⟩ := u5
  refine cs_awayR o5 (fun r11 u6 w6 => ?_)
  obtain ⟨ck, ps, a1, a2, a3, a4, a5, a6, a7, a8, a9, a10, a11, a12, a13, a14⟩ := u6
  clear o o1 o2 o3 o4 o5 hp hq hx hy h4 h7 h11
  obtain ⟨pI, fP⟩ := cs_fgE (¬ p < 0 ∧ ¬ 11 < p)
  obtain ⟨qI, fQ⟩ := cs_fgE (¬ q < 0 ∧ ¬ 11 < q)
  obtain ⟨iI, fI⟩ := cs_fgE (¬ i < 0 ∧ ¬ 15 < i)
  obtain ⟨wI, fW⟩ := cs_fgE (¬ pI = 0 ∧ ¬ iI = 0 ∧ ¬ b < 0 ∧ ¬ 255 < b)
  obtain ⟨mI, fV⟩ := cs_fgE (¬ pI = 0 ∧ ¬ iI = 0 ∧ ¬ n < 0 ∧ ¬ 16 < n ∧ ¬ 16 < i + n)
  have P1 : ¬ pI = 0 → cs_pg p 12 := fun h => (cs_in11 11 (by decide)).mp (cs_fgT fP h)
  have P0 : cs_pg p 12 → ¬ pI = 0 := fun h e => cs_fgF fP e ((cs_in11 11 (by decide)).mpr h)
  have Q1 : ¬ qI = 0 → cs_pg q 12 := fun h => (cs_in11 11 (by decide)).mp (cs_fgT fQ h)
  have Q0 : cs_pg q 12 → ¬ qI = 0 := fun h e => cs_fgF fQ e ((cs_in11 11 (by decide)).mpr h)
  have I1 : ¬ iI = 0 → cs_pg i 16 := fun h => (cs_in11 15 (by decide)).mp (cs_fgT fI h)
  have I0 : cs_pg i 16 → ¬ iI = 0 := fun h e => cs_fgF fI e ((cs_in11 15 (by decide)).mpr h)
  have W1 : ¬ wI = 0 → cs_Wd p i b := fun h => ⟨P1 (cs_fgT fW h).1, I1 (cs_fgT fW h).2.1, (cs_in11 255 (by decide)).mp (cs_fgT fW h).2.2⟩
  have W0 : wI = 0 → ¬ cs_Wd p i b := fun h t => cs_fgF fW h ⟨P0 t.1, I0 t.2.1, (cs_in11 255 (by decide)).mpr t.2.2⟩
  have V1 : ¬ mI = 0 → cs_Vd p i n := fun h => cs_Vi.mp ⟨P1 (cs_fgT fV h).1, I1 (cs_fgT fV h).2.1, (cs_fgT fV h).2.2⟩
  have V0 : mI = 0 → ¬ cs_Vd p i n := fun h t => cs_fgF fV h ⟨P0 (cs_Vi.mpr t).1, I0 (cs_Vi.mpr t).2.1, (cs_Vi.mpr t).2.2⟩
  obtain ⟨hd, hd0, hd1, hd2⟩ : ∃ hd : Int32, (mI = 0 → hd = 0) ∧ (¬ mI = 0 → i ≤ n → hd = i) ∧ (¬ mI = 0 → ¬ i ≤ n → hd = n) := by
    by_cases e : mI = 0
    · exact ⟨0, fun _ => rfl, fun t => absurd e t, fun t => absurd e t⟩
    · by_cases g : i ≤ n
      · exact ⟨i, fun t => absurd t e, fun _ _ => rfl, fun _ t => absurd g t⟩
      · exact ⟨n, fun t => absurd t e, fun _ t => absurd t g, fun _ _ => rfl⟩
  obtain ⟨sz, sz0, sz1, sz2⟩ : ∃ sz : Int32, (wI = 0 → sz = 0) ∧ (b = 0 → sz = 0) ∧ (¬ wI = 0 → ¬ b = 0 → sz = (16 - i) + hd) := by
    by_cases e : wI = 0
    · exact ⟨0, fun _ => rfl, fun _ => rfl, fun t => absurd e t⟩
    · by_cases g : b = 0
      · exact ⟨0, fun _ => rfl, fun _ => rfl, fun _ t => absurd g t⟩
      · exact ⟨(16 - i) + hd, fun t => absurd t e, fun t => absurd t g, fun _ _ => rfl⟩
  refine cs_check rfl fP fQ fI fW fV hd0 hd1 hd2 sz0 sz1 sz2 ?_ ?_ ?_ ?_ ?_ ?_ ?_ ?_ ?_ ?_ ?_ ?_ ?_ ?_
  · exact fun h => (cs_pureN (W0 h) w1 w2 w3).1
  · exact fun h => (cs_pureW (W1 h) w1 w2 w3).1
  · exact fun h => (cs_pureN (W0 h) w1 w2 w3).2.1
  · exact fun h => (cs_pureW (W1 h) w1 w2 w3).2.1
  · intro h
    rcases w3 with ⟨z, c, m, q1, q2, q3, q4, q5, q6, _⟩ | ⟨_, _, e⟩
    · exact absurd ⟨z, c, m, q1, q2, q3, q4, q5, q6⟩ (V0 h)
    · exact e
  · intro h
    rcases w3 with ⟨z, c, m, _, _, _, _, _, _, _, e⟩ | ⟨g, _⟩
    · exact e
    · exact absurd (V1 h) g
  · intro h
    rcases w4 with ⟨w, hw, e, _⟩ | ⟨_, e⟩
    · exact absurd h (Q0 ⟨w, hw, e⟩)
    · exact e
  · intro h e hw
    rcases w4 with ⟨w, hw12, eq, e9⟩ | ⟨g, _⟩
    rotate_left
    · exact absurd (Q1 h) g
    obtain ⟨_, _, z, c, v, k, hz, hc, hv, hk, ep, ei, eb, D, hh⟩ := cs_pureW (W1 hw) w1 w2 w3
    have ehd := cs_head V0 V1 hc ei hd0 hd1 hd2 hh
    rw [e] at eq
    have ew := cs_inj ep eq (by omega) (by omega)
    subst ew
    rw [e9, ehd, ei, eb, ← cs_tabS c hc k (by omega) hk, ← cs_sumM]
    refine cs_sumG (fun j hj => ?_)
    rw [D w j hj]
    show _ = nI v * (if j < k ∨ c ≤ j then 1 else 0)
    by_cases t : j < k ∨ c ≤ j
    · rw [if_pos ⟨rfl, t⟩, if_pos t, Int32.mul_one]
    · rw [if_neg (fun s => t s.2), if_neg t, Int32.mul_zero]
  · intro h g
    rcases w4 with ⟨w, hw12, eq, e9⟩ | ⟨t, _⟩
    rotate_left
    · exact absurd (Q1 h) t
    rw [e9, ← cs_sum0 16]
    refine cs_sumG (fun j hj => ?_)
    by_cases hw : wI = 0
    · exact (cs_pureN (W0 hw) w1 w2 w3).2.2 w j
    · obtain ⟨_, _, z, c, v, k, hz, hc, hv, hk, ep, ei, eb, D, hh⟩ := cs_pureW (W1 hw) w1 w2 w3
      rcases g with g | g
      · rw [D w j hj, if_neg (fun s => g (by rw [eq, ep, s.1]))]
      · exact absurd g hw
  · intro h
    rcases w5 with ⟨z, w, hz, hw, e, e', _⟩ | ⟨_, e⟩
    · rcases h with h | h
      · exact absurd h (P0 ⟨z, hz, e⟩)
      · exact absurd h (Q0 ⟨w, hw, e'⟩)
    · exact e
  · intro h h' e
    rcases w5 with ⟨z, w, hz, hw, ep, eq, e10⟩ | ⟨g, _⟩
    · rw [← e] at eq
      have ew := cs_inj ep eq (by omega) (by omega)
      subst ew
      rw [e10]
      exact cs_cnt0 (fun _ _ => rfl)
    · exact absurd ⟨P1 h, Q1 h'⟩ g
  · intro h h' e
    rcases w5 with ⟨z, w, hz, hw, ep, eq, e10⟩ | ⟨g, _⟩
    rotate_left
    · exact absurd ⟨P1 h, Q1 h'⟩ g
    rw [e10]
    by_cases g : wI = 0
    · have Z := (cs_pureN (W0 g) w1 w2 w3).2.2
      rw [sz0 g]
      exact cs_cnt0 (fun j _ => by rw [Z, Z])
    · obtain ⟨_, _, z', c, v, k, hz', hc, hv, hk, ep', ei, eb, D, hh⟩ := cs_pureW (W1 g) w1 w2 w3
      have ez := cs_inj ep ep' (by omega) (by omega)
      subst ez
      have nw : w ≠ z' := fun t => e (by rw [ep, eq, t])
      have ehd := cs_head V0 V1 hc ei hd0 hd1 hd2 hh
      have Dw : ∀ j, j < 16 → M3 w j = 0 := fun j hj => by rw [D w j hj, if_neg (fun s => nw s.1)]
      by_cases b0 : b = 0
      · rw [sz1 b0]
        refine cs_cnt0 (fun j hj => ?_)
        rw [Dw j hj, D z' j hj, ← eb, b0]
        by_cases t : z' = z' ∧ (j < k ∨ c ≤ j)
        · rw [if_pos t]
        · rw [if_neg t]
      · rw [sz2 g b0, ehd, ei, ← cs_tabC c hc k (by omega) hk]
        refine cs_cntG (fun j hj => ?_)
        rw [Dw j hj, D z' j hj, ← eb]
        show _ ↔ (if j < k ∨ c ≤ j then (1 : Int32) else 0) = 0
        by_cases t : j < k ∨ c ≤ j
        · rw [if_pos ⟨rfl, t⟩, if_pos t]
          exact ⟨fun s => absurd s b0, fun s => absurd s (by decide)⟩
        · rw [if_neg (fun s => t s.2), if_neg t]
  · intro h
    rcases w6 with ⟨g, _⟩ | ⟨_, e⟩
    · exact absurd h (Q0 g)
    · exact e
  · intro h
    rcases w6 with ⟨_, e⟩ | ⟨g, _⟩
    · exact e
    · exact absurd (Q1 h) g
theorem cs_cell {post : Int32 → Prop} {L : Nat} {xs : Nat → Int32} (c : Nat) (hL : L ≤ 5) (hc : c ≤ 4) (H : ∀ r, post r) : wpL_cellAt post L xs () (nI c) :=
  pk_le L c (fun _ => H _) (fun h => ⟨pk_in c L h, H _⟩)
theorem i_vc (xs : Nat → Int32) (L : Nat) (hL : L ≤ 5) : wpL_law (fun r => r = 1) L xs :=
  cs_cell 0 hL (by omega) (fun p => cs_cell 1 hL (by omega) (fun i => cs_cell 2 hL (by omega) (fun b => cs_cell 3 hL (by omega) (fun q => cs_cell 4 hL (by omega) (fun n => ⟨250, 4000, by omega, by omega, cs_lawOf p i b q n⟩)))))
end
