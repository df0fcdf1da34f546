section
/-! chains in arrays of followers, places, and what moving does to them -/
def sw_Ch (nx : Nat → Int32) : Int32 → List Nat → Prop
  | h, [] => h = -1
  | h, t :: l => h = nI t ∧ sw_Ch nx (nx t) l
theorem sw_ch_upd {nx : Nat → Int32} {k : Nat} {x : Int32} : ∀ {l : List Nat} {h : Int32}, k ∉ l → sw_Ch nx h l → sw_Ch (upd nx k x) h l
  | [], _, _, hc => hc
  | t :: l, h, hk, hc => by
    have h1 : t ≠ k := fun e => hk (by rw [e]; exact List.mem_cons_self)
    have h2 : k ∉ l := fun e => hk (List.mem_cons_of_mem _ e)
    refine ⟨hc.1, ?_⟩
    rw [pk_un h1]
    exact sw_ch_upd h2 hc.2
theorem sw_ch_rm {nx : Nat → Int32} {u t : Nat} {l2 : List Nat} : ∀ {l1 : List Nat} {h : Int32}, (l1 ++ u :: t :: l2).Nodup → sw_Ch nx h (l1 ++ u :: t :: l2) → sw_Ch (upd nx u (nx t)) h (l1 ++ u :: l2)
  | [], h, hn, hc => by
    have hn' : (u :: t :: l2).Nodup := hn
    rw [List.nodup_cons] at hn'
    refine ⟨hc.1, ?_⟩
    rw [pk_us]
    exact sw_ch_upd (fun e => hn'.1 (List.mem_cons_of_mem _ e)) hc.2.2
  | a :: l1, h, hn, hc => by
    have hn' : (a :: (l1 ++ u :: t :: l2)).Nodup := hn
    rw [List.nodup_cons] at hn'
    have h1 : a ≠ u := fun e => hn'.1 (by rw [e]; simp)
    refine ⟨hc.1, ?_⟩
    rw [pk_un h1]
    exact sw_ch_rm hn'.2 hc.2
theorem sw_ch_hd {nx : Nat → Int32} {N : Nat} {l : List Nat} {h : Int32} (hc : sw_Ch nx h l) (hl : ∀ x, x ∈ l → x < N) : h = -1 ∨ ∃ u, u < N ∧ h = nI u := by
  cases l with
  | nil => exact Or.inl hc
  | cons t l => exact Or.inr ⟨t, hl t List.mem_cons_self, hc.1⟩
theorem sw_ch_tl {nx : Nat → Int32} {t : Nat} {l2 : List Nat} : ∀ {l1 : List Nat} {h : Int32}, sw_Ch nx h (l1 ++ t :: l2) → sw_Ch nx (nx t) l2
  | [], _, hc => hc.2
  | _ :: _, _, hc => sw_ch_tl hc.2
theorem sw_b8 : ∀ t, t < 128 → (nI t).toInt8.toInt32 = nI t := by decide +kernel
theorem sw_s16 : ∀ t, t < 2048 → (nI t).toInt16.toInt32 = nI t := by decide +kernel
theorem sw_nar {x : Int32} (h : x = -1 ∨ ∃ u, u < 8 ∧ x = nI u) : vp_nar .byte x = x := by
  rw [vp_nar_byte]
  rcases h with rfl | ⟨u, hu, rfl⟩
  · decide
  · exact sw_b8 u (by omega)
/-- up from a place: things lie in things -/
def sw_up (pl : Nat → Nat) : Nat → Nat → Nat
  | 0, a => a
  | n + 1, a => if a < 8 then a else sw_up pl n (pl (a - 8))
theorem sw_up_lo {pl : Nat → Nat} {a : Nat} (h : a < 8) : ∀ n, sw_up pl n a = a
  | 0 => rfl
  | n + 1 => by unfold sw_up; rw [if_pos h]
theorem sw_up_hi {pl : Nat → Nat} {a n : Nat} (h : ¬ a < 8) : sw_up pl (n + 1) a = sw_up pl n (pl (a - 8)) := by
  rw [sw_up, if_neg h]
def sw_PL (pl : Nat → Nat) (L : Nat → List Nat) (a4 a5 a6 : Nat → Int32) : Prop :=
  (∀ t, t < 8 → a4 t = nI (pl t) ∧ pl t < 16) ∧ (∀ p, p < 16 → sw_Ch a6 (a5 p) (L p) ∧ (L p).Nodup ∧ ∀ t, t ∈ L p ↔ t < 8 ∧ pl t = p) ∧ (∀ t, t < 8 → ∃ n, sw_up pl n (pl t) < 8)
def sw_PI (a4 a5 a6 : Nat → Int32) : Prop := ∃ pl L, sw_PL pl L a4 a5 a6
def sw_RM (pl : Nat → Nat) (t : Nat) (M : Nat → List Nat) (a5 a6 : Nat → Int32) : Prop :=
  ∀ q, q < 16 → sw_Ch a6 (a5 q) (M q) ∧ (M q).Nodup ∧ ∀ u, u ∈ M q ↔ u < 8 ∧ u ≠ t ∧ pl u = q
def sw_mv (pl : Nat → Nat) (t p : Nat) : Nat → Nat := fun u => if u = t then p else pl u
theorem sw_ins {pl : Nat → Nat} {t p : Nat} {M : Nat → List Nat} {a4 a5 a6 : Nat → Int32} (h4 : ∀ u, u < 8 → a4 u = nI (pl u) ∧ pl u < 16) (hM : sw_RM pl t M a5 a6) (ht : t < 8) (hp : p < 16)
    (hac : ∀ u, u < 8 → ∃ n, sw_up (sw_mv pl t p) n (sw_mv pl t p u) < 8) : sw_PI (upd a4 t (nI p)) (upd a5 p (nI t)) (upd a6 t (a5 p)) := by
  refine ⟨sw_mv pl t p, fun q => if q = p then t :: M p else M q, ?_, ?_, hac⟩
  · intro u hu
    by_cases e : u = t
    · rw [e, pk_us]
      unfold sw_mv
      rw [if_pos rfl]
      exact ⟨rfl, hp⟩
    · rw [pk_un e]
      unfold sw_mv
      rw [if_neg e]
      exact h4 u hu
  · intro q hq
    obtain ⟨m1, m2, m3⟩ := hM q hq
    have hnt : t ∉ M q := fun e => ((m3 t).mp e).2.1 rfl
    by_cases e : q = p
    · subst e
      dsimp only
      rw [if_pos rfl, pk_us]
      refine ⟨⟨rfl, ?_⟩, ?_, ?_⟩
      · rw [pk_us]
        exact sw_ch_upd hnt m1
      · exact List.nodup_cons.mpr ⟨hnt, m2⟩
      · intro u
        rw [List.mem_cons, m3 u]
        unfold sw_mv
        by_cases e2 : u = t
        · rw [if_pos e2]
          constructor
          · intro _
            exact ⟨by omega, rfl⟩
          · intro _
            exact Or.inl e2
        · rw [if_neg e2]
          constructor
          · rintro (h | h)
            · exact absurd h e2
            · exact ⟨h.1, h.2.2⟩
          · intro h
            exact Or.inr ⟨h.1, e2, h.2⟩
    · dsimp only
      rw [if_neg e, pk_un e]
      refine ⟨sw_ch_upd hnt m1, m2, ?_⟩
      intro u
      rw [m3 u]
      unfold sw_mv
      by_cases e2 : u = t
      · rw [if_pos e2]
        constructor
        · intro h
          exact absurd e2 h.2.1
        · intro h
          exact absurd h.2.symm e
      · rw [if_neg e2]
        constructor
        · intro h
          exact ⟨h.1, h.2.2⟩
        · intro h
          exact ⟨h.1, e2, h.2⟩
/-- what stands where, when t is taken out of its list -/
theorem sw_out {pl : Nat → Nat} {L : Nat → List Nat} {a4 a5 a6 a5' a6' : Nat → Int32} {t : Nat} {l1 l2 : List Nat} (hP : sw_PL pl L a4 a5 a6) (ht : t < 8) (hl : L (pl t) = l1 ++ t :: l2)
    (h1 : sw_Ch a6' (a5' (pl t)) (l1 ++ l2)) (h2 : ∀ q, q < 16 → q ≠ pl t → sw_Ch a6' (a5' q) (L q)) : sw_RM pl t (fun q => if q = pl t then l1 ++ l2 else L q) a5' a6' := by
  intro q hq
  dsimp only
  obtain ⟨m1, m2, m3⟩ := hP.2.1 q hq
  by_cases e : q = pl t
  · rw [if_pos e]
    rw [e, hl] at m2 m3
    have m2' := m2
    rw [List.nodup_append] at m2'
    obtain ⟨n1, n2, n3⟩ := m2'
    rw [List.nodup_cons] at n2
    refine ⟨by rw [e]; exact h1, ?_, ?_⟩
    · rw [List.nodup_append]
      exact ⟨n1, n2.2, fun a ha b hb => n3 a ha b (List.mem_cons_of_mem _ hb)⟩
    · intro u
      have m := m3 u
      rw [List.mem_append, List.mem_cons] at m
      rw [List.mem_append, e]
      constructor
      · intro h
        have hu : u ≠ t := by
          rintro rfl
          rcases h with h | h
          · exact n3 u h u List.mem_cons_self rfl
          · exact n2.1 h
        rcases h with h | h
        · exact ⟨(m.mp (Or.inl h)).1, hu, (m.mp (Or.inl h)).2⟩
        · exact ⟨(m.mp (Or.inr (Or.inr h))).1, hu, (m.mp (Or.inr (Or.inr h))).2⟩
      · intro h
        rcases m.mpr ⟨h.1, h.2.2⟩ with g | g | g
        · exact Or.inl g
        · exact absurd g h.2.1
        · exact Or.inr g
  · rw [if_neg e]
    refine ⟨h2 q hq e, m2, ?_⟩
    intro u
    rw [m3 u]
    constructor
    · intro h
      exact ⟨h.1, fun z => e (by rw [← h.2, z]), h.2⟩
    · intro h
      exact ⟨h.1, h.2.2⟩
/-- a thing put to a place whose way up ends without it -/
theorem sw_mv_ac {pl : Nat → Nat} {t p : Nat} (hp : ∃ m, sw_up (sw_mv pl t p) m p < 8) : ∀ (n a : Nat), sw_up pl n a < 8 → ∃ m, sw_up (sw_mv pl t p) m a < 8
  | 0, a, h => ⟨0, h⟩
  | n + 1, a, h => by
    by_cases e : a < 8
    · exact ⟨0, e⟩
    · rw [sw_up_hi e] at h
      by_cases e2 : a - 8 = t
      · obtain ⟨m, hm⟩ := hp
        refine ⟨m + 1, ?_⟩
        rw [sw_up_hi e]
        have : sw_mv pl t p (a - 8) = p := by unfold sw_mv; rw [if_pos e2]
        rw [this]
        exact hm
      · obtain ⟨m, hm⟩ := sw_mv_ac hp n _ h
        refine ⟨m + 1, ?_⟩
        rw [sw_up_hi e]
        have : sw_mv pl t p (a - 8) = pl (a - 8) := by unfold sw_mv; rw [if_neg e2]
        rw [this]
        exact hm
theorem sw_mv_all {pl : Nat → Nat} {t p : Nat} (hp : ∃ m, sw_up (sw_mv pl t p) m p < 8) (h : ∀ u, u < 8 → ∃ n, sw_up pl n (pl u) < 8) : ∀ u, u < 8 → ∃ n, sw_up (sw_mv pl t p) n (sw_mv pl t p u) < 8 := by
  intro u hu
  by_cases e : u = t
  · have : sw_mv pl t p u = p := by unfold sw_mv; rw [if_pos e]
    rw [this]
    exact hp
  · have : sw_mv pl t p u = pl u := by unfold sw_mv; rw [if_neg e]
    rw [this]
    obtain ⟨n, hn⟩ := h u hu
    exact sw_mv_ac hp n _ hn
/-- no cycles, and eight steps are enough -/
theorem sw_up_add {pl : Nat → Nat} : ∀ (m n a : Nat), sw_up pl (m + n) a = sw_up pl n (sw_up pl m a)
  | 0, n, a => by rw [Nat.zero_add]; rfl
  | m + 1, n, a => by
    rw [Nat.add_right_comm]
    by_cases e : a < 8
    · rw [sw_up_lo e, sw_up_lo e, sw_up_lo e]
    · rw [sw_up_hi e, sw_up_hi e]
      exact sw_up_add m n _
theorem sw_pig : ∀ (N : Nat) (f : Nat → Nat), (∀ j, j < N + 1 → ∃ u, u < N ∧ f u = j) → False
  | 0, f, h => by
    obtain ⟨u, hu, _⟩ := h 0 (by omega)
    omega
  | N + 1, f, h => by
    obtain ⟨u0, hu0, e0⟩ := h (N + 1) (by omega)
    refine sw_pig N (fun u => if u = u0 then f N else f u) ?_
    intro j hj
    obtain ⟨u, hu, e⟩ := h j (by omega)
    have hne : u ≠ u0 := by
      rintro rfl
      omega
    by_cases g : u = N
    · refine ⟨u0, by omega, ?_⟩
      rw [if_pos rfl, ← g]
      exact e
    · refine ⟨u, by omega, ?_⟩
      rw [if_neg hne]
      exact e
/-- the least number of steps from a place -/
theorem sw_rank {pl : Nat → Nat} (h : ∀ t, t < 8 → ∃ n, sw_up pl n (pl t) < 8) : ∃ d : Nat → Nat, (∀ t, t < 8 → sw_up pl (d t) (pl t) < 8 ∧ ∀ j, j < d t → ¬ sw_up pl j (pl t) < 8) := by
  refine ⟨fun t => if g : t < 8 then Classical.choose (pk_least (fun n => sw_up pl n (pl t) < 8) (h t g)) else 0, ?_⟩
  intro t ht
  dsimp only
  rw [dif_pos ht]
  exact Classical.choose_spec (pk_least (fun n => sw_up pl n (pl t) < 8) (h t ht))
theorem sw_rank_dn {pl d : Nat → Nat} (hp : ∀ t, t < 8 → pl t < 16) (hd : ∀ t, t < 8 → sw_up pl (d t) (pl t) < 8 ∧ ∀ j, j < d t → ¬ sw_up pl j (pl t) < 8) : ∀ (k t : Nat), t < 8 → k = d t → ∀ j, j < k + 1 → ∃ u, u < 8 ∧ d u = j
  | 0, t, ht, hk, j, hj => ⟨t, ht, by omega⟩
  | k + 1, t, ht, hk, j, hj => by
    obtain ⟨h1, h2⟩ := hd t ht
    rw [← hk] at h1 h2
    have e : ¬ pl t < 8 := h2 0 (by omega)
    rw [sw_up_hi e] at h1
    have hu : pl t - 8 < 8 := by have := hp t ht; omega
    have hdu : k = d (pl t - 8) := by
      obtain ⟨g1, g2⟩ := hd _ hu
      have a1 : ¬ k < d (pl t - 8) := fun z => g2 k z h1
      have a2 : ¬ d (pl t - 8) < k := by
        intro z
        have := h2 (d (pl t - 8) + 1) (by omega)
        rw [sw_up_hi e] at this
        exact this g1
      omega
    by_cases g : j = k + 1
    · exact ⟨t, ht, by omega⟩
    · exact sw_rank_dn hp hd k _ hu hdu j (by omega)
theorem sw_eight {pl : Nat → Nat} (hp : ∀ t, t < 8 → pl t < 16) (h : ∀ t, t < 8 → ∃ n, sw_up pl n (pl t) < 8) : ∀ t, t < 8 → sw_up pl 8 (pl t) < 8 := by
  intro t ht
  obtain ⟨d, hd⟩ := sw_rank h
  have h8 : d t < 8 := by
    apply Classical.byContradiction
    intro z
    refine sw_pig 8 d (fun j hj => sw_rank_dn hp hd (d t) t ht rfl j (by omega))
  have h1 := (hd t ht).1
  have h2 := sw_up_add (pl := pl) (d t) (8 - d t) (pl t)
  rw [show d t + (8 - d t) = 8 by omega, sw_up_lo h1] at h2
  rw [h2]
  exact h1
theorem sw_nocyc {pl : Nat → Nat} {t : Nat} (h : ∃ n, sw_up pl n (pl t) < 8) : ∀ k, sw_up pl k (pl t) ≠ 8 + t := by
  intro k hk
  have per : ∀ n, sw_up pl (n * (k + 1)) (8 + t) = 8 + t := by
    intro n
    induction n with
    | zero => rw [Nat.zero_mul]; rfl
    | succ n ih =>
      rw [Nat.succ_mul, sw_up_add, ih, sw_up_hi (by omega), Nat.add_sub_cancel_left]
      exact hk
  obtain ⟨n, hn⟩ := h
  have h1 : sw_up pl (n + 1) (8 + t) < 8 := by
    rw [sw_up_hi (by omega), Nat.add_sub_cancel_left]
    exact hn
  have h2 := per (n + 1)
  have e : (n + 1) * (k + 1) = (n + 1) + (n + 1) * k := by rw [Nat.mul_succ, Nat.add_comm]
  rw [e, sw_up_add, sw_up_lo h1] at h2
  omega
/-- different numbers below n are at most n -/
theorem sw_nd_len : ∀ (n : Nat) (l : List Nat), l.Nodup → (∀ x, x ∈ l → x < n) → l.length ≤ n
  | 0, l, _, h => by
    cases l with
    | nil => exact Nat.le_refl 0
    | cons a l => exact absurd (h a List.mem_cons_self) (by omega)
  | n + 1, l, hn, h => by
    by_cases e : n ∈ l
    · have h1 := List.length_erase_of_mem e
      have h2 : (l.erase n).Nodup := hn.erase n
      have h3 := sw_nd_len n (l.erase n) h2 (fun x hx => by
        have h4 := (hn.mem_erase_iff).mp hx
        have := h x h4.2
        have := h4.1
        omega)
      omega
    · have h3 := sw_nd_len n l hn (fun x hx => by
        have := h x hx
        have : x ≠ n := fun z => e (z ▸ hx)
        omega)
      omega
end
section
/-! the walks: wouldLoop, countIn, move, look, findNear, isVisible -/
theorem sw_wl_loop {pl : Nat → Nat} {t : Nat} {a4 : Nat → Int32} (h4 : ∀ u, u < 8 → a4 u = nI (pl u) ∧ pl u < 16) (ht : t < 8) : ∀ (n a : Nat), a < 16 → sw_up pl n a < 8 →
    ∃ r : Int32, (r = 0 ∨ r = 1) ∧ (r = 0 → ∀ q, ∃ m, sw_up (sw_mv pl t q) m a < 8) ∧ ∀ {post : Int32 → Prop} {rm nt sk rc nc wc tc mt sd : Int32} {a1 a2 a3 a5 a6 a7 a8 a9 a10 a11 a12 a13 a14 a15 a16 a17 a18 a19 a20 a21 a22 : Nat → Int32}, post r → wX_wouldLoop_2 post (nI t) rm nt sk rc nc wc tc mt sd a1 a2 a3 a4 a5 a6 a7 a8 a9 a10 a11 a12 a13 a14 a15 a16 a17 a18 a19 a20 a21 a22 (n + 1) (nI a)
  | 0, a, ha, h => ⟨0, Or.inl rfl, fun _ q => ⟨0, h⟩, fun hp => pk_lt a 8 (fun _ => hp) (fun z => absurd (show a < 8 from h) (by omega))⟩
  | n + 1, a, ha, h => by
    by_cases e : a < 8
    · exact ⟨0, Or.inl rfl, fun _ q => ⟨0, e⟩, fun hp => pk_lt a 8 (fun _ => hp) (fun z => absurd e (by omega))⟩
    · rw [sw_up_hi e] at h
      have e8 : nI a - 8 = nI (a - 8) := pk_sub (b := 8) (by omega)
      by_cases e2 : a - 8 = t
      · exact ⟨1, Or.inr rfl, fun z => absurd z (by decide), fun hp => pk_lt a 8 (fun z => absurd z e) (fun _ => br_t (by rw [e8, e2]) hp)⟩
      · obtain ⟨r, h1, h2, h3⟩ := sw_wl_loop h4 ht n (pl (a - 8)) (h4 _ (by omega)).2 h
        refine ⟨r, h1, fun z q => ?_, fun hp => pk_lt a 8 (fun z => absurd z e) (fun _ => br_f (by rw [e8, nI_eq (by omega) (by omega)]; exact e2) ⟨by rw [e8]; exact vp_in_nI (by omega) (by omega), nm_r (by rw [e8, nI_clamp (by omega)]; exact (h4 _ (by omega)).1) (h3 hp)⟩)⟩
        obtain ⟨m, hm⟩ := h2 z q
        refine ⟨m + 1, ?_⟩
        rw [sw_up_hi e]
        have : sw_mv pl t q (a - 8) = pl (a - 8) := by unfold sw_mv; rw [if_neg e2]
        rw [this]
        exact hm
theorem sw_term {pl : Nat → Nat} {L : Nat → List Nat} {a4 a5 a6 : Nat → Int32} (hP : sw_PL pl L a4 a5 a6) {a : Nat} (ha : a < 16) : ∃ n, sw_up pl n a < 8 := by
  by_cases e : a < 8
  · exact ⟨0, e⟩
  · obtain ⟨n, hn⟩ := hP.2.2 (a - 8) (by omega)
    exact ⟨n + 1, by rw [sw_up_hi e]; exact hn⟩
theorem sw_wl {pl : Nat → Nat} {L : Nat → List Nat} {a4 a5 a6 : Nat → Int32} {t a : Nat} (hP : sw_PL pl L a4 a5 a6) (ht : t < 8) (ha : a < 16) :
    ∃ r : Int32, (r = 0 ∨ r = 1) ∧ (r = 0 → ∀ q, ∃ m, sw_up (sw_mv pl t q) m a < 8) ∧ ∀ {post : Int32 → Prop} {rm nt sk rc nc wc tc mt sd : Int32} {a1 a2 a3 a5 a6 a7 a8 a9 a10 a11 a12 a13 a14 a15 a16 a17 a18 a19 a20 a21 a22 : Nat → Int32}, post r → wpX_wouldLoop post (rm, nt, sk, rc, nc, wc, tc, mt, sd, a1, a2, a3, a4, a5, a6, a7, a8, a9, a10, a11, a12, a13, a14, a15, a16, a17, a18, a19, a20, a21, a22) (nI t) (nI a) := by
  obtain ⟨n, hn⟩ := sw_term hP ha
  obtain ⟨r, h1, h2, h3⟩ := sw_wl_loop hP.1 ht n a ha hn
  exact ⟨r, h1, h2, fun hp => Exists.intro (n + 1) (h3 hp)⟩
theorem sw_ci_loop {a6 : Nat → Int32} : ∀ (l : List Nat) (h : Int32) (k : Nat), sw_Ch a6 h l → (∀ x, x ∈ l → x < 8) → ∀ {post : Int32 → Prop} {rm nt sk rc nc wc tc mt sd : Int32} {a1 a2 a3 a4 a5 a7 a8 a9 a10 a11 a12 a13 a14 a15 a16 a17 a18 a19 a20 a21 a22 : Nat → Int32}, post (nI (k + l.length)) → wX_countIn_9 post rm nt sk rc nc wc tc mt sd a1 a2 a3 a4 a5 a6 a7 a8 a9 a10 a11 a12 a13 a14 a15 a16 a17 a18 a19 a20 a21 a22 (l.length + 1) (nI k) h
  | [], h, k, hc, _ => fun hp => br_t (by rw [show h = -1 from hc]; decide) hp
  | t :: l, h, k, hc, h8 => fun hp => by
    have ht : t < 8 := h8 t List.mem_cons_self
    have e : k + (t :: l).length = (k + 1) + l.length := by rw [List.length_cons]; omega
    rw [e] at hp
    rw [hc.1]
    exact br_f (nI_pos (by omega)) (nm_r (nI_1 k) ⟨pk_in t 8 ht, nm_r (by rw [nI_clamp (by omega)]) (sw_ci_loop l (a6 t) (k + 1) hc.2 (fun x hx => h8 x (List.mem_cons_of_mem _ hx)) hp)⟩)
theorem sw_ci {pl : Nat → Nat} {L : Nat → List Nat} {a4 a5 a6 : Nat → Int32} {p : Nat} (hP : sw_PL pl L a4 a5 a6) (hp : p < 16) {post : Int32 → Prop} {rm nt sk rc nc wc tc mt sd : Int32} {a1 a2 a3 a7 a8 a9 a10 a11 a12 a13 a14 a15 a16 a17 a18 a19 a20 a21 a22 : Nat → Int32} (H : post (nI (L p).length)) : wpX_countIn post (rm, nt, sk, rc, nc, wc, tc, mt, sd, a1, a2, a3, a4, a5, a6, a7, a8, a9, a10, a11, a12, a13, a14, a15, a16, a17, a18, a19, a20, a21, a22) (nI p) := by
  obtain ⟨c1, c2, c3⟩ := hP.2.1 p hp
  refine And.intro (pk_in p 16 hp) (nm_r (by rw [nI_clamp (by omega)]) (Exists.intro ((L p).length + 1) ?_))
  refine sw_ci_loop (L p) (a5 p) 0 c1 (fun x hx => ((c3 x).mp hx).1) ?_
  rw [Nat.zero_add]
  exact H
theorem sw_mv40 {a6 : Nat → Int32} {t p : Nat} (ht : t < 8) (hb : vp_nar .byte (a6 t) = a6 t) : ∀ (l : List Nat) (b : Nat), sw_Ch a6 (nI b) (b :: l) → (∀ x, x ∈ b :: l → x < 8) → t ∈ l →
    ∃ l1 u l2, b :: l = l1 ++ u :: t :: l2 ∧ u < 8 ∧ ∀ {post : St1 → Prop} {rm nt sk rc nc wc tc mt sd : Int32} {a1 a2 a3 a4 a5 a7 a8 a9 a10 a11 a12 a13 a14 a15 a16 a17 a18 a19 a20 a21 a22 : Nat → Int32}, wX_move_76 post (nI t) (nI p) rm nt sk rc nc wc tc mt sd a1 a2 a3 a4 a5 (upd a6 u (a6 t)) a7 a8 a9 a10 a11 a12 a13 a14 a15 a16 a17 a18 a19 a20 a21 a22 → wX_move_40 post (nI t) (nI p) rm nt sk rc nc wc tc mt sd a1 a2 a3 a4 a5 a6 a7 a8 a9 a10 a11 a12 a13 a14 a15 a16 a17 a18 a19 a20 a21 a22 (l.length + 1) (nI b)
  | [], b, _, _, hm => by cases hm
  | d :: l, b, hc, h8, hm => by
    have hb8 : b < 8 := h8 b List.mem_cons_self
    have hd8 : d < 8 := h8 d (by simp)
    by_cases e : d = t
    · subst e
      exact ⟨[], b, l, rfl, hb8, fun hp => And.intro (pk_in b 8 hb8) (br_t (by rw [nI_clamp (by omega)]; exact hc.2.1) ⟨pk_in d 8 ht, pk_in b 8 hb8, nm_r (by rw [nI_clamp (by omega), nI_clamp (by omega), hb]) hp⟩)⟩
    · have hm' : t ∈ l := by
        rcases List.mem_cons.mp hm with g | g
        · exact absurd g.symm e
        · exact g
      obtain ⟨l1, u, l2, e1, e2, e3⟩ := sw_mv40 (p := p) ht hb l d ⟨rfl, hc.2.2⟩ (fun x hx => h8 x (List.mem_cons_of_mem _ hx)) hm'
      refine ⟨b :: l1, u, l2, by rw [e1]; rfl, e2, fun hp => And.intro (pk_in b 8 hb8) (br_f (by rw [nI_clamp (by omega), hc.2.1, nI_eq (by omega) (by omega)]; exact e) ⟨pk_in b 8 hb8, nm_r (by rw [nI_clamp (by omega)]; exact hc.2.1) (e3 hp)⟩)⟩
theorem sw_mv76 {pl : Nat → Nat} {t p : Nat} {M : Nat → List Nat} {a5 a6 : Nat → Int32} (hM : sw_RM pl t M a5 a6) (ht : t < 8) (hp : p < 16) {post : St1 → Prop} {rm nt sk rc nc wc tc mt sd : Int32} {a1 a2 a3 a4 a7 a8 a9 a10 a11 a12 a13 a14 a15 a16 a17 a18 a19 a20 a21 a22 : Nat → Int32}
    (H : post (rm, nt, sk, rc, nc, wc, tc, mt, sd, a1, a2, a3, upd a4 t (nI p), upd a5 p (nI t), upd a6 t (a5 p), a7, a8, a9, a10, a11, a12, a13, a14, a15, a16, a17, a18, a19, a20, a21, a22)) : wX_move_76 post (nI t) (nI p) rm nt sk rc nc wc tc mt sd a1 a2 a3 a4 a5 a6 a7 a8 a9 a10 a11 a12 a13 a14 a15 a16 a17 a18 a19 a20 a21 a22 := by
  have hn : vp_nar .byte (a5 p) = a5 p := by
    obtain ⟨m1, m2, m3⟩ := hM p hp
    exact sw_nar (sw_ch_hd m1 (fun x hx => ((m3 x).mp hx).1))
  exact And.intro (pk_in t 8 ht) (nm_r (by rw [nI_clamp (by omega), sw_b8 p (by omega)]) ⟨pk_in p 16 hp, pk_in t 8 ht, nm_r (by rw [nI_clamp (by omega), nI_clamp (by omega), hn]) ⟨pk_in p 16 hp, nm_r (by rw [nI_clamp (by omega), sw_b8 t (by omega)]) H⟩⟩)
theorem sw_move {pl : Nat → Nat} {L : Nat → List Nat} {a4 a5 a6 : Nat → Int32} {t p : Nat} (hP : sw_PL pl L a4 a5 a6) (ht : t < 8) (hp : p < 16) (hac : ∃ m, sw_up (sw_mv pl t p) m p < 8) :
    ∃ a5' a6', sw_PI (upd a4 t (nI p)) a5' a6' ∧ ∀ {post : St1 → Prop} {rm nt sk rc nc wc tc mt sd : Int32} {a1 a2 a3 a7 a8 a9 a10 a11 a12 a13 a14 a15 a16 a17 a18 a19 a20 a21 a22 : Nat → Int32}, post (rm, nt, sk, rc, nc, wc, tc, mt, sd, a1, a2, a3, upd a4 t (nI p), a5', a6', a7, a8, a9, a10, a11, a12, a13, a14, a15, a16, a17, a18, a19, a20, a21, a22) → wpX_move post (rm, nt, sk, rc, nc, wc, tc, mt, sd, a1, a2, a3, a4, a5, a6, a7, a8, a9, a10, a11, a12, a13, a14, a15, a16, a17, a18, a19, a20, a21, a22) (nI t) (nI p) := by
  have h4 := hP.1
  have h4t := h4 t ht
  have hA := sw_mv_all hac hP.2.2
  obtain ⟨c1, c2, c3⟩ := hP.2.1 (pl t) h4t.2
  have hmem : t ∈ L (pl t) := (c3 t).mpr ⟨ht, rfl⟩
  have h8 : ∀ x, x ∈ L (pl t) → x < 8 := fun x hx => ((c3 x).mp hx).1
  have hb : vp_nar .byte (a6 t) = a6 t := by
    obtain ⟨l1, l2, e⟩ := List.append_of_mem hmem
    rw [e] at c1 h8
    exact sw_nar (sw_ch_hd (sw_ch_tl c1) (fun x hx => h8 x (by simp [hx])))
  have hcl : (nI (pl t)).toNatClampNeg = pl t := nI_clamp (by omega)
  have hct : (nI t).toNatClampNeg = t := nI_clamp (by omega)
  cases hl : L (pl t) with
  | nil => rw [hl] at hmem; cases hmem
  | cons b l =>
    rw [hl] at c1 h8 c2 hmem
    have hb8 : b < 8 := h8 b List.mem_cons_self
    by_cases e : b = t
    · subst e
      have hM := sw_out (a5' := upd a5 (pl b) (a6 b)) (a6' := a6) (l1 := []) hP ht hl (by rw [pk_us]; exact c1.2) (fun q hq hne => by rw [pk_un hne]; exact (hP.2.1 q hq).1)
      refine ⟨_, _, sw_ins h4 hM ht hp hA, fun H => ?_⟩
      refine And.intro (pk_in b 8 ht) (nm_r (e' := nI (pl b)) (by rw [hct]; exact h4t.1) ⟨pk_in (pl b) 16 h4t.2, br_t (by rw [hcl]; exact c1.1) ⟨pk_in b 8 ht, pk_in (pl b) 16 h4t.2, nm_r (by rw [hcl, hct, hb]) ?_⟩⟩)
      exact sw_mv76 hM ht hp H
    · have hm' : t ∈ l := by
        rcases List.mem_cons.mp hmem with g | g
        · exact absurd g.symm e
        · exact g
      obtain ⟨l1, u, l2, e1, e2, e3⟩ := sw_mv40 (p := p) ht hb l b ⟨rfl, c1.2⟩ h8 hm'
      have hl' : L (pl t) = (l1 ++ [u]) ++ t :: l2 := by rw [hl, e1]; simp
      have c1' : sw_Ch a6 (a5 (pl t)) (l1 ++ u :: t :: l2) := by rw [← e1]; exact c1
      have hM := sw_out (a5' := a5) (a6' := upd a6 u (a6 t)) hP ht hl' (by
        have := sw_ch_rm (by rw [← e1]; exact c2) c1'
        rw [List.append_assoc]
        exact this) (fun q hq hne => by
        refine sw_ch_upd (fun hu => hne ?_) (hP.2.1 q hq).1
        have g1 := (((hP.2.1 q hq).2.2 u).mp hu).2
        have g2 := ((c3 u).mp (by rw [hl, e1]; simp)).2
        rw [← g1, g2])
      refine ⟨_, _, sw_ins h4 hM ht hp hA, fun H => ?_⟩
      refine And.intro (pk_in t 8 ht) (nm_r (e' := nI (pl t)) (by rw [hct]; exact h4t.1) ⟨pk_in (pl t) 16 h4t.2, br_f (by rw [hcl, c1.1, nI_eq (by omega) (by omega)]; exact e) ⟨pk_in (pl t) 16 h4t.2, nm_r (e' := nI b) (by rw [hcl]; exact c1.1) (Exists.intro (l.length + 1) (e3 ?_))⟩⟩)
      exact sw_mv76 hM ht hp H
/-- the stack holds a list -/
def sw_St (a8 : Nat → Int32) (st : List Nat) : Prop := ∀ i, i < st.length → a8 i = nI (st.getD i 0)
theorem sw_st_push {a8 : Nat → Int32} {st : List Nat} (t : Nat) (h : sw_St a8 st) : sw_St (upd a8 st.length (nI t)) (st ++ [t]) := by
  intro i hi
  rw [List.length_append, List.length_singleton] at hi
  by_cases e : i = st.length
  · rw [e, pk_us]
    simp
  · rw [pk_un e, h i (by omega)]
    have : (st ++ [t]).getD i 0 = st.getD i 0 := by
      simp [List.getD_eq_getElem?_getD, List.getElem?_append_left (show i < st.length by omega)]
    rw [this]
theorem sw_st_pop {a8 : Nat → Int32} {st : List Nat} {t : Nat} (h : sw_St a8 (st ++ [t])) : sw_St a8 st ∧ a8 st.length = nI t := by
  constructor
  · intro i hi
    rw [h i (by rw [List.length_append, List.length_singleton]; omega)]
    have : (st ++ [t]).getD i 0 = st.getD i 0 := by
      simp [List.getD_eq_getElem?_getD, List.getElem?_append_left hi]
    rw [this]
  · rw [h st.length (by rw [List.length_append, List.length_singleton]; omega)]
    simp
theorem sw_look_loop {a6 : Nat → Int32} : ∀ (l : List Nat) (h : Int32) (st : List Nat) (a8 : Nat → Int32) (k : Nat), sw_Ch a6 h l → (∀ x, x ∈ l → x < 8) → k = st.length → k + l.length ≤ 24 → sw_St a8 st →
    ∀ {post : St1 → Prop} {rm nt rc nc wc tc mt sd : Int32} {a1 a2 a3 a4 a5 a7 a9 a10 a11 a12 a13 a14 a15 a16 a17 a18 a19 a20 a21 a22 : Nat → Int32}, (∀ a8', sw_St a8' (st ++ l) → post (rm, nt, nI (k + l.length), rc, nc, wc, tc, mt, sd, a1, a2, a3, a4, a5, a6, a7, a8', a9, a10, a11, a12, a13, a14, a15, a16, a17, a18, a19, a20, a21, a22)) → wX_look_7 post rm nt rc nc wc tc mt sd (l.length + 1) h (nI k) a1 a2 a3 a4 a5 a6 a7 a8 a9 a10 a11 a12 a13 a14 a15 a16 a17 a18 a19 a20 a21 a22
  | [], h, st, a8, k, hc, _, _, _, hs => fun H => by
    rw [List.append_nil] at H
    exact br_t (by rw [show h = -1 from hc]; decide) (H a8 hs)
  | t :: l, h, st, a8, k, hc, h8, hk, hlen, hs => fun H => by
    have ht : t < 8 := h8 t List.mem_cons_self
    rw [List.length_cons] at hlen
    have e1 : k + 1 = (st ++ [t]).length := by simp [hk]
    have e2 : (st ++ [t]) ++ l = st ++ t :: l := by simp
    have e3 : k + (t :: l).length = k + 1 + l.length := by rw [List.length_cons]; omega
    have hs' := sw_st_push t hs
    rw [← hk] at hs'
    rw [hc.1]
    exact br_f (nI_pos (by omega)) ⟨pk_in k 24 (by omega), nm_r (by rw [nI_clamp (by omega), sw_b8 t (by omega)]) (nm_r (nI_1 _) ⟨pk_in t 8 ht, nm_r (by rw [nI_clamp (by omega)]) (sw_look_loop l (a6 t) (st ++ [t]) (upd a8 k (nI t)) (k + 1) hc.2 (fun x hx => h8 x (List.mem_cons_of_mem _ hx)) e1 (by omega) hs' (fun a8' hs2 => by
      have g := H a8' (by rw [← e2]; exact hs2)
      rw [e3] at g
      exact g))⟩)⟩
theorem sw_look {pl : Nat → Nat} {L : Nat → List Nat} {a4 a5 a6 : Nat → Int32} {p : Nat} {st : List Nat} {a8 : Nat → Int32} (hP : sw_PL pl L a4 a5 a6) (hp : p < 16) (hl : st.length + (L p).length ≤ 24) (hs : sw_St a8 st) {post : St1 → Prop} {rm nt rc nc wc tc mt sd : Int32} {a1 a2 a3 a7 a9 a10 a11 a12 a13 a14 a15 a16 a17 a18 a19 a20 a21 a22 : Nat → Int32}
    (H : ∀ a8', sw_St a8' (st ++ L p) → post (rm, nt, nI (st ++ L p).length, rc, nc, wc, tc, mt, sd, a1, a2, a3, a4, a5, a6, a7, a8', a9, a10, a11, a12, a13, a14, a15, a16, a17, a18, a19, a20, a21, a22)) : wpX_look post (rm, nt, nI st.length, rc, nc, wc, tc, mt, sd, a1, a2, a3, a4, a5, a6, a7, a8, a9, a10, a11, a12, a13, a14, a15, a16, a17, a18, a19, a20, a21, a22) (nI p) := by
  obtain ⟨c1, c2, c3⟩ := hP.2.1 p hp
  rw [List.length_append] at H
  refine And.intro (pk_in p 16 hp) (nm_r (e' := a5 p) (by rw [nI_clamp (by omega)]) (Exists.intro ((L p).length + 1) ?_))
  exact sw_look_loop (L p) (a5 p) st a8 st.length c1 (fun x hx => ((c3 x).mp hx).1) rfl hl hs H
/-! one bit of an int -/
theorem sw_sm : ∀ n, n < 8 → ((nI n &&& 31).toBitVec.smod 32).toNat = n := by decide +kernel
theorem sw_z1 (x : Int32) : (x &&& 1) = 0 ↔ x.toBitVec.getLsbD 0 = false := by
  constructor
  · intro h
    have h2 : (x &&& 1).toBitVec.getLsbD 0 = false := by rw [h]; rfl
    rw [Int32.toBitVec_and, BitVec.getLsbD_and] at h2
    have h3 : (1 : Int32).toBitVec.getLsbD 0 = true := rfl
    rw [h3, Bool.and_true] at h2
    exact h2
  · intro h
    apply Int32.toBitVec_inj.mp
    apply BitVec.eq_of_getLsbD_eq
    intro i hi
    rw [Int32.toBitVec_and, BitVec.getLsbD_and]
    have h0 : (0 : Int32).toBitVec.getLsbD i = false := BitVec.getLsbD_zero
    rw [h0]
    by_cases e : i = 0
    · rw [e, h]; rfl
    · have h1 : ∀ i, i < 32 → i ≠ 0 → (1 : Int32).toBitVec.getLsbD i = false := by decide +kernel
      rw [h1 i hi e, Bool.and_false]
theorem sw_bit (x : Int32) {t : Nat} (ht : t < 8) : ((x >>> (nI t &&& 31)) &&& 1) = 0 ↔ x.toBitVec.getLsbD t = false := by
  rw [sw_z1, Int32.toBitVec_shiftRight]
  show (x.toBitVec.sshiftRight ((nI t &&& 31).toBitVec.smod 32).toNat).getLsbD 0 = false ↔ _
  rw [sw_sm t ht, BitVec.getLsbD_sshiftRight]
  simp only [Nat.add_zero]
  rw [if_pos (show t < 32 by omega)]
  simp
theorem sw_sh1 : ∀ u, u < 8 → ∀ t, t < 8 → ((1 : Int32) <<< (nI u &&& 31)).toBitVec.getLsbD t = decide (t = u) := by decide +kernel
theorem sw_orbit (x : Int32) {t u : Nat} (ht : t < 8) (hu : u < 8) : (((x ||| ((1 : Int32) <<< (nI u &&& 31))) >>> (nI t &&& 31)) &&& 1) = 0 ↔ ((x >>> (nI t &&& 31)) &&& 1) = 0 ∧ t ≠ u := by
  rw [sw_bit _ ht, sw_bit _ ht, Int32.toBitVec_or, BitVec.getLsbD_or, sw_sh1 u hu t ht]
  simp
def sw_NI (N : Int32) (nr : List Nat) : Prop := ∀ t, t < 8 → (((N >>> (nI t &&& 31)) &&& 1) = 0 ↔ t ∉ nr)
theorem sw_ni0 : sw_NI 0 [] := by
  have h : ∀ t, t < 8 → (((0 : Int32) >>> (nI t &&& 31)) &&& 1) = 0 := by decide +kernel
  intro t ht
  simp [h t ht]
theorem sw_ni_add {N : Int32} {nr : List Nat} {u : Nat} (h : sw_NI N nr) (hu : u < 8) : sw_NI (N ||| ((1 : Int32) <<< (nI u &&& 31))) (u :: nr) := by
  intro t ht
  rw [sw_orbit N ht hu, h t ht, List.mem_cons, not_or, and_comm]
/-- what is near: in the room, in the hands, or in a box that stands wide and is near -/
def sw_Nr (pl : Nat → Nat) (a3 : Nat → Int32) (k : Nat) (nr ts : List Nat) : Prop := ∀ t, t ∈ ts → t < 8 ∧ (pl t = k ∨ pl t = 6 ∨ ∃ u, u ∈ nr ∧ pl t = 8 + u ∧ (a3 u &&& 6) = 6)
end
section
/-! findNear and isVisible -/
theorem sw_st0 (a8 : Nat → Int32) : sw_St a8 [] := fun i hi => absurd hi (Nat.not_lt_zero i)
theorem sw_fn_end {pl : Nat → Nat} {a3 : Nat → Int32} {k m : Nat} {nr : List Nat} {N : Int32} (hr : sw_Nr pl a3 k nr (nr ++ [])) (hN : sw_NI N nr) :
    ∃ N' nr', sw_NI N' nr' ∧ sw_Nr pl a3 k nr' nr' ∧ ∀ {post : St1 → Prop} {rc nc wc tc mt sd : Int32} {a1 a2 a4 a5 a6 a7 a8 a9 a10 a11 a12 a13 a14 a15 a16 a17 a18 a19 a20 a21 a22 : Nat → Int32}, sw_St a8 [] → (∀ sk' a8', post (nI k, N', sk', rc, nc, wc, tc, mt, sd, a1, a2, a3, a4, a5, a6, a7, a8', a9, a10, a11, a12, a13, a14, a15, a16, a17, a18, a19, a20, a21, a22)) → wX_findNear_24 post (m + 1) (nI k) N (nI 0) rc nc wc tc mt sd a1 a2 a3 a4 a5 a6 a7 a8 a9 a10 a11 a12 a13 a14 a15 a16 a17 a18 a19 a20 a21 a22 := by
  rw [List.append_nil] at hr
  exact ⟨N, nr, hN, hr, fun hs H => br_t (by decide) (H _ _)⟩
theorem sw_fn_loop {pl : Nat → Nat} {L : Nat → List Nat} {a3 a4 a5 a6 : Nat → Int32} {k : Nat} (hP : sw_PL pl L a4 a5 a6) (hk : k < 6) : ∀ (m : Nat) (nr st : List Nat) (N : Int32), nr.length + m = 8 → (nr ++ st).Nodup → sw_Nr pl a3 k nr (nr ++ st) → sw_NI N nr →
    ∃ N' nr', sw_NI N' nr' ∧ sw_Nr pl a3 k nr' nr' ∧ ∀ {post : St1 → Prop} {rc nc wc tc mt sd : Int32} {a1 a2 a7 a8 a9 a10 a11 a12 a13 a14 a15 a16 a17 a18 a19 a20 a21 a22 : Nat → Int32}, sw_St a8 st → (∀ sk' a8', post (nI k, N', sk', rc, nc, wc, tc, mt, sd, a1, a2, a3, a4, a5, a6, a7, a8', a9, a10, a11, a12, a13, a14, a15, a16, a17, a18, a19, a20, a21, a22)) → wX_findNear_24 post (m + 1) (nI k) N (nI st.length) rc nc wc tc mt sd a1 a2 a3 a4 a5 a6 a7 a8 a9 a10 a11 a12 a13 a14 a15 a16 a17 a18 a19 a20 a21 a22 := by
  intro m
  induction m with
  | zero =>
    intro nr st N hm hn hr hN
    have h8 := sw_nd_len 8 _ hn (fun x hx => (hr x hx).1)
    rw [List.length_append] at h8
    have e : st = [] := List.eq_nil_of_length_eq_zero (by omega)
    subst e
    obtain ⟨N', nr', g1, g2, g3⟩ := sw_fn_end (m := 0) hr hN
    exact ⟨N', nr', g1, g2, fun hs H => g3 hs H⟩
  | succ m ih =>
    intro nr st N hm hn hr hN
    rcases List.eq_nil_or_concat st with e | ⟨s', t, e⟩
    · subst e
      obtain ⟨N', nr', g1, g2, g3⟩ := sw_fn_end (m := m + 1) hr hN
      exact ⟨N', nr', g1, g2, fun hs H => g3 hs H⟩
    · rw [List.concat_eq_append] at e
      subst e
      have h8 := sw_nd_len 8 _ hn (fun x hx => (hr x hx).1)
      rw [List.length_append, List.length_append, List.length_singleton] at h8
      have htm : t ∈ nr ++ (s' ++ [t]) := by simp
      have ht : t < 8 := (hr t htm).1
      have hn0 := hn
      rw [List.nodup_append, List.nodup_append] at hn0
      obtain ⟨n1, ⟨n2, _, n3⟩, n4⟩ := hn0
      have htn : t ∉ nr := fun z => n4 t z t (by simp) rfl
      have hts : t ∉ s' := fun z => n3 t z t (by simp) rfl
      have hds : ∀ a, a ∈ nr → ∀ b, b ∈ s' → a ≠ b := fun a ha b hb => n4 a ha b (by simp [hb])
      have hN' := sw_ni_add hN ht
      have hl1 : (s' ++ [t]).length = s'.length + 1 := by simp
      have hpop : nI (s' ++ [t]).length - 1 = nI s'.length := by rw [hl1]; exact nI_pred _
      have hne : ¬ nI (s' ++ [t]).length ≤ 0 := by rw [hl1]; exact nI_nle (by omega) (by omega)
      have hmono : ∀ x, x ∈ nr ++ (s' ++ [t]) → x < 8 ∧ (pl x = k ∨ pl x = 6 ∨ ∃ u, u ∈ t :: nr ∧ pl x = 8 + u ∧ (a3 u &&& 6) = 6) := by
        intro x hx
        obtain ⟨g1, g2⟩ := hr x hx
        refine ⟨g1, ?_⟩
        rcases g2 with g | g | ⟨u, hu, g⟩
        · exact Or.inl g
        · exact Or.inr (Or.inl g)
        · exact Or.inr (Or.inr ⟨u, List.mem_cons_of_mem _ hu, g⟩)
      by_cases ho : (a3 t &&& 6) = 6
      · obtain ⟨c1, c2, c3⟩ := hP.2.1 (8 + t) (by omega)
        have hout : ∀ c, c ∈ L (8 + t) → c ∉ nr ++ (s' ++ [t]) := by
          intro c hc hx
          have hpc := ((c3 c).mp hc).2
          rcases (hr c hx).2 with g | g | ⟨u, hu, g, _⟩
          · omega
          · omega
          · have : u = t := by omega
            exact htn (this ▸ hu)
        have hn' : ((t :: nr) ++ (s' ++ L (8 + t))).Nodup := by
          rw [List.nodup_append, List.nodup_append, List.nodup_cons]
          refine ⟨⟨htn, n1⟩, ⟨n2, c2, fun a ha b hb z => hout b hb (by rw [← z]; simp [ha])⟩, ?_⟩
          intro a ha b hb z
          rcases List.mem_append.mp hb with hb | hb
          · rcases List.mem_cons.mp ha with ha | ha
            · exact hts (by rw [← ha, z]; exact hb)
            · exact hds a ha b hb z
          · refine hout b hb ?_
            rw [← z]
            rcases List.mem_cons.mp ha with ha | ha
            · rw [ha]; exact htm
            · simp [ha]
        have hr' : sw_Nr pl a3 k (t :: nr) ((t :: nr) ++ (s' ++ L (8 + t))) := by
          intro x hx
          rcases List.mem_append.mp hx with hx | hx
          · refine hmono x ?_
            rcases List.mem_cons.mp hx with hx | hx
            · rw [hx]; exact htm
            · simp [hx]
          · rcases List.mem_append.mp hx with hx | hx
            · exact hmono x (by simp [hx])
            · have g := (c3 x).mp hx
              exact ⟨g.1, Or.inr (Or.inr ⟨t, List.mem_cons_self, g.2, ho⟩)⟩
        obtain ⟨N', nr', g1, g2, g3⟩ := ih (t :: nr) (s' ++ L (8 + t)) _ (by rw [List.length_cons]; omega) hn' hr' hN'
        refine ⟨N', nr', g1, g2, fun hs H => ?_⟩
        obtain ⟨p1, p2⟩ := sw_st_pop hs
        have hL8 := sw_nd_len 8 _ c2 (fun x hx => ((c3 x).mp hx).1)
        refine br_f hne (nm_r hpop ⟨pk_in s'.length 24 (by omega), nm_r (e' := nI t) (by rw [nI_clamp (by omega)]; exact p2) (nm_e ⟨pk_in t 8 ht, br_t (by rw [nI_clamp (by omega)]; exact ho) ?_⟩)⟩)
        rw [show (8 : Int32) + nI t = nI (8 + t) from nI_add 8 t]
        exact sw_look hP (by omega) (by omega) p1 (fun a8' hs' => g3 hs' H)
      · have hn' : ((t :: nr) ++ s').Nodup := by
          rw [List.nodup_append, List.nodup_cons]
          refine ⟨⟨htn, n1⟩, n2, ?_⟩
          intro a ha b hb z
          rcases List.mem_cons.mp ha with ha | ha
          · exact hts (by rw [← ha, z]; exact hb)
          · exact hds a ha b hb z
        have hr' : sw_Nr pl a3 k (t :: nr) ((t :: nr) ++ s') := by
          intro x hx
          refine hmono x ?_
          rcases List.mem_append.mp hx with hx | hx
          · rcases List.mem_cons.mp hx with hx | hx
            · rw [hx]; exact htm
            · simp [hx]
          · simp [hx]
        obtain ⟨N', nr', g1, g2, g3⟩ := ih (t :: nr) s' _ (by rw [List.length_cons]; omega) hn' hr' hN'
        refine ⟨N', nr', g1, g2, fun hs H => ?_⟩
        obtain ⟨p1, p2⟩ := sw_st_pop hs
        exact br_f hne (nm_r hpop ⟨pk_in s'.length 24 (by omega), nm_r (e' := nI t) (by rw [nI_clamp (by omega)]; exact p2) (nm_e ⟨pk_in t 8 ht, br_f (by rw [nI_clamp (by omega)]; exact ho) (g3 p1 H)⟩)⟩)
theorem sw_fn {pl : Nat → Nat} {L : Nat → List Nat} {a3 a4 a5 a6 : Nat → Int32} {k : Nat} (hP : sw_PL pl L a4 a5 a6) (hk : k < 6) :
    ∃ N' nr', sw_NI N' nr' ∧ sw_Nr pl a3 k nr' nr' ∧ ∀ {post : St1 → Prop} {nt sk rc nc wc tc mt sd : Int32} {a1 a2 a7 a8 a9 a10 a11 a12 a13 a14 a15 a16 a17 a18 a19 a20 a21 a22 : Nat → Int32}, (∀ sk' a8', post (nI k, N', sk', rc, nc, wc, tc, mt, sd, a1, a2, a3, a4, a5, a6, a7, a8', a9, a10, a11, a12, a13, a14, a15, a16, a17, a18, a19, a20, a21, a22)) → wpX_findNear post (nI k, nt, sk, rc, nc, wc, tc, mt, sd, a1, a2, a3, a4, a5, a6, a7, a8, a9, a10, a11, a12, a13, a14, a15, a16, a17, a18, a19, a20, a21, a22) := by
  obtain ⟨c1, c2, c3⟩ := hP.2.1 k (by omega)
  obtain ⟨d1, d2, d3⟩ := hP.2.1 6 (by omega)
  have hn : (([] : List Nat) ++ (L k ++ L 6)).Nodup := by
    rw [List.nil_append, List.nodup_append]
    refine ⟨c2, d2, fun a ha b hb z => ?_⟩
    have g1 := ((c3 a).mp ha).2
    have g2 := ((d3 b).mp hb).2
    rw [z] at g1
    omega
  have hr : sw_Nr pl a3 k [] ([] ++ (L k ++ L 6)) := by
    intro x hx
    rw [List.nil_append] at hx
    rcases List.mem_append.mp hx with hx | hx
    · have g := (c3 x).mp hx
      exact ⟨g.1, Or.inl g.2⟩
    · have g := (d3 x).mp hx
      exact ⟨g.1, Or.inr (Or.inl g.2)⟩
  obtain ⟨N', nr', g1, g2, g3⟩ := sw_fn_loop hP hk 8 [] (L k ++ L 6) 0 rfl hn hr sw_ni0
  have l1 := sw_nd_len 8 _ c2 (fun x hx => ((c3 x).mp hx).1)
  have l2 := sw_nd_len 8 _ d2 (fun x hx => ((d3 x).mp hx).1)
  refine ⟨N', nr', g1, g2, fun H => ?_⟩
  refine sw_look (st := []) hP (show k < 16 by omega) (by rw [List.length_nil]; omega) (sw_st0 _) (fun a8' h' => ?_)
  rw [List.nil_append] at h'
  refine sw_look (st := L k) hP (show 6 < 16 by omega) (by omega) h' (fun a8'' h'' => ?_)
  exact Exists.intro 9 (g3 h'' H)
theorem sw_lamp {a3 : Nat → Int32} {N : Int32} : ∀ (m : Nat), m ≤ 8 → ∃ r : Int32, (r = 0 ∨ r = 1) ∧ ∀ {post : Int32 → St1 → Prop} {rm sk rc nc wc tc mt sd : Int32} {a1 a2 a4 a5 a6 a7 a8 a9 a10 a11 a12 a13 a14 a15 a16 a17 a18 a19 a20 a21 a22 : Nat → Int32}, post r (rm, N, sk, rc, nc, wc, tc, mt, sd, a1, a2, a3, a4, a5, a6, a7, a8, a9, a10, a11, a12, a13, a14, a15, a16, a17, a18, a19, a20, a21, a22) → wX_isVisible_33 post rm N sk rc nc wc tc mt sd a1 a2 a3 a4 a5 a6 a7 a8 a9 a10 a11 a12 a13 a14 a15 a16 a17 a18 a19 a20 a21 a22 (m + 1) (nI (8 - m))
  | 0, _ => ⟨0, Or.inl rfl, fun hp => br_t (by decide) hp⟩
  | m + 1, hm => by
    obtain ⟨r, h1, h2⟩ := sw_lamp (a3 := a3) (N := N) m (by omega)
    have e : nI (8 - (m + 1)) + 1 = nI (8 - m) := by rw [nI_1]; congr 1; omega
    have hlt : ¬ (8 : Int32) ≤ nI (8 - (m + 1)) := nI_ge (b := 8) (by omega) (by decide)
    by_cases c1 : ((N >>> (nI (8 - (m + 1)) &&& 31)) &&& 1) = 0
    · exact ⟨r, h1, fun hp => br_f hlt (br_t c1 (nm_r e (h2 hp)))⟩
    · by_cases c2 : (a3 (8 - (m + 1)) &&& 8) = 0
      · exact ⟨r, h1, fun hp => br_f hlt (br_f c1 ⟨pk_in (8 - (m + 1)) 8 (by omega), br_t (by rw [nI_clamp (by omega)]; exact c2) (nm_r e (h2 hp))⟩)⟩
      · exact ⟨1, Or.inr rfl, fun hp => br_f hlt (br_f c1 ⟨pk_in (8 - (m + 1)) 8 (by omega), br_f (by rw [nI_clamp (by omega)]; exact c2) hp⟩)⟩
theorem sw_vis {pl : Nat → Nat} {L : Nat → List Nat} {a1 a3 a4 a5 a6 : Nat → Int32} {k : Nat} (hP : sw_PL pl L a4 a5 a6) (hk : k < 6) :
    ∃ V : Nat → Int32, (∀ t, V t = 0 ∨ V t = 1) ∧ (∀ t, t < 8 → V t ≠ 0 → pl t = k ∨ pl t = 6 ∨ ∃ u, u < 8 ∧ pl t = 8 + u ∧ (a3 u &&& 6) = 6 ∧ V u ≠ 0) ∧
      ∀ {t : Nat}, t < 8 → ∀ {post : Int32 → St1 → Prop} {nt sk rc nc wc tc mt sd : Int32} {a2 a7 a8 a9 a10 a11 a12 a13 a14 a15 a16 a17 a18 a19 a20 a21 a22 : Nat → Int32}, (∀ nt' sk' a8', post (V t) (nI k, nt', sk', rc, nc, wc, tc, mt, sd, a1, a2, a3, a4, a5, a6, a7, a8', a9, a10, a11, a12, a13, a14, a15, a16, a17, a18, a19, a20, a21, a22)) → wpX_isVisible post (nI k, nt, sk, rc, nc, wc, tc, mt, sd, a1, a2, a3, a4, a5, a6, a7, a8, a9, a10, a11, a12, a13, a14, a15, a16, a17, a18, a19, a20, a21, a22) (nI t) := by
  obtain ⟨N, nr, g1, g2, g3⟩ := sw_fn (a3 := a3) hP hk
  obtain ⟨r, r1, r2⟩ := sw_lamp (a3 := a3) (N := N) 8 (by omega)
  refine ⟨fun t => if ((N >>> (nI t &&& 31)) &&& 1) = 0 then 0 else if a1 k = 0 then 1 else r, ?_, ?_, ?_⟩
  · intro t
    dsimp only
    split
    · exact Or.inl rfl
    · split
      · exact Or.inr rfl
      · exact r1
  · intro t ht hV
    dsimp only at hV
    by_cases c : ((N >>> (nI t &&& 31)) &&& 1) = 0
    · rw [if_pos c] at hV
      exact absurd rfl hV
    · rw [if_neg c] at hV
      have hm : t ∈ nr := Classical.byContradiction (fun z => c ((g1 t ht).mpr z))
      rcases (g2 t hm).2 with g | g | ⟨u, hu, g, go⟩
      · exact Or.inl g
      · exact Or.inr (Or.inl g)
      · refine Or.inr (Or.inr ⟨u, (g2 u hu).1, g, go, ?_⟩)
        have cu : ¬ ((N >>> (nI u &&& 31)) &&& 1) = 0 := fun z => (g1 u (g2 u hu).1).mp z hu
        dsimp only
        rw [if_neg cu]
        exact hV
  · intro t ht post nt sk rc nc wc tc mt sd a2 a7 a8 a9 a10 a11 a12 a13 a14 a15 a16 a17 a18 a19 a20 a21 a22 H
    dsimp only at H
    refine g3 (nt := nt) (sk := sk) (fun sk' a8' => ?_)
    by_cases c : ((N >>> (nI t &&& 31)) &&& 1) = 0
    · rw [if_pos c] at H
      exact br_t c (H _ _ _)
    · rw [if_neg c] at H
      refine br_f c ⟨pk_in k 6 hk, ?_⟩
      by_cases d : a1 k = 0
      · rw [if_pos d] at H
        exact br_t (by rw [nI_clamp (by omega)]; exact d) (H _ _ _)
      · rw [if_neg d] at H
        exact br_f (by rw [nI_clamp (by omega)]; exact d) (Exists.intro 9 (r2 (H _ _ _)))
end
section
/-! turn, take, drop, putIn, go, conditions and effects -/
theorem sw_turn {a1 a3 a4 a5 a6 : Nat → Int32} {k t : Nat} (hI : sw_PI a4 a5 a6) (hk : k < 6) (ht : t < 8) (o : Int32) :
    ∃ r a3', ¬ r < (0 : Int32) ∧ ∀ {post : Int32 → St1 → Prop} {nt sk rc nc wc tc mt sd : Int32} {a2 a7 a8 a9 a10 a11 a12 a13 a14 a15 a16 a17 a18 a19 a20 a21 a22 : Nat → Int32}, (∀ nt' sk' a8', post r (nI k, nt', sk', rc, nc, wc, tc, mt, sd, a1, a2, a3', a4, a5, a6, a7, a8', a9, a10, a11, a12, a13, a14, a15, a16, a17, a18, a19, a20, a21, a22)) → wpX_turn post (nI k, nt, sk, rc, nc, wc, tc, mt, sd, a1, a2, a3, a4, a5, a6, a7, a8, a9, a10, a11, a12, a13, a14, a15, a16, a17, a18, a19, a20, a21, a22) (nI t) o := by
  obtain ⟨pl, L, hP⟩ := hI
  obtain ⟨V, v1, v2, v3⟩ := sw_vis (a1 := a1) (a3 := a3) hP hk
  have hc : (nI t).toNatClampNeg = t := nI_clamp (by omega)
  have hin : vp_in (nI t) 8 := pk_in t 8 ht
  by_cases c0 : V t = 0
  · exact ⟨2, a3, by decide, fun H => by unfold wpX_turn; exact v3 ht (fun nt' sk' a8' => br_t c0 (H _ _ _))⟩
  · by_cases c1 : (a3 t &&& 2) = 0
    · exact ⟨7, a3, by decide, fun H => by unfold wpX_turn; exact v3 ht (fun nt' sk' a8' => br_f c0 ⟨hin, br_t (by rw [hc]; exact c1) (H _ _ _)⟩)⟩
    · by_cases c2 : (a3 t &&& 4) = 0
      · by_cases c3 : (0 : Int32) = o
        · exact ⟨10, a3, by decide, fun H => by unfold wpX_turn; exact v3 ht (fun nt' sk' a8' => br_f c0 ⟨hin, br_f (by rw [hc]; exact c1) ⟨hin, br_t (by rw [hc]; exact c2) (br_t c3 (H _ _ _))⟩⟩)⟩
        · exact ⟨0, upd a3 t ((a3 t ^^^ 4).toInt8.toInt32), by decide, fun H => by unfold wpX_turn; exact v3 ht (fun nt' sk' a8' => br_f c0 ⟨hin, br_f (by rw [hc]; exact c1) ⟨hin, br_t (by rw [hc]; exact c2) (br_f c3 ⟨hin, hin, nm_r (by rw [hc]) (H _ _ _)⟩)⟩⟩)⟩
      · by_cases c3 : (1 : Int32) = o
        · exact ⟨10, a3, by decide, fun H => by unfold wpX_turn; exact v3 ht (fun nt' sk' a8' => br_f c0 ⟨hin, br_f (by rw [hc]; exact c1) ⟨hin, br_f (by rw [hc]; exact c2) (br_t c3 (H _ _ _))⟩⟩)⟩
        · exact ⟨0, upd a3 t ((a3 t ^^^ 4).toInt8.toInt32), by decide, fun H => by unfold wpX_turn; exact v3 ht (fun nt' sk' a8' => br_f c0 ⟨hin, br_f (by rw [hc]; exact c1) ⟨hin, br_f (by rw [hc]; exact c2) (br_f c3 ⟨hin, hin, nm_r (by rw [hc]) (H _ _ _)⟩)⟩⟩)⟩
theorem sw_take {a1 a3 a4 a5 a6 : Nat → Int32} {k t : Nat} (hI : sw_PI a4 a5 a6) (hk : k < 6) (ht : t < 8) :
    ∃ r a4' a5' a6', ¬ r < (0 : Int32) ∧ sw_PI a4' a5' a6' ∧ (r = 0 → a4' t = 6) ∧ ∀ {post : Int32 → St1 → Prop} {nt sk rc nc wc tc mt sd : Int32} {a2 a7 a8 a9 a10 a11 a12 a13 a14 a15 a16 a17 a18 a19 a20 a21 a22 : Nat → Int32}, (∀ nt' sk' a8', post r (nI k, nt', sk', rc, nc, wc, tc, mt, sd, a1, a2, a3, a4', a5', a6', a7, a8', a9, a10, a11, a12, a13, a14, a15, a16, a17, a18, a19, a20, a21, a22)) → wpX_take post (nI k, nt, sk, rc, nc, wc, tc, mt, sd, a1, a2, a3, a4, a5, a6, a7, a8, a9, a10, a11, a12, a13, a14, a15, a16, a17, a18, a19, a20, a21, a22) (nI t) := by
  obtain ⟨pl, L, hP⟩ := hI
  obtain ⟨V, v1, v2, v3⟩ := sw_vis (a1 := a1) (a3 := a3) hP hk
  have hc : (nI t).toNatClampNeg = t := nI_clamp (by omega)
  have hin : vp_in (nI t) 8 := pk_in t 8 ht
  by_cases c0 : V t = 0
  · exact ⟨2, a4, a5, a6, by decide, ⟨pl, L, hP⟩, fun z => absurd z (by decide), fun H => by unfold wpX_take; exact v3 ht (fun nt' sk' a8' => br_t c0 (H _ _ _))⟩
  · by_cases c1 : a4 t = 6
    · exact ⟨3, a4, a5, a6, by decide, ⟨pl, L, hP⟩, fun z => absurd z (by decide), fun H => by unfold wpX_take; exact v3 ht (fun nt' sk' a8' => br_f c0 ⟨hin, br_t (by rw [hc]; exact c1) (H _ _ _)⟩)⟩
    · by_cases c2 : (a3 t &&& 1) = 0
      · by_cases c3 : nI (L 6).length < 4
        · obtain ⟨a5', a6', m1, m2⟩ := sw_move (p := 6) hP ht (by omega) ⟨0, show 6 < 8 by omega⟩
          exact ⟨0, _, a5', a6', by decide, m1, fun _ => pk_us, fun H => by unfold wpX_take; exact v3 ht (fun nt' sk' a8' => br_f c0 ⟨hin, br_f (by rw [hc]; exact c1) ⟨hin, br_t (by rw [hc]; exact c2) (sw_ci (p := 6) hP (by omega) (br_t c3 (m2 (H _ _ _))))⟩⟩)⟩
        · exact ⟨5, a4, a5, a6, by decide, ⟨pl, L, hP⟩, fun z => absurd z (by decide), fun H => by unfold wpX_take; exact v3 ht (fun nt' sk' a8' => br_f c0 ⟨hin, br_f (by rw [hc]; exact c1) ⟨hin, br_t (by rw [hc]; exact c2) (sw_ci (p := 6) hP (by omega) (br_f c3 (H _ _ _)))⟩⟩)⟩
      · exact ⟨4, a4, a5, a6, by decide, ⟨pl, L, hP⟩, fun z => absurd z (by decide), fun H => by unfold wpX_take; exact v3 ht (fun nt' sk' a8' => br_f c0 ⟨hin, br_f (by rw [hc]; exact c1) ⟨hin, br_f (by rw [hc]; exact c2) (H _ _ _)⟩⟩)⟩
theorem sw_drop {a4 a5 a6 : Nat → Int32} {k t : Nat} (hI : sw_PI a4 a5 a6) (hk : k < 6) (ht : t < 8) :
    ∃ r a4' a5' a6', ¬ r < (0 : Int32) ∧ sw_PI a4' a5' a6' ∧ ∀ {post : Int32 → St1 → Prop} {nt sk rc nc wc tc mt sd : Int32} {a1 a2 a3 a7 a8 a9 a10 a11 a12 a13 a14 a15 a16 a17 a18 a19 a20 a21 a22 : Nat → Int32}, post r (nI k, nt, sk, rc, nc, wc, tc, mt, sd, a1, a2, a3, a4', a5', a6', a7, a8, a9, a10, a11, a12, a13, a14, a15, a16, a17, a18, a19, a20, a21, a22) → wpX_drop post (nI k, nt, sk, rc, nc, wc, tc, mt, sd, a1, a2, a3, a4, a5, a6, a7, a8, a9, a10, a11, a12, a13, a14, a15, a16, a17, a18, a19, a20, a21, a22) (nI t) := by
  obtain ⟨pl, L, hP⟩ := hI
  have hc : (nI t).toNatClampNeg = t := nI_clamp (by omega)
  have hin : vp_in (nI t) 8 := pk_in t 8 ht
  by_cases c1 : a4 t = 6
  · obtain ⟨a5', a6', m1, m2⟩ := sw_move (p := k) hP ht (by omega) ⟨0, by show k < 8; omega⟩
    exact ⟨0, _, a5', a6', by decide, m1, fun H => And.intro hin (br_t (by rw [hc]; exact c1) (m2 H))⟩
  · exact ⟨6, a4, a5, a6, by decide, ⟨pl, L, hP⟩, fun H => And.intro hin (br_f (by rw [hc]; exact c1) H)⟩
theorem sw_put {a1 a3 a4 a5 a6 : Nat → Int32} {k t q : Nat} (hI : sw_PI a4 a5 a6) (hk : k < 6) (ht : t < 8) (hq : q < 8) :
    ∃ r a4' a5' a6', ¬ r < (0 : Int32) ∧ sw_PI a4' a5' a6' ∧ ∀ {post : Int32 → St1 → Prop} {nt sk rc nc wc tc mt sd : Int32} {a2 a7 a8 a9 a10 a11 a12 a13 a14 a15 a16 a17 a18 a19 a20 a21 a22 : Nat → Int32}, (∀ nt' sk' a8', post r (nI k, nt', sk', rc, nc, wc, tc, mt, sd, a1, a2, a3, a4', a5', a6', a7, a8', a9, a10, a11, a12, a13, a14, a15, a16, a17, a18, a19, a20, a21, a22)) → wpX_putIn post (nI k, nt, sk, rc, nc, wc, tc, mt, sd, a1, a2, a3, a4, a5, a6, a7, a8, a9, a10, a11, a12, a13, a14, a15, a16, a17, a18, a19, a20, a21, a22) (nI t) (nI q) := by
  obtain ⟨pl, L, hP⟩ := hI
  obtain ⟨V, v1, v2, v3⟩ := sw_vis (a1 := a1) (a3 := a3) hP hk
  have hc : (nI t).toNatClampNeg = t := nI_clamp (by omega)
  have hin : vp_in (nI t) 8 := pk_in t 8 ht
  have hcq : (nI q).toNatClampNeg = q := nI_clamp (by omega)
  have hinq : vp_in (nI q) 8 := pk_in q 8 hq
  have e8 : (8 : Int32) + nI q = nI (8 + q) := nI_add 8 q
  by_cases c1 : a4 t = 6
  · by_cases c0 : V q = 0
    · exact ⟨2, a4, a5, a6, by decide, ⟨pl, L, hP⟩, fun H => And.intro hin (br_t (by rw [hc]; exact c1) (v3 hq (fun nt' sk' a8' => br_t c0 (H _ _ _))))⟩
    · by_cases c2 : (a3 q &&& 2) = 0
      · exact ⟨7, a4, a5, a6, by decide, ⟨pl, L, hP⟩, fun H => And.intro hin (br_t (by rw [hc]; exact c1) (v3 hq (fun nt' sk' a8' => br_f c0 ⟨hinq, br_t (by rw [hcq]; exact c2) (H _ _ _)⟩)))⟩
      · obtain ⟨w, w1, w2, w3⟩ := sw_wl (a := 8 + q) hP ht (by omega)
        by_cases c3 : w = 0
        · by_cases c4 : (a3 q &&& 4) = 0
          · refine ⟨8, a4, a5, a6, by decide, ⟨pl, L, hP⟩, fun H => And.intro hin (br_t (by rw [hc]; exact c1) (v3 hq (fun nt' sk' a8' => br_f c0 ⟨hinq, br_f (by rw [hcq]; exact c2) ?_⟩)))⟩
            rw [e8]
            exact w3 (br_t c3 ⟨hinq, br_t (by rw [hcq]; exact c4) (H _ _ _)⟩)
          · by_cases c5 : nI (L (8 + q)).length < 3
            · obtain ⟨a5', a6', m1, m2⟩ := sw_move (p := 8 + q) hP ht (by omega) (w2 c3 _)
              refine ⟨0, _, a5', a6', by decide, m1, fun H => And.intro hin (br_t (by rw [hc]; exact c1) (v3 hq (fun nt' sk' a8' => br_f c0 ⟨hinq, br_f (by rw [hcq]; exact c2) ?_⟩)))⟩
              rw [e8]
              exact w3 (br_t c3 ⟨hinq, br_f (by rw [hcq]; exact c4) (sw_ci hP (by omega) (br_t c5 (m2 (H _ _ _))))⟩)
            · refine ⟨5, a4, a5, a6, by decide, ⟨pl, L, hP⟩, fun H => And.intro hin (br_t (by rw [hc]; exact c1) (v3 hq (fun nt' sk' a8' => br_f c0 ⟨hinq, br_f (by rw [hcq]; exact c2) ?_⟩)))⟩
              rw [e8]
              exact w3 (br_t c3 ⟨hinq, br_f (by rw [hcq]; exact c4) (sw_ci hP (by omega) (br_f c5 (H _ _ _)))⟩)
        · refine ⟨7, a4, a5, a6, by decide, ⟨pl, L, hP⟩, fun H => And.intro hin (br_t (by rw [hc]; exact c1) (v3 hq (fun nt' sk' a8' => br_f c0 ⟨hinq, br_f (by rw [hcq]; exact c2) ?_⟩)))⟩
          rw [e8]
          exact w3 (br_f c3 (H _ _ _))
  · exact ⟨6, a4, a5, a6, by decide, ⟨pl, L, hP⟩, fun H => And.intro hin (br_f (by rw [hc]; exact c1) (H _ _ _))⟩
def sw_EX (a2 : Nat → Int32) : Prop := ∀ j, j < 24 → a2 j = -1 ∨ ∃ k, k < 6 ∧ a2 j = nI k
theorem sw_go {a2 : Nat → Int32} {k x : Nat} (hE : sw_EX a2) (hk : k < 6) (hx : x < 4) :
    ∃ r k', k' < 6 ∧ ¬ r < (0 : Int32) ∧ ∀ {post : Int32 → St1 → Prop} {nt sk rc nc wc tc mt sd : Int32} {a1 a3 a4 a5 a6 a7 a8 a9 a10 a11 a12 a13 a14 a15 a16 a17 a18 a19 a20 a21 a22 : Nat → Int32}, post r (nI k', nt, sk, rc, nc, wc, tc, mt, sd, a1, a2, a3, a4, a5, a6, a7, a8, a9, a10, a11, a12, a13, a14, a15, a16, a17, a18, a19, a20, a21, a22) → wpX_go post (nI k, nt, sk, rc, nc, wc, tc, mt, sd, a1, a2, a3, a4, a5, a6, a7, a8, a9, a10, a11, a12, a13, a14, a15, a16, a17, a18, a19, a20, a21, a22) (nI x) := by
  have e : (4 : Int32) * nI k + nI x = nI (4 * k + x) := by rw [show (4 : Int32) * nI k = nI (4 * k) from pk_mul 4 k, nI_add]
  have hin : vp_in ((4 : Int32) * nI k + nI x) 24 := by rw [e]; exact pk_in (4 * k + x) 24 (by omega)
  have hc : ((4 : Int32) * nI k + nI x).toNatClampNeg = 4 * k + x := by rw [e, nI_clamp (by omega)]
  rcases hE (4 * k + x) (by omega) with g | ⟨k', hk', g⟩
  · exact ⟨9, k, hk, by decide, fun H => And.intro hin (nm_r (e' := -1) (by rw [hc]; exact g) (br_f (by decide) H))⟩
  · exact ⟨0, k', hk', by decide, fun H => And.intro hin (nm_r (e' := nI k') (by rw [hc]; exact g) (br_t (nI_pos' (by omega)) H))⟩
/-! conditions and effects -/
def sw_cA (c : Int32) : Int32 := (c >>> ((2 : Int32) &&& 31)) &&& 15
def sw_CO (c : Int32) : Prop := ((c &&& 3) = 1 → vp_in ((c >>> ((2 : Int32) &&& 31)) &&& 15) 4) ∧ (¬ (c &&& 3) = 1 → ¬ (c &&& 3) = 0 → vp_in ((c >>> ((2 : Int32) &&& 31)) &&& 15) 8)
theorem sw_hold {a3 a4 a7 : Nat → Int32} {c : Int32} (hc : sw_CO c) : ∃ r : Int32, ∀ {post : Int32 → Prop} {rm nt sk rc nc wc tc mt sd : Int32} {a1 a2 a5 a6 a8 a9 a10 a11 a12 a13 a14 a15 a16 a17 a18 a19 a20 a21 a22 : Nat → Int32}, post r → wpX_holds post (rm, nt, sk, rc, nc, wc, tc, mt, sd, a1, a2, a3, a4, a5, a6, a7, a8, a9, a10, a11, a12, a13, a14, a15, a16, a17, a18, a19, a20, a21, a22) c := by
  by_cases c1 : (c &&& 3) = 1
  · by_cases d : (a7 ((c >>> ((2 : Int32) &&& 31)) &&& 15).toNatClampNeg) < (c >>> ((6 : Int32) &&& 31))
    · exact ⟨0, fun H => nm_e (nm_e (nm_e (br_t c1 ⟨hc.1 c1, br_t d H⟩)))⟩
    · exact ⟨1, fun H => nm_e (nm_e (nm_e (br_t c1 ⟨hc.1 c1, br_f d H⟩)))⟩
  · by_cases c2 : (c &&& 3) = 2
    · have h8 := hc.2 c1 (by rw [c2]; decide)
      by_cases d : (a4 ((c >>> ((2 : Int32) &&& 31)) &&& 15).toNatClampNeg) = (c >>> ((6 : Int32) &&& 31))
      · exact ⟨1, fun H => nm_e (nm_e (nm_e (br_f c1 (br_t c2 ⟨h8, br_t d H⟩))))⟩
      · exact ⟨0, fun H => nm_e (nm_e (nm_e (br_f c1 (br_t c2 ⟨h8, br_f d H⟩))))⟩
    · by_cases c3 : (c &&& 3) = 0
      · exact ⟨1, fun H => nm_e (nm_e (nm_e (br_f c1 (br_f c2 (br_t c3 H)))))⟩
      · have h8 := hc.2 c1 c3
        by_cases d : (((a3 ((c >>> ((2 : Int32) &&& 31)) &&& 15).toNatClampNeg) >>> ((c >>> ((6 : Int32) &&& 31)) &&& 31)) &&& 1) = 0
        · exact ⟨0, fun H => nm_e (nm_e (nm_e (br_f c1 (br_f c2 (br_f c3 ⟨h8, br_t d H⟩)))))⟩
        · exact ⟨1, fun H => nm_e (nm_e (nm_e (br_f c1 (br_f c2 (br_f c3 ⟨h8, br_f d H⟩)))))⟩
/-- the moving part of the core: room, said, places -/
def sw_W (m : Nat) (rm sd : Int32) (a4 a5 a6 : Nat → Int32) : Prop := (∃ k, k < 6 ∧ rm = nI k) ∧ (∃ s, s ≤ m ∧ sd = nI s) ∧ sw_PI a4 a5 a6
theorem sw_W_up {m m' : Nat} {rm sd : Int32} {a4 a5 a6 : Nat → Int32} (h : sw_W m rm sd a4 a5 a6) (hm : m ≤ m') : sw_W m' rm sd a4 a5 a6 := by
  obtain ⟨h1, ⟨s, hs, e⟩, h3⟩ := h
  exact ⟨h1, ⟨s, by omega, e⟩, h3⟩
theorem sw_say {sd : Int32} {a22 : Nat → Int32} {m : Nat} (hs : ∃ s, s ≤ m ∧ sd = nI s) (hm : m ≤ 100000) (x : Int32) :
    ∃ sd' a22', (∃ s, s ≤ m + 1 ∧ sd' = nI s) ∧ ∀ {post : St1 → Prop} {rm nt sk rc nc wc tc mt : Int32} {a1 a2 a3 a4 a5 a6 a7 a8 a9 a10 a11 a12 a13 a14 a15 a16 a17 a18 a19 a20 a21 : Nat → Int32}, post (rm, nt, sk, rc, nc, wc, tc, mt, sd', a1, a2, a3, a4, a5, a6, a7, a8, a9, a10, a11, a12, a13, a14, a15, a16, a17, a18, a19, a20, a21, a22') → wpX_say post (rm, nt, sk, rc, nc, wc, tc, mt, sd, a1, a2, a3, a4, a5, a6, a7, a8, a9, a10, a11, a12, a13, a14, a15, a16, a17, a18, a19, a20, a21, a22) x := by
  obtain ⟨s, hs, rfl⟩ := hs
  by_cases c : s < 40
  · exact ⟨nI (s + 1), _, ⟨s + 1, by omega, rfl⟩, fun H => br_f (nI_ge (b := 40) c (by decide)) ⟨pk_in s 40 c, nm_e (nm_r (nI_1 s) H)⟩⟩
  · exact ⟨nI (s + 1), a22, ⟨s + 1, by omega, rfl⟩, fun H => br_t (nI_le (a := 40) (by omega) (by omega)) (nm_r (nI_1 s) H)⟩
def sw_EO (e : Int32) : Prop := ((e &&& 3) = 1 → ∃ a, a < 8 ∧ ((e >>> ((2 : Int32) &&& 31)) &&& 15) = nI a) ∧ (¬ (e &&& 3) = 0 → ¬ (e &&& 3) = 1 → (e &&& 3) = 2 → vp_in ((e >>> ((2 : Int32) &&& 31)) &&& 15) 4) ∧ (¬ (e &&& 3) = 0 → ¬ (e &&& 3) = 1 → ¬ (e &&& 3) = 2 → ∃ a, a < 6 ∧ ((e >>> ((2 : Int32) &&& 31)) &&& 15) = nI a)
theorem sw_bring {rm sd : Int32} {a4 a5 a6 a7 a22 : Nat → Int32} {m : Nat} {e : Int32} (hW : sw_W m rm sd a4 a5 a6) (hm : m ≤ 100000) (he : sw_EO e) :
    ∃ rm' sd' a4' a5' a6' a7' a22', sw_W (m + 1) rm' sd' a4' a5' a6' ∧ ∀ {post : St1 → Prop} {nt sk rc nc wc tc mt : Int32} {a1 a2 a3 a8 a9 a10 a11 a12 a13 a14 a15 a16 a17 a18 a19 a20 a21 : Nat → Int32}, post (rm', nt, sk, rc, nc, wc, tc, mt, sd', a1, a2, a3, a4', a5', a6', a7', a8, a9, a10, a11, a12, a13, a14, a15, a16, a17, a18, a19, a20, a21, a22') → wpX_bringAbout post (rm, nt, sk, rc, nc, wc, tc, mt, sd, a1, a2, a3, a4, a5, a6, a7, a8, a9, a10, a11, a12, a13, a14, a15, a16, a17, a18, a19, a20, a21, a22) e := by
  have hW' := hW
  obtain ⟨h1, h2, h3⟩ := hW'
  by_cases c0 : (e &&& 3) = 0
  · obtain ⟨sd', a22', s1, s2⟩ := sw_say (a22 := a22) h2 hm (((e >>> ((2 : Int32) &&& 31)) &&& 15) + (16 * ((e >>> ((6 : Int32) &&& 31)) &&& 15)))
    exact ⟨rm, sd', a4, a5, a6, a7, a22', ⟨h1, s1, h3⟩, fun H => nm_e (nm_e (nm_e (br_t c0 (s2 H))))⟩
  · by_cases c1 : (e &&& 3) = 1
    · obtain ⟨a, ha, ea⟩ := he.1 c1
      obtain ⟨b, hb, eb⟩ := pk_andE (e >>> ((6 : Int32) &&& 31)) (m := 15) 4 (by decide)
      obtain ⟨pl, L, hP⟩ := h3
      obtain ⟨w, w1, w2, w3⟩ := sw_wl (a := b) hP ha (by omega)
      by_cases c3 : w = 0
      · obtain ⟨a5', a6', m1, m2⟩ := sw_move (p := b) hP ha (by omega) (w2 c3 _)
        exact ⟨rm, sd, _, a5', a6', a7, a22, sw_W_up ⟨h1, h2, m1⟩ (by omega), fun H => nm_r ea (nm_r eb (nm_e (br_f c0 (br_t c1 (w3 (br_t c3 (m2 H)))))))⟩
      · exact ⟨rm, sd, a4, a5, a6, a7, a22, sw_W_up hW (by omega), fun H => nm_r ea (nm_r eb (nm_e (br_f c0 (br_t c1 (w3 (br_f c3 H))))))⟩
    · by_cases c2 : (e &&& 3) = 2
      · have hv := he.2.1 c0 c1 c2
        exact ⟨rm, sd, a4, a5, a6, _, a22, sw_W_up hW (by omega), fun H => nm_e (nm_e (nm_e (br_f c0 (br_f c1 (br_t c2 ⟨hv, hv, nm_e H⟩)))))⟩
      · obtain ⟨a, ha, ea⟩ := he.2.2 c0 c1 c2
        exact ⟨nI a, sd, a4, a5, a6, a7, a22, sw_W_up ⟨⟨a, ha, rfl⟩, h2, h3⟩ (by omega), fun H => nm_r ea (nm_e (nm_e (br_f c0 (br_f c1 (br_f c2 H)))))⟩
end
section
/-! carryOut: the rules of the verb in order, then the verb itself -/
theorem sw_act {rm sd : Int32} {a1 a2 a3 a4 a5 a6 : Nat → Int32} {m v x q : Nat} (hW : sw_W m rm sd a4 a5 a6) (hE : sw_EX a2) (hv : v < 6) (hx : x < 8) (hx0 : v = 0 → x < 4) (hq : q < 8) :
    ∃ r rm' a3' a4' a5' a6', ¬ r < (0 : Int32) ∧ sw_W m rm' sd a4' a5' a6' ∧ (v = 1 → r = 0 → a4' x = 6) ∧
      ∀ {n : Nat} {y : Int32} {post : Int32 → St1 → Prop} {nt sk rc nc wc tc mt : Int32} {a7 a8 a9 a10 a11 a12 a13 a14 a15 a16 a17 a18 a19 a20 a21 a22 : Nat → Int32}, (v = 3 → y = nI q) → (∀ nt' sk' a8', post r (rm', nt', sk', rc, nc, wc, tc, mt, sd, a1, a2, a3', a4', a5', a6', a7, a8', a9, a10, a11, a12, a13, a14, a15, a16, a17, a18, a19, a20, a21, a22)) → wX_carryOut_11 post (nI v) (nI x) y (n + 1) 0 (-1) rm nt sk rc nc wc tc mt sd a1 a2 a3 a4 a5 a6 a7 a8 a9 a10 a11 a12 a13 a14 a15 a16 a17 a18 a19 a20 a21 a22 := by
  obtain ⟨⟨k, hk, rfl⟩, h2, h3⟩ := hW
  match v, hv with
  | 0, _ =>
    obtain ⟨r, k', g1, g2, g3⟩ := sw_go hE hk (hx0 rfl)
    exact ⟨r, nI k', a3, a4, a5, a6, g2, ⟨⟨k', g1, rfl⟩, h2, h3⟩, fun z => absurd z (by decide), fun hy H => br_t (by decide) (br_t rfl (br_t rfl (g3 (H _ _ _))))⟩
  | 1, _ =>
    obtain ⟨r, a4', a5', a6', g1, g2, g3, g4⟩ := sw_take (a1 := a1) (a3 := a3) h3 hk hx
    exact ⟨r, nI k, a3, a4', a5', a6', g1, ⟨⟨k, hk, rfl⟩, h2, g2⟩, fun _ z => g3 z, fun hy H => br_t (by decide) (br_t rfl (br_f (by decide) (br_t rfl (g4 H))))⟩
  | 2, _ =>
    obtain ⟨r, a4', a5', a6', g1, g2, g3⟩ := sw_drop h3 hk hx
    exact ⟨r, nI k, a3, a4', a5', a6', g1, ⟨⟨k, hk, rfl⟩, h2, g2⟩, fun z => absurd z (by decide), fun hy H => br_t (by decide) (br_t rfl (br_f (by decide) (br_f (by decide) (br_t rfl (g3 (H _ _ _))))))⟩
  | 3, _ =>
    obtain ⟨r, a4', a5', a6', g1, g2, g3⟩ := sw_put (a1 := a1) (a3 := a3) h3 hk hx hq
    exact ⟨r, nI k, a3, a4', a5', a6', g1, ⟨⟨k, hk, rfl⟩, h2, g2⟩, fun z => absurd z (by decide), fun hy H => by
      rw [hy rfl]
      exact br_t (by decide) (br_t rfl (br_f (by decide) (br_f (by decide) (br_f (by decide) (br_t rfl (g3 H))))))⟩
  | 4, _ =>
    obtain ⟨r, a3', g1, g2⟩ := sw_turn (a1 := a1) (a3 := a3) h3 hk hx 1
    exact ⟨r, nI k, a3', a4, a5, a6, g1, ⟨⟨k, hk, rfl⟩, h2, h3⟩, fun z => absurd z (by decide), fun hy H => br_t (by decide) (br_t rfl (br_f (by decide) (br_f (by decide) (br_f (by decide) (br_f (by decide) (br_t rfl (g2 H)))))))⟩
  | 5, _ =>
    obtain ⟨r, a3', g1, g2⟩ := sw_turn (a1 := a1) (a3 := a3) h3 hk hx 0
    exact ⟨r, nI k, a3', a4, a5, a6, g1, ⟨⟨k, hk, rfl⟩, h2, h3⟩, fun z => absurd z (by decide), fun hy H => br_t (by decide) (br_t rfl (br_f (by decide) (br_f (by decide) (br_f (by decide) (br_f (by decide) (br_f (by decide) (g2 H)))))))⟩
/-- one rule, whose subject fits -/
theorem sw_rule1 {rm sd x4 : Int32} {a3 a4 a5 a6 a7 a11 a12 a15 a22 : Nat → Int32} {m r : Nat} (hW : sw_W m rm sd a4 a5 a6) (hm : m ≤ 100000) (hr : r < 16) (hC : sw_CO (a11 r)) (hO : sw_EO (a12 r)) :
    ∃ x4' rm' sd' a4' a5' a6' a7' a22', sw_W (m + 1) rm' sd' a4' a5' a6' ∧
      ∀ {post : Int32 → St1 → Prop} {J : Int32 → Int32 → Int32 → Int32 → Int32 → Int32 → Int32 → Int32 → Int32 → Int32 → Int32 → (Nat → Int32) → (Nat → Int32) → (Nat → Int32) → (Nat → Int32) → (Nat → Int32) → (Nat → Int32) → (Nat → Int32) → (Nat → Int32) → (Nat → Int32) → (Nat → Int32) → (Nat → Int32) → (Nat → Int32) → (Nat → Int32) → (Nat → Int32) → (Nat → Int32) → (Nat → Int32) → (Nat → Int32) → (Nat → Int32) → (Nat → Int32) → (Nat → Int32) → (Nat → Int32) → (Nat → Int32) → Prop} {x1 x2 x3 : Int32} {nt sk rc nc wc tc mt : Int32} {a1 a2 a8 a9 a10 a13 a14 a16 a17 a18 a19 a20 a21 : Nat → Int32},
        J x4' (a15 r) rm' nt sk rc nc wc tc mt sd' a1 a2 a3 a4' a5' a6' a7' a8 a9 a10 a11 a12 a13 a14 a15 a16 a17 a18 a19 a20 a21 a22' → wX_carryOut_38 post J x1 x2 x3 x4 (nI r) rm nt sk rc nc wc tc mt sd a1 a2 a3 a4 a5 a6 a7 a8 a9 a10 a11 a12 a13 a14 a15 a16 a17 a18 a19 a20 a21 a22 := by
  have hc : (nI r).toNatClampNeg = r := nI_clamp (by omega)
  have hin : vp_in (nI r) 16 := pk_in r 16 hr
  obtain ⟨h, hh⟩ := sw_hold (a3 := a3) (a4 := a4) (a7 := a7) hC
  by_cases c0 : h = 0
  · refine ⟨x4, rm, sd, a4, a5, a6, a7, a22, sw_W_up hW (by omega), fun H => And.intro hin ?_⟩
    rw [hc]
    exact hh (br_t c0 ⟨hin, nm_e H⟩)
  · obtain ⟨rm', sd', a4', a5', a6', a7', a22', g1, g2⟩ := sw_bring (a7 := a7) (a22 := a22) hW hm hO
    by_cases c1 : (a12 r &&& 1024) = 0
    · refine ⟨x4, rm', sd', a4', a5', a6', a7', a22', g1, fun H => And.intro hin ?_⟩
      rw [hc]
      exact hh (br_f c0 ⟨hin, g2 ⟨hin, br_t c1 ⟨hin, nm_e H⟩⟩⟩)
    · refine ⟨1, rm', sd', a4', a5', a6', a7', a22', g1, fun H => And.intro hin ?_⟩
      rw [hc]
      exact hh (br_f c0 ⟨hin, g2 ⟨hin, br_f c1 ⟨hin, nm_e H⟩⟩⟩)
theorem sw_co_loop {a1 a2 a10 a11 a12 a15 : Nat → Int32} {v x q : Nat} (hE : sw_EX a2) (hv : v < 6) (hx : x < 8) (hx0 : v = 0 → x < 4) (hq : q < 8) : ∀ (l : List Nat) (h x4 : Int32) (m : Nat) (rm sd : Int32) (a3 a4 a5 a6 a7 a22 : Nat → Int32), sw_Ch a15 h l → (∀ r, r ∈ l → r < 16 ∧ sw_CO (a11 r) ∧ sw_EO (a12 r)) → m + l.length ≤ 100000 → sw_W m rm sd a4 a5 a6 →
    ∃ r rm' sd' a3' a4' a5' a6' a7' a22', ¬ r < (0 : Int32) ∧ sw_W (m + l.length) rm' sd' a4' a5' a6' ∧ (v = 1 → r = 0 → a4' x = 6) ∧
      ∀ {y : Int32} {post : Int32 → St1 → Prop} {nt sk rc nc wc tc mt : Int32} {a8 a9 a13 a14 a16 a17 a18 a19 a20 a21 : Nat → Int32}, (v = 3 → y = nI q) → (∀ nt' sk' a8', post r (rm', nt', sk', rc, nc, wc, tc, mt, sd', a1, a2, a3', a4', a5', a6', a7', a8', a9, a10, a11, a12, a13, a14, a15, a16, a17, a18, a19, a20, a21, a22')) → wX_carryOut_11 post (nI v) (nI x) y (l.length + 1) x4 h rm nt sk rc nc wc tc mt sd a1 a2 a3 a4 a5 a6 a7 a8 a9 a10 a11 a12 a13 a14 a15 a16 a17 a18 a19 a20 a21 a22
  | [], h, x4, m, rm, sd, a3, a4, a5, a6, a7, a22, hc, hl, hm, hW => by
    rw [show h = -1 from hc]
    by_cases c : x4 = 0
    · obtain ⟨r, rm', a3', a4', a5', a6', g1, g2, g3, g4⟩ := sw_act (a1 := a1) (a3 := a3) hW hE hv hx hx0 hq
      refine ⟨r, rm', sd, a3', a4', a5', a6', a7, a22, g1, g2, g3, fun hy H => ?_⟩
      rw [c]
      exact g4 hy H
    · exact ⟨1, rm, sd, a3, a4, a5, a6, a7, a22, by decide, hW, fun _ z => absurd z (by decide), fun hy H => br_t (by decide) (br_f c (H _ _ _))⟩
  | r0 :: l, h, x4, m, rm, sd, a3, a4, a5, a6, a7, a22, hc, hl, hm, hW => by
    obtain ⟨hr, hC, hO⟩ := hl r0 List.mem_cons_self
    have hl' : ∀ r, r ∈ l → r < 16 ∧ sw_CO (a11 r) ∧ sw_EO (a12 r) := fun r hr => hl r (List.mem_cons_of_mem _ hr)
    rw [List.length_cons] at hm
    have hcl : (nI r0).toNatClampNeg = r0 := nI_clamp (by omega)
    have hin : vp_in (nI r0) 16 := pk_in r0 16 hr
    have hlen : m + (r0 :: l).length = (m + 1) + l.length := by rw [List.length_cons]; omega
    have hn0 : ¬ nI r0 < 0 := nI_pos (by omega)
    rw [hc.1]
    by_cases c1 : a10 r0 = nI x
    · obtain ⟨x4', rm', sd', a4', a5', a6', a7', a22', g1, g2⟩ := sw_rule1 (x4 := x4) (a3 := a3) (a7 := a7) (a15 := a15) (a22 := a22) hW (by omega) hr hC hO
      obtain ⟨r, rm2, sd2, a32, a42, a52, a62, a72, a222, k1, k2, k3, k4⟩ := sw_co_loop hE hv hx hx0 hq l (a15 r0) x4' (m + 1) rm' sd' a3 a4' a5' a6' a7' a22' hc.2 hl' (by omega) g1
      refine ⟨r, rm2, sd2, a32, a42, a52, a62, a72, a222, k1, by rw [hlen]; exact k2, k3, fun hy H => br_f hn0 ⟨hin, br_t (by rw [hcl]; exact c1) (g2 (k4 hy H))⟩⟩
    · by_cases c2 : a10 r0 = -1
      · obtain ⟨x4', rm', sd', a4', a5', a6', a7', a22', g1, g2⟩ := sw_rule1 (x4 := x4) (a3 := a3) (a7 := a7) (a15 := a15) (a22 := a22) hW (by omega) hr hC hO
        obtain ⟨r, rm2, sd2, a32, a42, a52, a62, a72, a222, k1, k2, k3, k4⟩ := sw_co_loop hE hv hx hx0 hq l (a15 r0) x4' (m + 1) rm' sd' a3 a4' a5' a6' a7' a22' hc.2 hl' (by omega) g1
        refine ⟨r, rm2, sd2, a32, a42, a52, a62, a72, a222, k1, by rw [hlen]; exact k2, k3, fun hy H => br_f hn0 ⟨hin, br_f (by rw [hcl]; exact c1) ⟨hin, br_t (by rw [hcl]; exact c2) (g2 (k4 hy H))⟩⟩⟩
      · obtain ⟨r, rm2, sd2, a32, a42, a52, a62, a72, a222, k1, k2, k3, k4⟩ := sw_co_loop hE hv hx hx0 hq l (a15 r0) x4 (m + 1) rm sd a3 a4 a5 a6 a7 a22 hc.2 hl' (by omega) (sw_W_up hW (by omega))
        refine ⟨r, rm2, sd2, a32, a42, a52, a62, a72, a222, k1, by rw [hlen]; exact k2, k3, fun hy H => br_f hn0 ⟨hin, br_f (by rw [hcl]; exact c1) ⟨hin, br_f (by rw [hcl]; exact c2) ⟨hin, nm_r (by rw [hcl]) (k4 hy H)⟩⟩⟩⟩
/-! the rules' chains -/
def sw_RL (vb : Nat → Nat) (n v : Nat) : List Nat := (List.range n).filter (fun r => vb r == v)
def sw_last : List Nat → Int32
  | [] => -1
  | [a] => nI a
  | _ :: b :: l => sw_last (b :: l)
def sw_RI (rc : Int32) (a9 a11 a12 a13 a14 a15 : Nat → Int32) : Prop := ∃ (n : Nat) (vb : Nat → Nat), n ≤ 16 ∧ rc = nI n ∧ (∀ r, r < n → a9 r = nI (vb r) ∧ vb r < 6 ∧ sw_CO (a11 r) ∧ sw_EO (a12 r)) ∧ (∀ v, v < 6 → sw_Ch a15 (a13 v) (sw_RL vb n v) ∧ a14 v = sw_last (sw_RL vb n v))
theorem sw_rl_mem {vb : Nat → Nat} {n v r : Nat} : r ∈ sw_RL vb n v ↔ r < n ∧ vb r = v := by
  unfold sw_RL
  rw [List.mem_filter, List.mem_range, beq_iff_eq]
theorem sw_rl_nd {vb : Nat → Nat} {n v : Nat} : (sw_RL vb n v).Nodup := List.Pairwise.filter _ List.nodup_range
theorem sw_carry {rm sd rc : Int32} {a1 a2 a3 a4 a5 a6 a7 a9 a10 a11 a12 a13 a14 a15 a22 : Nat → Int32} {m v x q : Nat} (hW : sw_W m rm sd a4 a5 a6) (hm : m ≤ 90000) (hE : sw_EX a2) (hR : sw_RI rc a9 a11 a12 a13 a14 a15) (hv : v < 6) (hx : x < 8) (hx0 : v = 0 → x < 4) (hq : q < 8) :
    ∃ r rm' sd' a3' a4' a5' a6' a7' a22', ¬ r < (0 : Int32) ∧ sw_W (m + 16) rm' sd' a4' a5' a6' ∧ (v = 1 → r = 0 → a4' x = 6) ∧
      ∀ {y : Int32} {post : Int32 → St1 → Prop} {nt sk nc wc tc mt : Int32} {a8 a16 a17 a18 a19 a20 a21 : Nat → Int32}, (v = 3 → y = nI q) → (∀ nt' sk' a8', post r (rm', nt', sk', rc, nc, wc, tc, mt, sd', a1, a2, a3', a4', a5', a6', a7', a8', a9, a10, a11, a12, a13, a14, a15, a16, a17, a18, a19, a20, a21, a22')) → wpX_carryOut post (rm, nt, sk, rc, nc, wc, tc, mt, sd, a1, a2, a3, a4, a5, a6, a7, a8, a9, a10, a11, a12, a13, a14, a15, a16, a17, a18, a19, a20, a21, a22) (nI v) (nI x) y := by
  obtain ⟨n, vb, hn, rfl, h1, h2⟩ := hR
  obtain ⟨c1, c2⟩ := h2 v hv
  have hlen : (sw_RL vb n v).length ≤ 16 := sw_nd_len 16 _ sw_rl_nd (fun r hr => by have := (sw_rl_mem.mp hr).1; omega)
  obtain ⟨r, rm', sd', a3', a4', a5', a6', a7', a22', k1, k2, k3, k4⟩ := sw_co_loop (a1 := a1) (a10 := a10) (a11 := a11) (a12 := a12) hE hv hx hx0 hq (sw_RL vb n v) (a13 v) 0 m rm sd a3 a4 a5 a6 a7 a22 c1 (fun r hr => by
    have g := (sw_rl_mem.mp hr).1
    have g2 := h1 r g
    exact ⟨by omega, g2.2.2.1, g2.2.2.2⟩) (by omega) hW
  refine ⟨r, rm', sd', a3', a4', a5', a6', a7', a22', k1, sw_W_up k2 (by omega), k3, fun hy H => ?_⟩
  exact And.intro (pk_in v 6 hv) (nm_r (by rw [nI_clamp (by omega)]) (Exists.intro ((sw_RL vb n v).length + 1) (k4 hy H)))
end
section
/-! rule and unrule -/
theorem sw_rng (x : Int32) (n : Nat) (hn : n < 2 ^ 31) : x < 0 ∨ (¬ x < 0 ∧ nI n < x) ∨ (¬ x < 0 ∧ ¬ nI n < x ∧ ∃ j, j ≤ n ∧ x = nI j) := by
  by_cases h0 : x < 0
  · exact Or.inl h0
  · by_cases h1 : nI n < x
    · exact Or.inr (Or.inl ⟨h0, h1⟩)
    · exact Or.inr (Or.inr ⟨h0, h1, nI_of2 (nI_toInt hn) h0 (Int32.not_lt.mp h1)⟩)
theorem sw_a15 (x : Int32) : ∃ j, j < 16 ∧ (x &&& 15) = nI j := pk_andE x (m := 15) 4 (by decide)
theorem sw_gt {j n : Nat} {x N : Int32} (hN : N = nI n) (hx : x = nI j) (hj : j < 2 ^ 31) (hn : n < 2 ^ 31) (h : ¬ N < x) : j ≤ n := by
  rcases Nat.lt_or_ge n j with z | z
  · exact absurd (by rw [hN, hx]; exact nI_lt z hj) h
  · exact z
theorem sw_isC (c : Int32) : ∃ r : Int32, (¬ r = 0 → (∃ k, k ≤ 1023 ∧ c = nI k) ∧ sw_CO c) ∧ ∀ {post : Int32 → Prop} {rm nt sk rc nc wc tc mt sd : Int32} {a1 a2 a3 a4 a5 a6 a7 a8 a9 a10 a11 a12 a13 a14 a15 a16 a17 a18 a19 a20 a21 a22 : Nat → Int32}, post r → wpX_isCondition post (rm, nt, sk, rc, nc, wc, tc, mt, sd, a1, a2, a3, a4, a5, a6, a7, a8, a9, a10, a11, a12, a13, a14, a15, a16, a17, a18, a19, a20, a21, a22) c := by
  obtain ⟨j, hj, ej⟩ := sw_a15 (c >>> ((2 : Int32) &&& 31))
  by_cases h0 : c < 0
  · exact ⟨0, fun z => absurd rfl z, fun H => br_t h0 H⟩
  · by_cases h1 : c ≤ 1023
    · have hk : ∃ k, k ≤ 1023 ∧ c = nI k := nI_of2 (M := 1023) (by decide) h0 h1
      by_cases k0 : (c &&& 3) = 0
      · refine ⟨1, fun _ => ⟨hk, fun z => absurd (k0.symm.trans z) (by decide), fun _ z => absurd k0 z⟩, fun H => br_f h0 (br_t h1 (nm_e (nm_e (nm_e (br_t k0 H)))))⟩
      · by_cases k1 : (c &&& 3) = 1
        · by_cases d : (3 : Int32) < ((c >>> ((2 : Int32) &&& 31)) &&& 15)
          · exact ⟨0, fun z => absurd rfl z, fun H => br_f h0 (br_t h1 (nm_e (nm_e (nm_e (br_f k0 (br_t k1 (br_t d H)))))))⟩
          · refine ⟨1, fun _ => ⟨hk, fun _ => ?_, fun z => absurd k1 z⟩, fun H => br_f h0 (br_t h1 (nm_e (nm_e (nm_e (br_f k0 (br_t k1 (br_f d H)))))))⟩
            have := sw_gt (n := 3) rfl ej (by omega) (by decide) d
            rw [ej]
            exact pk_in j 4 (by omega)
        · by_cases d : (7 : Int32) < ((c >>> ((2 : Int32) &&& 31)) &&& 15)
          · exact ⟨0, fun z => absurd rfl z, fun H => br_f h0 (br_t h1 (nm_e (nm_e (nm_e (br_f k0 (br_f k1 (br_t d H)))))))⟩
          · have hco : sw_CO c := by
              refine ⟨fun z => absurd z k1, fun _ _ => ?_⟩
              have := sw_gt (n := 7) rfl ej (by omega) (by decide) d
              rw [ej]
              exact pk_in j 8 (by omega)
            by_cases k2 : (c &&& 3) = 2
            · exact ⟨1, fun _ => ⟨hk, hco⟩, fun H => br_f h0 (br_t h1 (nm_e (nm_e (nm_e (br_f k0 (br_f k1 (br_f d (br_t k2 H))))))))⟩
            · by_cases d3 : (3 : Int32) < (c >>> ((6 : Int32) &&& 31))
              · exact ⟨0, fun z => absurd rfl z, fun H => br_f h0 (br_t h1 (nm_e (nm_e (nm_e (br_f k0 (br_f k1 (br_f d (br_f k2 (br_t d3 H)))))))))⟩
              · exact ⟨1, fun _ => ⟨hk, hco⟩, fun H => br_f h0 (br_t h1 (nm_e (nm_e (nm_e (br_f k0 (br_f k1 (br_f d (br_f k2 (br_f d3 H)))))))))⟩
    · exact ⟨0, fun z => absurd rfl z, fun H => br_f h0 (br_f h1 H)⟩
theorem sw_isE (e : Int32) : ∃ r : Int32, (¬ r = 0 → (∃ k, k ≤ 2047 ∧ e = nI k) ∧ sw_EO e) ∧ ∀ {post : Int32 → Prop} {rm nt sk rc nc wc tc mt sd : Int32} {a1 a2 a3 a4 a5 a6 a7 a8 a9 a10 a11 a12 a13 a14 a15 a16 a17 a18 a19 a20 a21 a22 : Nat → Int32}, post r → wpX_isEffect post (rm, nt, sk, rc, nc, wc, tc, mt, sd, a1, a2, a3, a4, a5, a6, a7, a8, a9, a10, a11, a12, a13, a14, a15, a16, a17, a18, a19, a20, a21, a22) e := by
  obtain ⟨j, hj, ej⟩ := sw_a15 (e >>> ((2 : Int32) &&& 31))
  by_cases h0 : e < 0
  · exact ⟨0, fun z => absurd rfl z, fun H => br_t h0 H⟩
  · by_cases h1 : e ≤ 2047
    · have hk : ∃ k, k ≤ 2047 ∧ e = nI k := nI_of2 (M := 2047) (by decide) h0 h1
      by_cases k0 : (e &&& 3) = 0
      · refine ⟨1, fun _ => ⟨hk, fun z => absurd (k0.symm.trans z) (by decide), fun z => absurd k0 z, fun z => absurd k0 z⟩, fun H => br_f h0 (br_t h1 (nm_e (nm_e (br_t k0 H))))⟩
      · by_cases k1 : (e &&& 3) = 1
        · by_cases d : (7 : Int32) < ((e >>> ((2 : Int32) &&& 31)) &&& 15)
          · exact ⟨0, fun z => absurd rfl z, fun H => br_f h0 (br_t h1 (nm_e (nm_e (br_f k0 (br_t k1 (br_t d H))))))⟩
          · refine ⟨1, fun _ => ⟨hk, fun _ => ?_, fun _ z => absurd k1 z, fun _ z => absurd k1 z⟩, fun H => br_f h0 (br_t h1 (nm_e (nm_e (br_f k0 (br_t k1 (br_f d H))))))⟩
            have := sw_gt (n := 7) rfl ej (by omega) (by decide) d
            exact ⟨j, by omega, ej⟩
        · by_cases k2 : (e &&& 3) = 2
          · by_cases d : (3 : Int32) < ((e >>> ((2 : Int32) &&& 31)) &&& 15)
            · exact ⟨0, fun z => absurd rfl z, fun H => br_f h0 (br_t h1 (nm_e (nm_e (br_f k0 (br_f k1 (br_t k2 (br_t d H)))))))⟩
            · refine ⟨1, fun _ => ⟨hk, fun z => absurd z k1, fun _ _ _ => ?_, fun _ _ z => absurd k2 z⟩, fun H => br_f h0 (br_t h1 (nm_e (nm_e (br_f k0 (br_f k1 (br_t k2 (br_f d H)))))))⟩
              have := sw_gt (n := 3) rfl ej (by omega) (by decide) d
              rw [ej]
              exact pk_in j 4 (by omega)
          · by_cases d : (5 : Int32) < ((e >>> ((2 : Int32) &&& 31)) &&& 15)
            · exact ⟨0, fun z => absurd rfl z, fun H => br_f h0 (br_t h1 (nm_e (nm_e (br_f k0 (br_f k1 (br_f k2 (br_t d H)))))))⟩
            · refine ⟨1, fun _ => ⟨hk, fun z => absurd z k1, fun _ _ z => absurd z k2, fun _ _ _ => ?_⟩, fun H => br_f h0 (br_t h1 (nm_e (nm_e (br_f k0 (br_f k1 (br_f k2 (br_f d H)))))))⟩
              have := sw_gt (n := 5) rfl ej (by omega) (by decide) d
              exact ⟨j, by omega, ej⟩
    · exact ⟨0, fun z => absurd rfl z, fun H => br_f h0 (br_f h1 H)⟩
/-! chains at their ends -/
theorem sw_last_app {n : Nat} : ∀ (l : List Nat), sw_last (l ++ [n]) = nI n
  | [] => rfl
  | [a] => rfl
  | a :: b :: l => sw_last_app (b :: l)
theorem sw_last_cons {r : Nat} {l : List Nat} : sw_last (r :: l) = if l = [] then nI r else sw_last l := by
  cases l with
  | nil => rfl
  | cons b l => rfl
theorem sw_ch_one {nx : Nat → Int32} {n : Nat} : ∀ {l : List Nat} {b : Nat} {h : Int32}, (l ++ [b]).Nodup → n ∉ l ++ [b] → sw_Ch nx h (l ++ [b]) → sw_Ch (upd (upd nx n (-1)) b (nI n)) h ((l ++ [b]) ++ [n])
  | [], b, h, hn, hb, hc => by
    have e : n ≠ b := fun z => hb (by rw [z]; simp)
    refine ⟨hc.1, ?_, ?_⟩
    · rw [pk_us]
    · rw [pk_un e, pk_us]
      rfl
  | a :: l, b, h, hn, hb, hc => by
    have hn' : (a :: (l ++ [b])).Nodup := hn
    rw [List.nodup_cons] at hn'
    have h1 : a ≠ b := fun z => hn'.1 (by rw [z]; simp)
    have h2 : a ≠ n := fun z => hb (by rw [← z]; simp)
    refine ⟨hc.1, ?_⟩
    rw [pk_un h1, pk_un h2]
    exact sw_ch_one hn'.2 (fun z => hb (List.mem_cons_of_mem _ z)) hc.2
theorem sw_ch_cut {nx : Nat → Int32} {n : Nat} : ∀ {l : List Nat} {b : Nat} {h : Int32}, (l ++ [b]).Nodup → sw_Ch nx h ((l ++ [b]) ++ [n]) → sw_Ch (upd nx b (-1)) h (l ++ [b])
  | [], b, h, hn, hc => by
    refine ⟨hc.1, ?_⟩
    rw [pk_us]
    rfl
  | a :: l, b, h, hn, hc => by
    have hn' : (a :: (l ++ [b])).Nodup := hn
    rw [List.nodup_cons] at hn'
    have h1 : a ≠ b := fun z => hn'.1 (by rw [z]; simp)
    refine ⟨hc.1, ?_⟩
    rw [pk_un h1]
    exact sw_ch_cut hn'.2 hc.2
def sw_vs (vb : Nat → Nat) (n v : Nat) : Nat → Nat := fun r => if r = n then v else vb r
theorem sw_rl_add {vb : Nat → Nat} {n v w : Nat} : sw_RL (sw_vs vb n v) (n + 1) w = sw_RL vb n w ++ (if v = w then [n] else []) := by
  unfold sw_RL
  rw [List.range_succ, List.filter_append]
  congr 1
  · apply List.filter_congr
    intro r hr
    rw [List.mem_range] at hr
    unfold sw_vs
    rw [if_neg (by omega)]
  · by_cases e : v = w
    · simp [sw_vs, e]
    · simp [sw_vs, e]
theorem sw_rl_suc {vb : Nat → Nat} {n w : Nat} : sw_RL vb (n + 1) w = sw_RL vb n w ++ (if vb n = w then [n] else []) := by
  unfold sw_RL
  rw [List.range_succ, List.filter_append]
  congr 1
  by_cases e : vb n = w
  · simp [e]
  · simp [e]
theorem sw_nnot {vb : Nat → Nat} {n w : Nat} : n ∉ sw_RL vb n w := fun h => by have := (sw_rl_mem.mp h).1; omega
/-- a rule's own facts -/
def sw_R1 (a9 a11 a12 : Nat → Int32) (vb : Nat → Nat) (n : Nat) : Prop := ∀ r, r < n → a9 r = nI (vb r) ∧ vb r < 6 ∧ sw_CO (a11 r) ∧ sw_EO (a12 r)
theorem sw_r1_add {a9 a11 a12 : Nat → Int32} {vb : Nat → Nat} {n v : Nat} {c e : Int32} (h : sw_R1 a9 a11 a12 vb n) (hv : v < 6) (hc : sw_CO c) (he : sw_EO e) : sw_R1 (upd a9 n (nI v)) (upd a11 n c) (upd a12 n e) (sw_vs vb n v) (n + 1) := by
  intro r hr
  by_cases g : r = n
  · rw [g, pk_us, pk_us, pk_us]
    unfold sw_vs
    rw [if_pos rfl]
    exact ⟨rfl, hv, hc, he⟩
  · rw [pk_un g, pk_un g, pk_un g]
    unfold sw_vs
    rw [if_neg g]
    exact h r (by omega)
def sw_R2 (a13 a14 a15 : Nat → Int32) (vb : Nat → Nat) (n : Nat) : Prop := ∀ v, v < 6 → sw_Ch a15 (a13 v) (sw_RL vb n v) ∧ a14 v = sw_last (sw_RL vb n v)
theorem sw_r2_first {a13 a14 a15 : Nat → Int32} {vb : Nat → Nat} {n v : Nat} (h : sw_R2 a13 a14 a15 vb n) (he : sw_RL vb n v = []) : sw_R2 (upd a13 v (nI n)) (upd a14 v (nI n)) (upd a15 n (-1)) (sw_vs vb n v) (n + 1) := by
  intro w hw
  rw [sw_rl_add]
  obtain ⟨h1, h2⟩ := h w hw
  by_cases e : v = w
  · subst e
    rw [he, if_pos rfl, pk_us, pk_us]
    refine ⟨⟨rfl, ?_⟩, rfl⟩
    rw [pk_us]
    rfl
  · rw [if_neg e, List.append_nil, pk_un (Ne.symm e), pk_un (Ne.symm e)]
    exact ⟨sw_ch_upd sw_nnot h1, h2⟩
theorem sw_r2_next {a13 a14 a15 : Nat → Int32} {vb : Nat → Nat} {n v b : Nat} {l : List Nat} (h : sw_R2 a13 a14 a15 vb n) (he : sw_RL vb n v = l ++ [b]) : sw_R2 a13 (upd a14 v (nI n)) (upd (upd a15 n (-1)) b (nI n)) (sw_vs vb n v) (n + 1) := by
  intro w hw
  rw [sw_rl_add]
  obtain ⟨h1, h2⟩ := h w hw
  by_cases e : v = w
  · subst e
    rw [if_pos rfl, pk_us, sw_last_app]
    refine ⟨?_, rfl⟩
    have hn := sw_rl_nd (vb := vb) (n := n) (v := v)
    have hm := sw_nnot (vb := vb) (n := n) (w := v)
    rw [he] at h1 hn hm ⊢
    exact sw_ch_one hn hm h1
  · rw [if_neg e, List.append_nil, pk_un (Ne.symm e)]
    refine ⟨sw_ch_upd (fun hb => e ?_) (sw_ch_upd sw_nnot h1), h2⟩
    have g1 := (sw_rl_mem.mp hb).2
    have g2 : b ∈ sw_RL vb n v := by rw [he]; simp
    rw [← (sw_rl_mem.mp g2).2, g1]
theorem sw_rule37 {rc : Int32} {a9 a10 a11 a12 a13 a14 a15 : Nat → Int32} {n v : Nat} {vb : Nat → Nat} (hn : n < 16) (hrc : rc = nI n) (hR1 : sw_R1 a9 a11 a12 vb n) (hR2 : sw_R2 a13 a14 a15 vb n) (hv : v < 6) (p1 p2 p3 z : Int32) :
    ∃ r rc' a9' a10' a11' a12' a13' a14' a15', sw_RI rc' a9' a11' a12' a13' a14' a15' ∧
      ∀ {post : Int32 → St1 → Prop} {rm nt sk nc wc tc mt sd : Int32} {a1 a2 a3 a4 a5 a6 a7 a8 a16 a17 a18 a19 a20 a21 a22 : Nat → Int32}, post r (rm, nt, sk, rc', nc, wc, tc, mt, sd, a1, a2, a3, a4, a5, a6, a7, a8, a9', a10', a11', a12', a13', a14', a15', a16, a17, a18, a19, a20, a21, a22) → wX_rule_37 post (nI v) p1 p2 p3 z p1 rm nt sk rc nc wc tc mt sd a1 a2 a3 a4 a5 a6 a7 a8 a9 a10 a11 a12 a13 a14 a15 a16 a17 a18 a19 a20 a21 a22 := by
  have hRI : sw_RI rc a9 a11 a12 a13 a14 a15 := ⟨n, vb, by omega, hrc, hR1, hR2⟩
  by_cases c0 : p1 ≤ z
  · obtain ⟨r1, i1, i2⟩ := sw_isC p2
    obtain ⟨r2, j1, j2⟩ := sw_isE p3
    by_cases c1 : r1 = 0
    · exact ⟨-1, rc, a9, a10, a11, a12, a13, a14, a15, hRI, fun H => br_t c0 (i2 (br_t c1 H))⟩
    · by_cases c2 : r2 = 0
      · exact ⟨-1, rc, a9, a10, a11, a12, a13, a14, a15, hRI, fun H => br_t c0 (i2 (br_f c1 (j2 (br_t c2 H))))⟩
      · obtain ⟨⟨kc, hkc, ec⟩, hC⟩ := i1 c1
        obtain ⟨⟨ke, hke, ee⟩, hE⟩ := j1 c2
        subst hrc
        have hcn : (nI n).toNatClampNeg = n := nI_clamp (by omega)
        have hcv : (nI v).toNatClampNeg = v := nI_clamp (by omega)
        have hin : vp_in (nI n) 16 := pk_in n 16 hn
        have hiv : vp_in (nI v) 6 := pk_in v 6 hv
        have e9 : upd a9 (nI n).toNatClampNeg (nI v).toInt8.toInt32 = upd a9 n (nI v) := by rw [hcn, sw_b8 v (by omega)]
        have e11 : upd a11 (nI n).toNatClampNeg p2.toInt16.toInt32 = upd a11 n p2 := by rw [hcn, ec, sw_s16 kc (by omega)]
        have e12 : upd a12 (nI n).toNatClampNeg p3.toInt16.toInt32 = upd a12 n p3 := by rw [hcn, ee, sw_s16 ke (by omega)]
        have e15 : upd a15 (nI n).toNatClampNeg (-1) = upd a15 n (-1) := by rw [hcn]
        have e14 : upd a14 (nI v).toNatClampNeg (nI n).toInt8.toInt32 = upd a14 v (nI n) := by rw [hcv, sw_b8 n (by omega)]
        have hR1' := sw_r1_add hR1 hv hC hE
        obtain ⟨q1, q2⟩ := hR2 v hv
        rcases List.eq_nil_or_concat (sw_RL vb n v) with g | ⟨l, b, g⟩
        · have e13 : upd a13 (nI v).toNatClampNeg (nI n).toInt8.toInt32 = upd a13 v (nI n) := by rw [hcv, sw_b8 n (by omega)]
          have hl : ¬ (0 : Int32) ≤ a14 (nI v).toNatClampNeg := by rw [hcv, q2, g]; decide
          refine ⟨nI (n + 1), nI (n + 1), upd a9 n (nI v), upd a10 (nI n).toNatClampNeg p1.toInt8.toInt32, upd a11 n p2, upd a12 n p3, upd a13 v (nI n), upd a14 v (nI n), upd a15 n (-1), ⟨n + 1, _, by omega, rfl, hR1', sw_r2_first hR2 g⟩, fun H => br_t c0 (i2 (br_f c1 (j2 (br_f c2 (nm_r (nI_1 n) ⟨hin, nm_r e9 ⟨hin, nm_e ⟨hin, nm_r e11 ⟨hin, nm_r e12 ⟨hin, nm_r e15 ⟨hiv, br_f hl ⟨hiv, nm_r e13 (And.intro hiv (nm_r e14 H))⟩⟩⟩⟩⟩⟩⟩)))))⟩
        · rw [List.concat_eq_append] at g
          have hb : b < n := (sw_rl_mem.mp (show b ∈ sw_RL vb n v by rw [g]; simp)).1
          have e14b : a14 (nI v).toNatClampNeg = nI b := by rw [hcv, q2, g, sw_last_app]
          have hl : (0 : Int32) ≤ a14 (nI v).toNatClampNeg := by rw [e14b]; exact nI_pos' (by omega)
          have hib : vp_in (a14 (nI v).toNatClampNeg) 16 := by rw [e14b]; exact pk_in b 16 (by omega)
          have e15b : upd (upd a15 n (-1)) (a14 (nI v).toNatClampNeg).toNatClampNeg (nI n).toInt8.toInt32 = upd (upd a15 n (-1)) b (nI n) := by rw [e14b, nI_clamp (by omega), sw_b8 n (by omega)]
          refine ⟨nI (n + 1), nI (n + 1), upd a9 n (nI v), upd a10 (nI n).toNatClampNeg p1.toInt8.toInt32, upd a11 n p2, upd a12 n p3, a13, upd a14 v (nI n), upd (upd a15 n (-1)) b (nI n), ⟨n + 1, _, by omega, rfl, hR1', sw_r2_next hR2 g⟩, fun H => br_t c0 (i2 (br_f c1 (j2 (br_f c2 (nm_r (nI_1 n) ⟨hin, nm_r e9 ⟨hin, nm_e ⟨hin, nm_r e11 ⟨hin, nm_r e12 ⟨hin, nm_r e15 ⟨hiv, br_t hl ⟨hiv, hib, nm_r e15b (And.intro hiv (nm_r e14 H))⟩⟩⟩⟩⟩⟩⟩)))))⟩
  · exact ⟨-1, rc, a9, a10, a11, a12, a13, a14, a15, hRI, fun H => br_f c0 H⟩
theorem sw_rule {rc : Int32} {a9 a10 a11 a12 a13 a14 a15 : Nat → Int32} (hR : sw_RI rc a9 a11 a12 a13 a14 a15) (p0 p1 p2 p3 : Int32) :
    ∃ r rc' a9' a10' a11' a12' a13' a14' a15', sw_RI rc' a9' a11' a12' a13' a14' a15' ∧
      ∀ {post : Int32 → St1 → Prop} {rm nt sk nc wc tc mt sd : Int32} {a1 a2 a3 a4 a5 a6 a7 a8 a16 a17 a18 a19 a20 a21 a22 : Nat → Int32}, post r (rm, nt, sk, rc', nc, wc, tc, mt, sd, a1, a2, a3, a4, a5, a6, a7, a8, a9', a10', a11', a12', a13', a14', a15', a16, a17, a18, a19, a20, a21, a22) → wpX_rule post (rm, nt, sk, rc, nc, wc, tc, mt, sd, a1, a2, a3, a4, a5, a6, a7, a8, a9, a10, a11, a12, a13, a14, a15, a16, a17, a18, a19, a20, a21, a22) p0 p1 p2 p3 := by
  have hR' := hR
  obtain ⟨n, vb, hn, hrc, h1, h2⟩ := hR'
  by_cases c : n < 16
  · have hc : rc < 16 := by rw [hrc]; exact nI_lt (b := 16) c (by decide)
    rcases sw_rng p0 5 (by decide) with g | ⟨g0, g1⟩ | ⟨g0, g1, v, hv, ev⟩
    · exact ⟨-1, rc, a9, a10, a11, a12, a13, a14, a15, hR, fun H => br_t hc (br_t g H)⟩
    · exact ⟨-1, rc, a9, a10, a11, a12, a13, a14, a15, hR, fun H => br_t hc (br_f g0 (br_t g1 H))⟩
    · by_cases c2 : p1 < -1
      · exact ⟨-1, rc, a9, a10, a11, a12, a13, a14, a15, hR, fun H => br_t hc (br_f g0 (br_f g1 (br_t c2 H)))⟩
      · by_cases c3 : p0 = 0
        · obtain ⟨r, rc', a9', a10', a11', a12', a13', a14', a15', k1, k2⟩ := sw_rule37 (a10 := a10) c hrc h1 h2 (show v < 6 by omega) p1 p2 p3 3
          rw [← ev] at k2
          exact ⟨r, rc', a9', a10', a11', a12', a13', a14', a15', k1, fun H => br_t hc (br_f g0 (br_f g1 (br_f c2 (br_t c3 (k2 H)))))⟩
        · obtain ⟨r, rc', a9', a10', a11', a12', a13', a14', a15', k1, k2⟩ := sw_rule37 (a10 := a10) c hrc h1 h2 (show v < 6 by omega) p1 p2 p3 7
          rw [← ev] at k2
          exact ⟨r, rc', a9', a10', a11', a12', a13', a14', a15', k1, fun H => br_t hc (br_f g0 (br_f g1 (br_f c2 (br_f c3 (k2 H)))))⟩
  · have hc : ¬ rc < 16 := by rw [hrc]; exact nI_nlt (b := 16) (by omega) (by omega)
    exact ⟨-2, rc, a9, a10, a11, a12, a13, a14, a15, hR, fun H => br_f hc H⟩
theorem sw_ur_loop {a15 : Nat → Int32} {n : Nat} (hn : n < 16) : ∀ (l : List Nat) (h bf : Int32), sw_Ch a15 h (l ++ [n]) → (∀ r, r ∈ l → r < n) → ∀ {post : Int32 → St1 → Prop} {x1 : Int32} {rm nt sk nc wc tc mt sd : Int32} {a1 a2 a3 a4 a5 a6 a7 a8 a9 a10 a11 a12 a13 a14 a16 a17 a18 a19 a20 a21 a22 : Nat → Int32}, wX_unrule_38 post x1 rm nt sk (nI n) nc wc tc mt sd a1 a2 a3 a4 a5 a6 a7 a8 a9 a10 a11 a12 a13 a14 a15 a16 a17 a18 a19 a20 a21 a22 1 (if l = [] then bf else sw_last l) (nI n) → wX_unrule_38 post x1 rm nt sk (nI n) nc wc tc mt sd a1 a2 a3 a4 a5 a6 a7 a8 a9 a10 a11 a12 a13 a14 a15 a16 a17 a18 a19 a20 a21 a22 (l.length + 1) bf h
  | [], h, bf, hc, _ => fun H => by
    rw [hc.1]
    rw [if_pos rfl] at H
    exact H
  | r :: l, h, bf, hc, hl => fun H => by
    have hr : r < n := hl r List.mem_cons_self
    rw [if_neg (List.cons_ne_nil r l), sw_last_cons] at H
    have ih := sw_ur_loop hn l (a15 r) (nI r) hc.2 (fun x hx => hl x (List.mem_cons_of_mem _ hx)) H
    rw [hc.1]
    exact br_f (by rw [nI_eq (by omega) (by omega)]; omega) ⟨pk_in r 16 (by omega), nm_r (by rw [nI_clamp (by omega)]) ih⟩
theorem sw_unrule {rc : Int32} {a9 a11 a12 a13 a14 a15 : Nat → Int32} (hR : sw_RI rc a9 a11 a12 a13 a14 a15) :
    ∃ r rc' a13' a14' a15', sw_RI rc' a9 a11 a12 a13' a14' a15' ∧
      ∀ {post : Int32 → St1 → Prop} {rm nt sk nc wc tc mt sd : Int32} {a1 a2 a3 a4 a5 a6 a7 a8 a10 a16 a17 a18 a19 a20 a21 a22 : Nat → Int32}, post r (rm, nt, sk, rc', nc, wc, tc, mt, sd, a1, a2, a3, a4, a5, a6, a7, a8, a9, a10, a11, a12, a13', a14', a15', a16, a17, a18, a19, a20, a21, a22) → wpX_unrule post (rm, nt, sk, rc, nc, wc, tc, mt, sd, a1, a2, a3, a4, a5, a6, a7, a8, a9, a10, a11, a12, a13, a14, a15, a16, a17, a18, a19, a20, a21, a22) := by
  have hR' := hR
  obtain ⟨n0, vb, hn0, hrc, h1, h2⟩ := hR'
  cases n0 with
  | zero => exact ⟨-1, rc, a13, a14, a15, hR, fun H => br_t (by rw [hrc]; rfl) H⟩
  | succ n =>
    subst hrc
    obtain ⟨f1, f2, _, _⟩ := h1 n (by omega)
    obtain ⟨c1, c2⟩ := h2 (vb n) f2
    rw [sw_rl_suc, if_pos rfl] at c1 c2
    have hcn : (nI n).toNatClampNeg = n := nI_clamp (by omega)
    have hcv : (nI (vb n)).toNatClampNeg = vb n := nI_clamp (by omega)
    have hiv : vp_in (nI (vb n)) 6 := pk_in (vb n) 6 f2
    have hne : ¬ nI (n + 1) = 0 := nI_ne0 (by omega) (by omega)
    have h1' : ∀ r, r < n → a9 r = nI (vb r) ∧ vb r < 6 ∧ sw_CO (a11 r) ∧ sw_EO (a12 r) := fun r hr => h1 r (by omega)
    have hlt : ∀ r, r ∈ sw_RL vb n (vb n) → r < n := fun r hr => (sw_rl_mem.mp hr).1
    rcases List.eq_nil_or_concat (sw_RL vb n (vb n)) with g | ⟨l, b, g⟩
    · have e13 : upd a13 (nI (vb n)).toNatClampNeg (-1) = upd a13 (vb n) (-1) := by rw [hcv]
      have e14 : upd a14 (nI (vb n)).toNatClampNeg (-1 : Int32).toInt8.toInt32 = upd a14 (vb n) (-1) := by rw [hcv]; rfl
      refine ⟨nI n, nI n, upd a13 (vb n) (-1), upd a14 (vb n) (-1), a15, ⟨n, vb, by omega, rfl, h1', ?_⟩, fun H => br_f hne (nm_r (nI_pred n) ⟨pk_in n 16 (by omega), nm_r (e' := nI (vb n)) (by rw [hcn]; exact f1) ⟨hiv, nm_r (e' := a13 (vb n)) (by rw [hcv]) (Exists.intro ((sw_RL vb n (vb n)).length + 1) (sw_ur_loop (by omega) (sw_RL vb n (vb n)) (a13 (vb n)) (-1) c1 hlt ?_))⟩⟩)⟩
      · intro w hw
        obtain ⟨d1, d2⟩ := h2 w hw
        rw [sw_rl_suc] at d1 d2
        by_cases e : vb n = w
        · subst e
          rw [pk_us, pk_us, g]
          exact ⟨rfl, rfl⟩
        · rw [if_neg e, List.append_nil] at d1 d2
          rw [pk_un (Ne.symm e), pk_un (Ne.symm e)]
          exact ⟨d1, d2⟩
      · rw [if_pos g]
        exact br_t rfl (br_f (by decide) ⟨hiv, nm_r e13 (And.intro hiv (nm_r e14 H))⟩)
    · rw [List.concat_eq_append] at g
      have hb : b < n := hlt b (by rw [g]; simp)
      have e15 : upd a15 (nI b).toNatClampNeg (-1) = upd a15 b (-1) := by rw [nI_clamp (by omega)]
      have e14 : upd a14 (nI (vb n)).toNatClampNeg (nI b).toInt8.toInt32 = upd a14 (vb n) (nI b) := by rw [hcv, sw_b8 b (by omega)]
      refine ⟨nI n, nI n, a13, upd a14 (vb n) (nI b), upd a15 b (-1), ⟨n, vb, by omega, rfl, h1', ?_⟩, fun H => br_f hne (nm_r (nI_pred n) ⟨pk_in n 16 (by omega), nm_r (e' := nI (vb n)) (by rw [hcn]; exact f1) ⟨hiv, nm_r (e' := a13 (vb n)) (by rw [hcv]) (Exists.intro ((sw_RL vb n (vb n)).length + 1) (sw_ur_loop (by omega) (sw_RL vb n (vb n)) (a13 (vb n)) (-1) c1 hlt ?_))⟩⟩)⟩
      · intro w hw
        obtain ⟨d1, d2⟩ := h2 w hw
        rw [sw_rl_suc] at d1 d2
        by_cases e : vb n = w
        · subst e
          have hnd := sw_rl_nd (vb := vb) (n := n) (v := vb n)
          rw [pk_us]
          rw [g] at c1 hnd ⊢
          rw [sw_last_app]
          exact ⟨sw_ch_cut hnd c1, rfl⟩
        · rw [if_neg e, List.append_nil] at d1 d2
          rw [pk_un (Ne.symm e)]
          refine ⟨sw_ch_upd (fun hm => e ?_) d1, d2⟩
          have g1 := (sw_rl_mem.mp hm).2
          have g2 : b ∈ sw_RL vb n (vb n) := by rw [g]; simp
          rw [← (sw_rl_mem.mp g2).2, g1]
      · rw [if_neg (by rw [g]; simp), g, sw_last_app]
        exact br_t rfl (br_t (nI_pos' (by omega)) ⟨pk_in b 16 (by omega), nm_r e15 (And.intro hiv (nm_r e14 H))⟩)
end
section
/-! thing, dark, link, and the law's change -/
theorem sw_thing {a3 a4 a5 a6 : Nat → Int32} (hI : sw_PI a4 a5 a6) (p0 p1 p2 : Int32) :
    ∃ r a3' a4' a5' a6', sw_PI a4' a5' a6' ∧ ∀ {post : Int32 → St1 → Prop} {rm nt sk rc nc wc tc mt sd : Int32} {a1 a2 a7 a8 a9 a10 a11 a12 a13 a14 a15 a16 a17 a18 a19 a20 a21 a22 : Nat → Int32}, post r (rm, nt, sk, rc, nc, wc, tc, mt, sd, a1, a2, a3', a4', a5', a6', a7, a8, a9, a10, a11, a12, a13, a14, a15, a16, a17, a18, a19, a20, a21, a22) → wpX_thing post (rm, nt, sk, rc, nc, wc, tc, mt, sd, a1, a2, a3, a4, a5, a6, a7, a8, a9, a10, a11, a12, a13, a14, a15, a16, a17, a18, a19, a20, a21, a22) p0 p1 p2 := by
  have hI' := hI
  obtain ⟨pl, L, hP⟩ := hI'
  rcases sw_rng p0 7 (by decide) with g | ⟨g0, g1⟩ | ⟨g0, g1, t, ht, et⟩
  · exact ⟨0, a3, a4, a5, a6, hI, fun H => by unfold wpX_thing; exact br_t g (br_t rfl H)⟩
  · exact ⟨0, a3, a4, a5, a6, hI, fun H => by unfold wpX_thing; exact br_f g0 (br_t g1 (br_t rfl H))⟩
  · by_cases c1 : p1 < 0
    · exact ⟨0, a3, a4, a5, a6, hI, fun H => by unfold wpX_thing; exact br_f g0 (br_f g1 (br_f (by decide) (br_t c1 H)))⟩
    · by_cases c2 : 15 < p1
      · exact ⟨0, a3, a4, a5, a6, hI, fun H => by unfold wpX_thing; exact br_f g0 (br_f g1 (br_f (by decide) (br_f c1 (br_t c2 H))))⟩
      · rcases sw_rng p2 15 (by decide) with k | ⟨k0, k1⟩ | ⟨k0, k1, p, hp, ep⟩
        · exact ⟨0, a3, a4, a5, a6, hI, fun H => by unfold wpX_thing; exact br_f g0 (br_f g1 (br_f (by decide) (br_f c1 (br_f c2 (br_t k H)))))⟩
        · exact ⟨0, a3, a4, a5, a6, hI, fun H => by unfold wpX_thing; exact br_f g0 (br_f g1 (br_f (by decide) (br_f c1 (br_f c2 (br_f k0 (br_t k1 H))))))⟩
        · subst et
          subst ep
          obtain ⟨w, w1, w2, w3⟩ := sw_wl (a := p) hP (show t < 8 by omega) (show p < 16 by omega)
          by_cases c3 : w = 0
          · obtain ⟨a5', a6', m1, m2⟩ := sw_move hP (show t < 8 by omega) (show p < 16 by omega) (w2 c3 _)
            exact ⟨1, _, _, a5', a6', m1, fun H => by unfold wpX_thing; exact br_f g0 (br_f g1 (br_f (by decide) (br_f c1 (br_f c2 (br_f k0 (br_f k1 (w3 (br_t c3 ⟨pk_in t 8 (by omega), nm_e (m2 H)⟩))))))))⟩
          · exact ⟨0, a3, a4, a5, a6, hI, fun H => by unfold wpX_thing; exact br_f g0 (br_f g1 (br_f (by decide) (br_f c1 (br_f c2 (br_f k0 (br_f k1 (w3 (br_f c3 H))))))))⟩
theorem sw_dark (a1 : Nat → Int32) (p0 p1 : Int32) : ∃ r a1', ∀ {post : Int32 → St1 → Prop} {rm nt sk rc nc wc tc mt sd : Int32} {a2 a3 a4 a5 a6 a7 a8 a9 a10 a11 a12 a13 a14 a15 a16 a17 a18 a19 a20 a21 a22 : Nat → Int32}, post r (rm, nt, sk, rc, nc, wc, tc, mt, sd, a1', a2, a3, a4, a5, a6, a7, a8, a9, a10, a11, a12, a13, a14, a15, a16, a17, a18, a19, a20, a21, a22) → wpX_dark post (rm, nt, sk, rc, nc, wc, tc, mt, sd, a1, a2, a3, a4, a5, a6, a7, a8, a9, a10, a11, a12, a13, a14, a15, a16, a17, a18, a19, a20, a21, a22) p0 p1 := by
  rcases sw_rng p0 5 (by decide) with g | ⟨g0, g1⟩ | ⟨g0, g1, t, ht, et⟩
  · exact ⟨0, a1, fun H => by unfold wpX_dark; exact br_t g (br_t rfl H)⟩
  · exact ⟨0, a1, fun H => by unfold wpX_dark; exact br_f g0 (br_t g1 (br_t rfl H))⟩
  · exact ⟨1, _, fun H => by unfold wpX_dark; exact br_f g0 (br_f g1 (br_f (by decide) ⟨pk_in t 6 (by omega) et, nm_e H⟩))⟩
theorem sw_m15 {x : Int32} (h1 : ¬ x < -1) (h2 : x ≤ 5) : x = -1 ∨ ∃ k, k < 6 ∧ x = nI k := by
  by_cases h : x < 0
  · refine Or.inl (Int32.toInt_inj.mp ?_)
    rw [Int32.lt_iff_toInt_lt] at h h1
    have e1 : (-1 : Int32).toInt = -1 := rfl
    have e0 : (0 : Int32).toInt = 0 := rfl
    rw [e1] at h1
    rw [e0] at h
    rw [e1]
    omega
  · obtain ⟨j, hj, e⟩ := nI_of2 (M := 5) (n := 5) (by decide) h h2
    exact Or.inr ⟨j, by omega, e⟩
theorem sw_link {a2 : Nat → Int32} (hE : sw_EX a2) (p0 p1 p2 : Int32) : ∃ r a2', sw_EX a2' ∧ ∀ {post : Int32 → St1 → Prop} {rm nt sk rc nc wc tc mt sd : Int32} {a1 a3 a4 a5 a6 a7 a8 a9 a10 a11 a12 a13 a14 a15 a16 a17 a18 a19 a20 a21 a22 : Nat → Int32}, post r (rm, nt, sk, rc, nc, wc, tc, mt, sd, a1, a2', a3, a4, a5, a6, a7, a8, a9, a10, a11, a12, a13, a14, a15, a16, a17, a18, a19, a20, a21, a22) → wpX_link post (rm, nt, sk, rc, nc, wc, tc, mt, sd, a1, a2, a3, a4, a5, a6, a7, a8, a9, a10, a11, a12, a13, a14, a15, a16, a17, a18, a19, a20, a21, a22) p0 p1 p2 := by
  rcases sw_rng p0 5 (by decide) with g | ⟨g0, g1⟩ | ⟨g0, g1, k, hk, ek⟩
  · exact ⟨0, a2, hE, fun H => by unfold wpX_link; exact br_t g (br_t rfl H)⟩
  · exact ⟨0, a2, hE, fun H => by unfold wpX_link; exact br_f g0 (br_t g1 (br_t rfl H))⟩
  · rcases sw_rng p1 3 (by decide) with d | ⟨d0, d1⟩ | ⟨d0, d1, x, hx, ex⟩
    · exact ⟨0, a2, hE, fun H => by unfold wpX_link; exact br_f g0 (br_f g1 (br_f (by decide) (br_t d H)))⟩
    · exact ⟨0, a2, hE, fun H => by unfold wpX_link; exact br_f g0 (br_f g1 (br_f (by decide) (br_f d0 (br_t d1 H))))⟩
    · by_cases c1 : p2 < -1
      · exact ⟨0, a2, hE, fun H => by unfold wpX_link; exact br_f g0 (br_f g1 (br_f (by decide) (br_f d0 (br_f d1 (br_t c1 H)))))⟩
      · by_cases c2 : p2 ≤ 5
        · subst ek
          subst ex
          have e : (4 : Int32) * nI k + nI x = nI (4 * k + x) := by rw [show (4 : Int32) * nI k = nI (4 * k) from pk_mul 4 k, nI_add]
          have hin : vp_in ((4 : Int32) * nI k + nI x) 24 := by rw [e]; exact pk_in (4 * k + x) 24 (by omega)
          have h8 : p2.toInt8.toInt32 = p2 := by
            rcases sw_m15 c1 c2 with z | ⟨j, hj, z⟩
            · rw [z]; rfl
            · rw [z]; exact sw_b8 j (by omega)
          refine ⟨1, upd a2 ((4 : Int32) * nI k + nI x).toNatClampNeg p2, ?_, fun H => by unfold wpX_link; exact br_f g0 (br_f g1 (br_f (by decide) (br_f d0 (br_f d1 (br_f c1 (br_t c2 ⟨hin, nm_r (by rw [h8]) H⟩))))))⟩
          intro j hj
          by_cases z : j = ((4 : Int32) * nI k + nI x).toNatClampNeg
          · rw [z, pk_us]
            exact sw_m15 c1 c2
          · rw [pk_un z]
            exact hE j hj
        · exact ⟨0, a2, hE, fun H => by unfold wpX_link; exact br_f g0 (br_f g1 (br_f (by decide) (br_f d0 (br_f d1 (br_f c1 (br_f c2 H))))))⟩
/-! change: kind 8, the rules -/
theorem sw_ch350 {rc : Int32} {a9 a10 a11 a12 a13 a14 a15 : Nat → Int32} (hR : sw_RI rc a9 a11 a12 a13 a14 a15) (z0 z1 z2 z3 z4 : Int32) :
    ∃ rc' a9' a10' a11' a12' a13' a14' a15', sw_RI rc' a9' a11' a12' a13' a14' a15' ∧
      ∀ {post : St1 → Prop} {rm nt sk nc wc tc mt sd : Int32} {a1 a2 a3 a4 a5 a6 a7 a8 a16 a17 a18 a19 a20 a21 a22 : Nat → Int32}, post (rm, nt, sk, rc', nc, wc, tc, mt, sd, a1, a2, a3, a4, a5, a6, a7, a8, a9', a10', a11', a12', a13', a14', a15', a16, a17, a18, a19, a20, a21, a22) → wL_change_350 post z0 z1 z2 z3 z4 rm nt sk rc nc wc tc mt sd a1 a2 a3 a4 a5 a6 a7 a8 a9 a10 a11 a12 a13 a14 a15 a16 a17 a18 a19 a20 a21 a22 := by
  obtain ⟨r, rc', a9', a10', a11', a12', a13', a14', a15', k1, k2⟩ := sw_rule (a10 := a10) hR z4 z3 z2 (z1 + z0)
  exact ⟨rc', a9', a10', a11', a12', a13', a14', a15', k1, fun H => by unfold wL_change_350; exact k2 H⟩
theorem sw_ch291 {rc : Int32} {a9 a10 a11 a12 a13 a14 a15 : Nat → Int32} (hR : sw_RI rc a9 a11 a12 a13 a14 a15) (x2 x3 x7 x8 z0 : Int32) :
    ∃ rc' a9' a10' a11' a12' a13' a14' a15', sw_RI rc' a9' a11' a12' a13' a14' a15' ∧
      ∀ {post : St1 → Prop} {rm nt sk nc wc tc mt sd : Int32} {a1 a2 a3 a4 a5 a6 a7 a8 a16 a17 a18 a19 a20 a21 a22 : Nat → Int32}, post (rm, nt, sk, rc', nc, wc, tc, mt, sd, a1, a2, a3, a4, a5, a6, a7, a8, a9', a10', a11', a12', a13', a14', a15', a16, a17, a18, a19, a20, a21, a22) → wL_change_291 post x2 x3 x7 x8 z0 rm nt sk rc nc wc tc mt sd a1 a2 a3 a4 a5 a6 a7 a8 a9 a10 a11 a12 a13 a14 a15 a16 a17 a18 a19 a20 a21 a22 := by
  by_cases c : ((x3 >>> ((10 : Int32) &&& 31)) &&& 3) = 0
  · obtain ⟨rc', a9', a10', a11', a12', a13', a14', a15', k1, k2⟩ := sw_ch350 (a10 := a10) hR 1024 ((x8 + (4 * z0)) + (64 * ((x2 >>> ((14 : Int32) &&& 31)) &&& 15))) x7 ((((x2 >>> ((16 : Int32) &&& 31)) &&& 255) - ((x2 >>> ((16 : Int32) &&& 31)) &&& 255) / 5 * 5) - 1) ((x2 &&& 255) - (x2 &&& 255) / 6 * 6)
    exact ⟨rc', a9', a10', a11', a12', a13', a14', a15', k1, fun H => And.intro (by decide) ⟨by decide, br_t c (k2 H)⟩⟩
  · obtain ⟨rc', a9', a10', a11', a12', a13', a14', a15', k1, k2⟩ := sw_ch350 (a10 := a10) hR 0 ((x8 + (4 * z0)) + (64 * ((x2 >>> ((14 : Int32) &&& 31)) &&& 15))) x7 ((((x2 >>> ((16 : Int32) &&& 31)) &&& 255) - ((x2 >>> ((16 : Int32) &&& 31)) &&& 255) / 5 * 5) - 1) ((x2 &&& 255) - (x2 &&& 255) / 6 * 6)
    exact ⟨rc', a9', a10', a11', a12', a13', a14', a15', k1, fun H => And.intro (by decide) ⟨by decide, br_f c (k2 H)⟩⟩
theorem sw_ch225 {rc : Int32} {a9 a10 a11 a12 a13 a14 a15 : Nat → Int32} (hR : sw_RI rc a9 a11 a12 a13 a14 a15) (x2 x3 z0 : Int32) :
    ∃ rc' a9' a10' a11' a12' a13' a14' a15', sw_RI rc' a9' a11' a12' a13' a14' a15' ∧
      ∀ {post : St1 → Prop} {rm nt sk nc wc tc mt sd : Int32} {a1 a2 a3 a4 a5 a6 a7 a8 a16 a17 a18 a19 a20 a21 a22 : Nat → Int32}, post (rm, nt, sk, rc', nc, wc, tc, mt, sd, a1, a2, a3, a4, a5, a6, a7, a8, a9', a10', a11', a12', a13', a14', a15', a16, a17, a18, a19, a20, a21, a22) → wL_change_225 post x2 x3 z0 rm nt sk rc nc wc tc mt sd a1 a2 a3 a4 a5 a6 a7 a8 a9 a10 a11 a12 a13 a14 a15 a16 a17 a18 a19 a20 a21 a22 := by
  by_cases c0 : ((x2 >>> ((8 : Int32) &&& 31)) &&& 3) = 0
  · obtain ⟨rc', a9', a10', a11', a12', a13', a14', a15', k1, k2⟩ := sw_ch291 (a10 := a10) hR x2 x3 z0 ((x2 >>> ((8 : Int32) &&& 31)) &&& 3) ((x2 >>> ((10 : Int32) &&& 31)) &&& 15)
    exact ⟨rc', a9', a10', a11', a12', a13', a14', a15', k1, fun H => nm_e (br_t c0 (k2 H))⟩
  · by_cases c1 : ((x2 >>> ((8 : Int32) &&& 31)) &&& 3) = 1
    · obtain ⟨rc', a9', a10', a11', a12', a13', a14', a15', k1, k2⟩ := sw_ch291 (a10 := a10) hR x2 x3 z0 ((x2 >>> ((8 : Int32) &&& 31)) &&& 3) ((x2 >>> ((10 : Int32) &&& 31)) &&& 7)
      exact ⟨rc', a9', a10', a11', a12', a13', a14', a15', k1, fun H => nm_e (br_f c0 (br_t c1 (k2 H)))⟩
    · by_cases c2 : ((x2 >>> ((8 : Int32) &&& 31)) &&& 3) = 2
      · obtain ⟨rc', a9', a10', a11', a12', a13', a14', a15', k1, k2⟩ := sw_ch291 (a10 := a10) hR x2 x3 z0 ((x2 >>> ((8 : Int32) &&& 31)) &&& 3) ((x2 >>> ((10 : Int32) &&& 31)) &&& 3)
        exact ⟨rc', a9', a10', a11', a12', a13', a14', a15', k1, fun H => nm_e (br_f c0 (br_f c1 (br_t c2 (k2 H))))⟩
      · obtain ⟨rc', a9', a10', a11', a12', a13', a14', a15', k1, k2⟩ := sw_ch291 (a10 := a10) hR x2 x3 z0 ((x2 >>> ((8 : Int32) &&& 31)) &&& 3) (((x2 >>> ((10 : Int32) &&& 31)) &&& 15) - ((x2 >>> ((10 : Int32) &&& 31)) &&& 15) / 6 * 6)
        exact ⟨rc', a9', a10', a11', a12', a13', a14', a15', k1, fun H => nm_e (br_f c0 (br_f c1 (br_f c2 ⟨by decide, k2 H⟩)))⟩
/-- the whole core's invariant -/
def sw_I (m : Nat) (rm rc sd : Int32) (a2 a4 a5 a6 a9 a11 a12 a13 a14 a15 : Nat → Int32) : Prop := sw_W m rm sd a4 a5 a6 ∧ sw_EX a2 ∧ sw_RI rc a9 a11 a12 a13 a14 a15
theorem sw_change {rm rc sd : Int32} {a1 a2 a3 a4 a5 a6 a9 a10 a11 a12 a13 a14 a15 : Nat → Int32} {m : Nat} (hI : sw_I m rm rc sd a2 a4 a5 a6 a9 a11 a12 a13 a14 a15) (p1 p2 p3 : Int32) :
    ∃ rc' a1' a2' a3' a4' a5' a6' a9' a10' a11' a12' a13' a14' a15', sw_I m rm rc' sd a2' a4' a5' a6' a9' a11' a12' a13' a14' a15' ∧
      ∀ {post : St1 → Prop} {nt sk nc wc tc mt : Int32} {a7 a8 a16 a17 a18 a19 a20 a21 a22 : Nat → Int32}, post (rm, nt, sk, rc', nc, wc, tc, mt, sd, a1', a2', a3', a4', a5', a6', a7, a8, a9', a10', a11', a12', a13', a14', a15', a16, a17, a18, a19, a20, a21, a22) → wpL_change post (rm, nt, sk, rc, nc, wc, tc, mt, sd, a1, a2, a3, a4, a5, a6, a7, a8, a9, a10, a11, a12, a13, a14, a15, a16, a17, a18, a19, a20, a21, a22) p1 p2 p3 := by
  have hI' := hI
  obtain ⟨hW, hE, hR⟩ := hI'
  obtain ⟨w1, w2, w3⟩ := hW
  have rule : ∀ z0 : Int32, ∃ rc' a9' a10' a11' a12' a13' a14' a15', sw_I m rm rc' sd a2 a4 a5 a6 a9' a11' a12' a13' a14' a15' ∧
      ∀ {post : St1 → Prop} {rm nt sk nc wc tc mt sd : Int32} {a1 a2 a3 a4 a5 a6 a7 a8 a16 a17 a18 a19 a20 a21 a22 : Nat → Int32}, post (rm, nt, sk, rc', nc, wc, tc, mt, sd, a1, a2, a3, a4, a5, a6, a7, a8, a9', a10', a11', a12', a13', a14', a15', a16, a17, a18, a19, a20, a21, a22) → wL_change_225 post p2 p3 z0 rm nt sk rc nc wc tc mt sd a1 a2 a3 a4 a5 a6 a7 a8 a9 a10 a11 a12 a13 a14 a15 a16 a17 a18 a19 a20 a21 a22 := by
    intro z0
    obtain ⟨rc', a9', a10', a11', a12', a13', a14', a15', k1, k2⟩ := sw_ch225 (a10 := a10) hR p2 p3 z0
    exact ⟨rc', a9', a10', a11', a12', a13', a14', a15', ⟨⟨w1, w2, w3⟩, hE, k1⟩, fun H => k2 H⟩
  by_cases c2 : 2 ≤ (p1 &&& 15)
  · by_cases e2 : (p1 &&& 15) = 2
    · by_cases d : (p3 &&& 1) = 1
      · obtain ⟨r, a1', k⟩ := sw_dark a1 ((p2 &&& 255) - (p2 &&& 255) / 6 * 6) 1
        exact ⟨rc, a1', a2, a3, a4, a5, a6, a9, a10, a11, a12, a13, a14, a15, hI, fun H => nm_e (nm_e (br_t c2 (br_t e2 ⟨by decide, br_t d (by unfold wL_change_76; exact k H)⟩)))⟩
      · obtain ⟨r, a1', k⟩ := sw_dark a1 ((p2 &&& 255) - (p2 &&& 255) / 6 * 6) 0
        exact ⟨rc, a1', a2, a3, a4, a5, a6, a9, a10, a11, a12, a13, a14, a15, hI, fun H => nm_e (nm_e (br_t c2 (br_t e2 ⟨by decide, br_f d (by unfold wL_change_76; exact k H)⟩)))⟩
    · by_cases c7 : 7 ≤ (p1 &&& 15)
      · by_cases e7 : (p1 &&& 15) = 7
        · obtain ⟨r, rc', a13', a14', a15', k1, k2⟩ := sw_unrule hR
          exact ⟨rc', a1, a2, a3, a4, a5, a6, a9, a10, a11, a12, a13', a14', a15', ⟨⟨w1, w2, w3⟩, hE, k1⟩, fun H => nm_e (nm_e (br_t c2 (br_f e2 (br_t c7 (br_t e7 (k2 H))))))⟩
        · by_cases e8 : (p1 &&& 15) = 8
          · by_cases k0 : (p3 &&& 3) = 0
            · obtain ⟨rc', a9', a10', a11', a12', a13', a14', a15', q1, q2⟩ := rule 0
              exact ⟨rc', a1, a2, a3, a4, a5, a6, a9', a10', a11', a12', a13', a14', a15', q1, fun H => nm_e (nm_e (br_t c2 (br_f e2 (br_t c7 (br_f e7 (br_t e8 (nm_e (br_t k0 (q2 H)))))))))⟩
            · by_cases k1 : (p3 &&& 3) = 1
              · obtain ⟨rc', a9', a10', a11', a12', a13', a14', a15', q1, q2⟩ := rule ((1 + (4 * ((p3 >>> ((2 : Int32) &&& 31)) &&& 3))) + (64 * ((p3 >>> ((4 : Int32) &&& 31)) &&& 3)))
                exact ⟨rc', a1, a2, a3, a4, a5, a6, a9', a10', a11', a12', a13', a14', a15', q1, fun H => nm_e (nm_e (br_t c2 (br_f e2 (br_t c7 (br_f e7 (br_t e8 (nm_e (br_f k0 (br_t k1 (q2 H))))))))))⟩
              · by_cases k2 : (p3 &&& 3) = 2
                · obtain ⟨rc', a9', a10', a11', a12', a13', a14', a15', q1, q2⟩ := rule ((2 + (4 * ((p3 >>> ((2 : Int32) &&& 31)) &&& 7))) + (64 * ((p3 >>> ((5 : Int32) &&& 31)) &&& 15)))
                  exact ⟨rc', a1, a2, a3, a4, a5, a6, a9', a10', a11', a12', a13', a14', a15', q1, fun H => nm_e (nm_e (br_t c2 (br_f e2 (br_t c7 (br_f e7 (br_t e8 (nm_e (br_f k0 (br_f k1 (br_t k2 (q2 H)))))))))))⟩
                · obtain ⟨rc', a9', a10', a11', a12', a13', a14', a15', q1, q2⟩ := rule ((3 + (4 * ((p3 >>> ((2 : Int32) &&& 31)) &&& 7))) + (64 * ((p3 >>> ((5 : Int32) &&& 31)) &&& 3)))
                  exact ⟨rc', a1, a2, a3, a4, a5, a6, a9', a10', a11', a12', a13', a14', a15', q1, fun H => nm_e (nm_e (br_t c2 (br_f e2 (br_t c7 (br_f e7 (br_t e8 (nm_e (br_f k0 (br_f k1 (br_f k2 (q2 H)))))))))))⟩
          · exact ⟨rc, a1, a2, a3, a4, a5, a6, a9, a10, a11, a12, a13, a14, a15, hI, fun H => nm_e (nm_e (br_t c2 (br_f e2 (br_t c7 (br_f e7 (br_f e8 H))))))⟩
      · obtain ⟨r, a3', a4', a5', a6', k1, k2⟩ := sw_thing (a3 := a3) w3 (p2 &&& 7) (p3 &&& 15) (((p3 >>> ((4 : Int32) &&& 31)) &&& 255) - ((p3 >>> ((4 : Int32) &&& 31)) &&& 255) / 16 * 16)
        exact ⟨rc, a1, a2, a3', a4', a5', a6', a9, a10, a11, a12, a13, a14, a15, ⟨⟨w1, w2, k1⟩, hE, hR⟩, fun H => nm_e (nm_e (br_t c2 (br_f e2 (br_f c7 ⟨by decide, k2 H⟩))))⟩
  · obtain ⟨r, a2', k1, k2⟩ := sw_link hE ((p2 &&& 255) - (p2 &&& 255) / 6 * 6) (p3 &&& 3) ((((p3 >>> ((2 : Int32) &&& 31)) &&& 255) - ((p3 >>> ((2 : Int32) &&& 31)) &&& 255) / 7 * 7) - 1)
    exact ⟨rc, a1, a2', a3, a4, a5, a6, a9, a10, a11, a12, a13, a14, a15, ⟨⟨w1, w2, w3⟩, k1, hR⟩, fun H => nm_e (nm_e (br_f c2 ⟨by decide, by decide, k2 H⟩))⟩
end
section
/-! what is seen from outside: place, traits, visible; sum and holds of the law; command -/
theorem sw_n7 {t : Nat} (ht : t < 8) : ¬ (7 : Int32) < nI t := nI_nlt (a := 7) (by omega) (by decide)
theorem sw_place {t : Nat} (ht : t < 8) {post : Int32 → Prop} {rm nt sk rc nc wc tc mt sd : Int32} {a1 a2 a3 a4 a5 a6 a7 a8 a9 a10 a11 a12 a13 a14 a15 a16 a17 a18 a19 a20 a21 a22 : Nat → Int32} (H : post (a4 t)) : wpX_place post (rm, nt, sk, rc, nc, wc, tc, mt, sd, a1, a2, a3, a4, a5, a6, a7, a8, a9, a10, a11, a12, a13, a14, a15, a16, a17, a18, a19, a20, a21, a22) (nI t) := by
  unfold wpX_place
  exact br_f (nI_pos (by omega)) (br_f (sw_n7 ht) (br_f (by decide) ⟨pk_in t 8 ht, by rw [nI_clamp (by omega)]; exact H⟩))
theorem sw_traits {t : Nat} (ht : t < 8) {post : Int32 → Prop} {rm nt sk rc nc wc tc mt sd : Int32} {a1 a2 a3 a4 a5 a6 a7 a8 a9 a10 a11 a12 a13 a14 a15 a16 a17 a18 a19 a20 a21 a22 : Nat → Int32} (H : post (a3 t)) : wpX_traits post (rm, nt, sk, rc, nc, wc, tc, mt, sd, a1, a2, a3, a4, a5, a6, a7, a8, a9, a10, a11, a12, a13, a14, a15, a16, a17, a18, a19, a20, a21, a22) (nI t) := by
  unfold wpX_traits
  exact br_f (nI_pos (by omega)) (br_f (sw_n7 ht) (br_f (by decide) ⟨pk_in t 8 ht, by rw [nI_clamp (by omega)]; exact H⟩))
theorem sw_visible {pl : Nat → Nat} {L : Nat → List Nat} {a1 a3 a4 a5 a6 : Nat → Int32} {k : Nat} (hP : sw_PL pl L a4 a5 a6) (hk : k < 6) :
    ∃ V : Nat → Int32, (∀ t, t < 8 → V t ≠ 0 → pl t = k ∨ pl t = 6 ∨ ∃ u, u < 8 ∧ pl t = 8 + u ∧ (a3 u &&& 6) = 6 ∧ V u ≠ 0) ∧
      ∀ {t : Nat}, t < 8 → ∀ {post : Int32 → St1 → Prop} {nt sk rc nc wc tc mt sd : Int32} {a2 a7 a8 a9 a10 a11 a12 a13 a14 a15 a16 a17 a18 a19 a20 a21 a22 : Nat → Int32}, (∀ nt' sk' a8', post (V t) (nI k, nt', sk', rc, nc, wc, tc, mt, sd, a1, a2, a3, a4, a5, a6, a7, a8', a9, a10, a11, a12, a13, a14, a15, a16, a17, a18, a19, a20, a21, a22)) → wpX_visible post (nI k, nt, sk, rc, nc, wc, tc, mt, sd, a1, a2, a3, a4, a5, a6, a7, a8, a9, a10, a11, a12, a13, a14, a15, a16, a17, a18, a19, a20, a21, a22) (nI t) := by
  obtain ⟨V, v1, v2, v3⟩ := sw_vis (a1 := a1) (a3 := a3) hP hk
  refine ⟨V, v2, fun {t} ht => fun H => ?_⟩
  unfold wpX_visible
  refine br_f (nI_pos (by omega)) (br_f (sw_n7 ht) (br_f (by decide) (v3 ht (fun nt' sk' a8' => ?_))))
  rcases v1 t with e | e
  · rw [e] at H ⊢
    exact br_t rfl (H _ _ _)
  · rw [e] at H ⊢
    exact br_f (by decide) (H _ _ _)
theorem sw_sum87 {sd : Int32} {a22 : Nat → Int32} : ∀ (m : Nat), m ≤ 40 → ∀ x1 : Int32, ∃ h : Int32, ∀ {post : Int32 → St1 → Prop} {rm nt sk rc nc wc tc mt : Int32} {a1 a2 a3 a4 a5 a6 a7 a8 a9 a10 a11 a12 a13 a14 a15 a16 a17 a18 a19 a20 a21 : Nat → Int32}, post h (rm, nt, sk, rc, nc, wc, tc, mt, sd, a1, a2, a3, a4, a5, a6, a7, a8, a9, a10, a11, a12, a13, a14, a15, a16, a17, a18, a19, a20, a21, a22) → wL_sum_87 post rm nt sk rc nc wc tc mt sd a1 a2 a3 a4 a5 a6 a7 a8 a9 a10 a11 a12 a13 a14 a15 a16 a17 a18 a19 a20 a21 a22 (m + 1) x1 (nI (40 - m))
  | 0, _, x1 => ⟨x1, fun H => br_t (by decide) H⟩
  | m + 1, hm, x1 => by
    have e : nI (40 - (m + 1)) + 1 = nI (40 - m) := by rw [nI_1]; congr 1; omega
    have hlt : ¬ (40 : Int32) ≤ nI (40 - (m + 1)) := nI_ge (b := 40) (by omega) (by decide)
    have h0 : ¬ nI (40 - (m + 1)) < 0 := nI_pos (by omega)
    by_cases c : sd ≤ nI (40 - (m + 1))
    · obtain ⟨h, hh⟩ := sw_sum87 (sd := sd) (a22 := a22) m (by omega) (31 * x1 + -1)
      exact ⟨h, fun H => br_f hlt (br_f h0 (br_t c (nm_e (nm_r e (hh H)))))⟩
    · obtain ⟨h, hh⟩ := sw_sum87 (sd := sd) (a22 := a22) m (by omega) (31 * x1 + a22 (40 - (m + 1)))
      exact ⟨h, fun H => br_f hlt (br_f h0 (br_f c (br_t (nI_le (b := 39) (by omega) (by decide)) ⟨pk_in (40 - (m + 1)) 40 (by omega), nm_r (by rw [nI_clamp (by omega)]) (nm_r e (hh H))⟩)))⟩
theorem sw_sum63 {sd : Int32} {a7 a22 : Nat → Int32} : ∀ (m : Nat), m ≤ 4 → ∀ x1 : Int32, ∃ h : Int32, ∀ {post : Int32 → St1 → Prop} {rm nt sk rc nc wc tc mt : Int32} {a1 a2 a3 a4 a5 a6 a8 a9 a10 a11 a12 a13 a14 a15 a16 a17 a18 a19 a20 a21 : Nat → Int32}, post h (rm, nt, sk, rc, nc, wc, tc, mt, sd, a1, a2, a3, a4, a5, a6, a7, a8, a9, a10, a11, a12, a13, a14, a15, a16, a17, a18, a19, a20, a21, a22) → wL_sum_63 post rm nt sk rc nc wc tc mt sd a1 a2 a3 a4 a5 a6 a7 a8 a9 a10 a11 a12 a13 a14 a15 a16 a17 a18 a19 a20 a21 a22 (m + 1) x1 (nI (4 - m))
  | 0, _, x1 => by
    obtain ⟨h, hh⟩ := sw_sum87 (sd := sd) (a22 := a22) 40 (by omega) x1
    exact ⟨h, fun H => br_t (by decide) (Exists.intro 41 (hh H))⟩
  | m + 1, hm, x1 => by
    have e : nI (4 - (m + 1)) + 1 = nI (4 - m) := by rw [nI_1]; congr 1; omega
    have hlt : ¬ (4 : Int32) ≤ nI (4 - (m + 1)) := nI_ge (b := 4) (by omega) (by decide)
    have h0 : ¬ nI (4 - (m + 1)) < 0 := nI_pos (by omega)
    obtain ⟨h, hh⟩ := sw_sum63 (sd := sd) (a7 := a7) (a22 := a22) m (by omega) (31 * x1 + a7 (4 - (m + 1)))
    exact ⟨h, fun H => br_f hlt (br_f h0 (br_t (nI_le (b := 3) (by omega) (by decide)) ⟨pk_in (4 - (m + 1)) 4 (by omega), nm_r (by rw [nI_clamp (by omega)]) (nm_r e (hh H))⟩))⟩
theorem sw_sum15 {pl : Nat → Nat} {L : Nat → List Nat} {sd : Int32} {a1 a3 a4 a5 a6 a7 a22 : Nat → Int32} {k : Nat} (hP : sw_PL pl L a4 a5 a6) (hk : k < 6) : ∀ (m : Nat), m ≤ 8 → ∀ x1 : Int32, ∃ h : Int32, ∀ {post : Int32 → St1 → Prop} {nt sk rc nc wc tc mt : Int32} {a2 a8 a9 a10 a11 a12 a13 a14 a15 a16 a17 a18 a19 a20 a21 : Nat → Int32}, (∀ nt' sk' a8', post h (nI k, nt', sk', rc, nc, wc, tc, mt, sd, a1, a2, a3, a4, a5, a6, a7, a8', a9, a10, a11, a12, a13, a14, a15, a16, a17, a18, a19, a20, a21, a22)) → wL_sum_15 post (m + 1) x1 (nI (8 - m)) (nI k) nt sk rc nc wc tc mt sd a1 a2 a3 a4 a5 a6 a7 a8 a9 a10 a11 a12 a13 a14 a15 a16 a17 a18 a19 a20 a21 a22
  | 0, _, x1 => by
    obtain ⟨h, hh⟩ := sw_sum63 (sd := sd) (a7 := a7) (a22 := a22) 4 (by omega) x1
    exact ⟨h, fun H => br_t (by decide) (Exists.intro 5 (hh (H _ _ _)))⟩
  | m + 1, hm, x1 => by
    have e : nI (8 - (m + 1)) + 1 = nI (8 - m) := by rw [nI_1]; congr 1; omega
    have hlt : ¬ (8 : Int32) ≤ nI (8 - (m + 1)) := nI_ge (b := 8) (by omega) (by decide)
    have ht : 8 - (m + 1) < 8 := by omega
    obtain ⟨V, v2, v3⟩ := sw_visible (a1 := a1) (a3 := a3) hP hk
    by_cases c : V (8 - (m + 1)) = 0
    · obtain ⟨h, hh⟩ := sw_sum15 (sd := sd) (a1 := a1) (a3 := a3) (a7 := a7) (a22 := a22) hP hk m (by omega) ((((31 * x1) + a4 (8 - (m + 1))) + (17 * a3 (8 - (m + 1)))) + 0)
      exact ⟨h, fun H => br_f hlt (sw_place ht (sw_traits ht (v3 ht (fun nt' sk' a8' => br_t c (nm_e (nm_r e (hh H)))))))⟩
    · obtain ⟨h, hh⟩ := sw_sum15 (sd := sd) (a1 := a1) (a3 := a3) (a7 := a7) (a22 := a22) hP hk m (by omega) ((((31 * x1) + a4 (8 - (m + 1))) + (17 * a3 (8 - (m + 1)))) + 5)
      exact ⟨h, fun H => br_f hlt (sw_place ht (sw_traits ht (v3 ht (fun nt' sk' a8' => br_f c (nm_e (nm_r e (hh H)))))))⟩
theorem sw_sum {rm sd : Int32} {a1 a3 a4 a5 a6 a7 a22 : Nat → Int32} {m : Nat} (hW : sw_W m rm sd a4 a5 a6) : ∃ h : Int32, ∀ {post : Int32 → St1 → Prop} {nt sk rc nc wc tc mt : Int32} {a2 a8 a9 a10 a11 a12 a13 a14 a15 a16 a17 a18 a19 a20 a21 : Nat → Int32}, (∀ nt' sk' a8', post h (rm, nt', sk', rc, nc, wc, tc, mt, sd, a1, a2, a3, a4, a5, a6, a7, a8', a9, a10, a11, a12, a13, a14, a15, a16, a17, a18, a19, a20, a21, a22)) → wpL_sum post (rm, nt, sk, rc, nc, wc, tc, mt, sd, a1, a2, a3, a4, a5, a6, a7, a8, a9, a10, a11, a12, a13, a14, a15, a16, a17, a18, a19, a20, a21, a22) := by
  obtain ⟨⟨k, hk, rfl⟩, h2, ⟨pl, L, hP⟩⟩ := hW
  obtain ⟨h, hh⟩ := sw_sum15 (sd := sd) (a1 := a1) (a3 := a3) (a7 := a7) (a22 := a22) hP hk 8 (by omega) (nI k + (7 * sd))
  exact ⟨h, fun H => by
    unfold wpL_sum wpX_player wpX_said
    exact nm_e (Exists.intro 9 (hh H))⟩
/-! the law's holds -/
theorem sw_h102 {pl : Nat → Nat} {L : Nat → List Nat} {a4 a5 a6 : Nat → Int32} {t : Nat} (hP : sw_PL pl L a4 a5 a6) (ht : t < 8) : ∀ (m : Nat), m ≤ 8 → ∀ a : Nat, a < 16 → a = sw_up pl (8 - m) (pl t) → ∀ {post : Int32 → St1 → Prop} {J : Int32 → Int32 → Int32 → Int32 → Int32 → Int32 → Int32 → Int32 → Int32 → Int32 → (Nat → Int32) → (Nat → Int32) → (Nat → Int32) → (Nat → Int32) → (Nat → Int32) → (Nat → Int32) → (Nat → Int32) → (Nat → Int32) → (Nat → Int32) → (Nat → Int32) → (Nat → Int32) → (Nat → Int32) → (Nat → Int32) → (Nat → Int32) → (Nat → Int32) → (Nat → Int32) → (Nat → Int32) → (Nat → Int32) → (Nat → Int32) → (Nat → Int32) → (Nat → Int32) → (Nat → Int32) → Prop} {rm nt sk rc nc wc tc mt sd : Int32} {a1 a2 a3 a5 a6 a7 a8 a9 a10 a11 a12 a13 a14 a15 a16 a17 a18 a19 a20 a21 a22 : Nat → Int32},
    J (nI (t + 1)) rm nt sk rc nc wc tc mt sd a1 a2 a3 a4 a5 a6 a7 a8 a9 a10 a11 a12 a13 a14 a15 a16 a17 a18 a19 a20 a21 a22 → wL_holds_102 post J (nI t) rm nt sk rc nc wc tc mt sd a1 a2 a3 a4 a5 a6 a7 a8 a9 a10 a11 a12 a13 a14 a15 a16 a17 a18 a19 a20 a21 a22 (m + 1) (nI a) (nI (8 - m))
  | 0, _, a, ha, e => fun H => by
    have h8 : a < 8 := by
      rw [e]
      exact sw_eight (fun t ht => (hP.1 t ht).2) hP.2.2 t ht
    exact br_t (by decide) (br_t (nI_le (b := 7) (by omega) (by decide)) (nm_r (nI_1 t) H))
  | m + 1, hm, a, ha, e => fun H => by
    have e1 : nI (8 - (m + 1)) + 1 = nI (8 - m) := by rw [nI_1]; congr 1; omega
    have hlt : ¬ (8 : Int32) ≤ nI (8 - (m + 1)) := nI_ge (b := 8) (by omega) (by decide)
    have hnc : a ≠ 8 + t := by rw [e]; exact sw_nocyc (hP.2.2 t ht) _
    have hne : ¬ nI a = 8 + nI t := by
      rw [show (8 : Int32) + nI t = nI (8 + t) from nI_add 8 t, nI_eq (by omega) (by omega)]
      exact hnc
    have hs : sw_up pl (8 - m) (pl t) = sw_up pl 1 a := by
      rw [e, ← sw_up_add]
      congr 1
      omega
    by_cases c : a < 8
    · rw [sw_up_lo c] at hs
      exact br_f hlt (br_f hne (br_t (nI_le (b := 7) (by omega) (by decide)) (nm_r e1 (sw_h102 hP ht m (by omega) a ha hs.symm H))))
    · rw [sw_up_hi c] at hs
      have e8 : nI a - 8 = nI (a - 8) := pk_sub (b := 8) (by omega)
      have h4 := hP.1 (a - 8) (by omega)
      refine br_f hlt (br_f hne (br_f (nI_ge (a := 7) (by omega) (by omega)) ?_))
      rw [e8]
      refine sw_place (by omega) (nm_r e1 ?_)
      rw [h4.1]
      exact sw_h102 hP ht m (by omega) (pl (a - 8)) h4.2 hs.symm H
theorem sw_h78 {pl : Nat → Nat} {L : Nat → List Nat} {a1 a3 a4 a5 a6 : Nat → Int32} {k t : Nat} {V : Nat → Int32} {x3 z0 : Int32} (hP : sw_PL pl L a4 a5 a6) (ht : t < 8)
    (v3 : ∀ {t : Nat}, t < 8 → ∀ {post : Int32 → St1 → Prop} {nt sk rc nc wc tc mt sd : Int32} {a2 a7 a8 a9 a10 a11 a12 a13 a14 a15 a16 a17 a18 a19 a20 a21 a22 : Nat → Int32}, (∀ nt' sk' a8', post (V t) (nI k, nt', sk', rc, nc, wc, tc, mt, sd, a1, a2, a3, a4, a5, a6, a7, a8', a9, a10, a11, a12, a13, a14, a15, a16, a17, a18, a19, a20, a21, a22)) → wpX_visible post (nI k, nt, sk, rc, nc, wc, tc, mt, sd, a1, a2, a3, a4, a5, a6, a7, a8, a9, a10, a11, a12, a13, a14, a15, a16, a17, a18, a19, a20, a21, a22) (nI t))
    (hb : V t ≠ 0 → x3 ≠ 0 ∨ z0 ≠ 0) {post : Int32 → St1 → Prop} {J : Int32 → Int32 → Int32 → Int32 → Int32 → Int32 → Int32 → Int32 → Int32 → Int32 → (Nat → Int32) → (Nat → Int32) → (Nat → Int32) → (Nat → Int32) → (Nat → Int32) → (Nat → Int32) → (Nat → Int32) → (Nat → Int32) → (Nat → Int32) → (Nat → Int32) → (Nat → Int32) → (Nat → Int32) → (Nat → Int32) → (Nat → Int32) → (Nat → Int32) → (Nat → Int32) → (Nat → Int32) → (Nat → Int32) → (Nat → Int32) → (Nat → Int32) → (Nat → Int32) → (Nat → Int32) → Prop} {nt sk rc nc wc tc mt sd : Int32} {a2 a7 a8 a9 a10 a11 a12 a13 a14 a15 a16 a17 a18 a19 a20 a21 a22 : Nat → Int32}
    (H : ∀ nt' sk' a8', J (nI (t + 1)) (nI k) nt' sk' rc nc wc tc mt sd a1 a2 a3 a4 a5 a6 a7 a8' a9 a10 a11 a12 a13 a14 a15 a16 a17 a18 a19 a20 a21 a22) : wL_holds_78 post J (nI t) (nI (pl t)) x3 z0 (nI k) nt sk rc nc wc tc mt sd a1 a2 a3 a4 a5 a6 a7 a8 a9 a10 a11 a12 a13 a14 a15 a16 a17 a18 a19 a20 a21 a22 := by
  unfold wL_holds_78
  refine v3 ht (fun nt' sk' a8' => ?_)
  have hx : ∃ fu, wL_holds_102 post J (nI t) (nI k) nt' sk' rc nc wc tc mt sd a1 a2 a3 a4 a5 a6 a7 a8' a9 a10 a11 a12 a13 a14 a15 a16 a17 a18 a19 a20 a21 a22 fu (nI (pl t)) 0 := ⟨9, sw_h102 hP ht 8 (by omega) (pl t) (hP.1 t ht).2 rfl (H _ _ _)⟩
  by_cases c : V t = 0
  · exact br_t c hx
  · refine br_f c ?_
    by_cases d : x3 = 0
    · refine br_t d ?_
      rcases hb c with z | z
      · exact absurd d z
      · exact br_f z hx
    · exact br_f d hx
theorem sw_h39 {pl : Nat → Nat} {L : Nat → List Nat} {a1 a3 a4 a5 a6 : Nat → Int32} {k t : Nat} {V : Nat → Int32} {x3 : Int32} (hP : sw_PL pl L a4 a5 a6) (ht : t < 8)
    (v3 : ∀ {t : Nat}, t < 8 → ∀ {post : Int32 → St1 → Prop} {nt sk rc nc wc tc mt sd : Int32} {a2 a7 a8 a9 a10 a11 a12 a13 a14 a15 a16 a17 a18 a19 a20 a21 a22 : Nat → Int32}, (∀ nt' sk' a8', post (V t) (nI k, nt', sk', rc, nc, wc, tc, mt, sd, a1, a2, a3, a4, a5, a6, a7, a8', a9, a10, a11, a12, a13, a14, a15, a16, a17, a18, a19, a20, a21, a22)) → wpX_visible post (nI k, nt, sk, rc, nc, wc, tc, mt, sd, a1, a2, a3, a4, a5, a6, a7, a8, a9, a10, a11, a12, a13, a14, a15, a16, a17, a18, a19, a20, a21, a22) (nI t))
    (hb : V t ≠ 0 → x3 ≠ 0 ∨ ∃ u, u < 8 ∧ pl t = 8 + u ∧ (a3 u &&& 6) = 6 ∧ V u ≠ 0) {post : Int32 → St1 → Prop} {J : Int32 → Int32 → Int32 → Int32 → Int32 → Int32 → Int32 → Int32 → Int32 → Int32 → (Nat → Int32) → (Nat → Int32) → (Nat → Int32) → (Nat → Int32) → (Nat → Int32) → (Nat → Int32) → (Nat → Int32) → (Nat → Int32) → (Nat → Int32) → (Nat → Int32) → (Nat → Int32) → (Nat → Int32) → (Nat → Int32) → (Nat → Int32) → (Nat → Int32) → (Nat → Int32) → (Nat → Int32) → (Nat → Int32) → (Nat → Int32) → (Nat → Int32) → (Nat → Int32) → (Nat → Int32) → Prop} {nt sk rc nc wc tc mt sd : Int32} {a2 a7 a8 a9 a10 a11 a12 a13 a14 a15 a16 a17 a18 a19 a20 a21 a22 : Nat → Int32}
    (H : ∀ nt' sk' a8', J (nI (t + 1)) (nI k) nt' sk' rc nc wc tc mt sd a1 a2 a3 a4 a5 a6 a7 a8' a9 a10 a11 a12 a13 a14 a15 a16 a17 a18 a19 a20 a21 a22) : wL_holds_39 post J (nI t) (nI (pl t)) x3 (nI k) nt sk rc nc wc tc mt sd a1 a2 a3 a4 a5 a6 a7 a8 a9 a10 a11 a12 a13 a14 a15 a16 a17 a18 a19 a20 a21 a22 := by
  have h16 := (hP.1 t ht).2
  by_cases c : pl t < 8
  · refine br_t (nI_le (b := 7) (by omega) (by decide)) (sw_h78 hP ht v3 (fun z => ?_) H)
    rcases hb z with g | ⟨u, _, g, _⟩
    · exact Or.inl g
    · omega
  · refine br_f (nI_ge (a := 7) (by omega) (by omega)) ?_
    have e8 : nI (pl t) - 8 = nI (pl t - 8) := pk_sub (b := 8) (by omega)
    have hu : pl t - 8 < 8 := by omega
    rw [e8]
    refine sw_traits hu ?_
    by_cases d : (a3 (pl t - 8) &&& 6) = 6
    · refine br_t d (v3 hu (fun nt' sk' a8' => ?_))
      by_cases f : V (pl t - 8) = 0
      · refine br_t f (sw_h78 hP ht v3 (fun z => ?_) H)
        rcases hb z with g | ⟨u, _, g, _, g2⟩
        · exact Or.inl g
        · have : u = pl t - 8 := by omega
          rw [this] at g2
          exact absurd f g2
      · exact br_f f (sw_h78 hP ht v3 (fun _ => Or.inr (by decide)) H)
    · refine br_f d (sw_h78 hP ht v3 (fun z => ?_) H)
      rcases hb z with g | ⟨u, _, g, g1, _⟩
      · exact Or.inl g
      · have : u = pl t - 8 := by omega
        rw [this] at g1
        exact absurd g1 d
theorem sw_h2 {pl : Nat → Nat} {L : Nat → List Nat} {a1 a3 a4 a5 a6 : Nat → Int32} {k : Nat} (hP : sw_PL pl L a4 a5 a6) (hk : k < 6) : ∀ (m : Nat), m ≤ 8 → ∀ {post : Int32 → St1 → Prop} {nt sk rc nc wc tc mt sd : Int32} {a2 a7 a8 a9 a10 a11 a12 a13 a14 a15 a16 a17 a18 a19 a20 a21 a22 : Nat → Int32}, (∀ nt' sk' a8', post 1 (nI k, nt', sk', rc, nc, wc, tc, mt, sd, a1, a2, a3, a4, a5, a6, a7, a8', a9, a10, a11, a12, a13, a14, a15, a16, a17, a18, a19, a20, a21, a22)) → wL_holds_2 post (m + 1) (nI (8 - m)) (nI k) nt sk rc nc wc tc mt sd a1 a2 a3 a4 a5 a6 a7 a8 a9 a10 a11 a12 a13 a14 a15 a16 a17 a18 a19 a20 a21 a22
  | 0, _ => fun H => br_t (by decide) (H _ _ _)
  | m + 1, hm => fun H => by
    have e1 : 8 - (m + 1) + 1 = 8 - m := by omega
    have hlt : ¬ (8 : Int32) ≤ nI (8 - (m + 1)) := nI_ge (b := 8) (by omega) (by decide)
    have ht : 8 - (m + 1) < 8 := by omega
    have h4 := hP.1 _ ht
    obtain ⟨V, v2, v3⟩ := sw_visible (a1 := a1) (a3 := a3) hP hk
    have v2t := v2 _ ht
    refine br_f hlt (sw_place ht ?_)
    rw [h4.1]
    by_cases c6 : pl (8 - (m + 1)) = 6
    · refine br_t (nI_le (a := 6) (by omega) (by omega)) (br_t (by rw [c6]; rfl) ?_)
      refine sw_h39 hP ht v3 (fun _ => Or.inl (by decide)) (fun nt' sk' a8' => ?_)
      rw [e1]
      exact sw_h2 hP hk m (by omega) H
    · have n6 : ¬ nI (pl (8 - (m + 1))) = 6 := by
        intro z
        exact c6 ((nI_eq (b := 6) (by omega) (by omega)).mp z)
      by_cases ck : pl (8 - (m + 1)) = k
      · refine br_f (nI_ge (b := 6) (by omega) (by decide)) (br_t (by rw [ck]) ?_)
        refine sw_h39 hP ht v3 (fun _ => Or.inl (by decide)) (fun nt' sk' a8' => ?_)
        rw [e1]
        exact sw_h2 hP hk m (by omega) H
      · have hb : V (8 - (m + 1)) ≠ 0 → (0 : Int32) ≠ 0 ∨ ∃ u, u < 8 ∧ pl (8 - (m + 1)) = 8 + u ∧ (a3 u &&& 6) = 6 ∧ V u ≠ 0 := by
          intro z
          rcases v2t z with g | g | g
          · exact absurd g ck
          · exact absurd g c6
          · exact Or.inr g
        by_cases c : pl (8 - (m + 1)) < 6
        · refine br_f (nI_ge (b := 6) c (by decide)) (br_f (by rw [nI_eq (by omega) (by omega)]; exact ck) (br_f n6 ?_))
          refine sw_h39 hP ht v3 hb (fun nt' sk' a8' => ?_)
          rw [e1]
          exact sw_h2 hP hk m (by omega) H
        · refine br_t (nI_le (a := 6) (by omega) (by omega)) (br_f n6 ?_)
          refine sw_h39 hP ht v3 hb (fun nt' sk' a8' => ?_)
          rw [e1]
          exact sw_h2 hP hk m (by omega) H
theorem sw_lholds {rm sd : Int32} {a4 a5 a6 : Nat → Int32} {m : Nat} (hW : sw_W m rm sd a4 a5 a6) {post : Int32 → St1 → Prop} {nt sk rc nc wc tc mt : Int32} {a1 a2 a3 a7 a8 a9 a10 a11 a12 a13 a14 a15 a16 a17 a18 a19 a20 a21 a22 : Nat → Int32} (H : ∀ nt' sk' a8', post 1 (rm, nt', sk', rc, nc, wc, tc, mt, sd, a1, a2, a3, a4, a5, a6, a7, a8', a9, a10, a11, a12, a13, a14, a15, a16, a17, a18, a19, a20, a21, a22)) : wpL_holds post (rm, nt, sk, rc, nc, wc, tc, mt, sd, a1, a2, a3, a4, a5, a6, a7, a8, a9, a10, a11, a12, a13, a14, a15, a16, a17, a18, a19, a20, a21, a22) := by
  obtain ⟨⟨k, hk, rfl⟩, h2, ⟨pl, L, hP⟩⟩ := hW
  exact Exists.intro 9 (sw_h2 hP hk 8 (by omega) H)
theorem sw_command {rm sd rc : Int32} {a1 a2 a3 a4 a5 a6 a7 a9 a10 a11 a12 a13 a14 a15 a22 : Nat → Int32} {v x q : Nat} (hv : v < 6) (hx : x < 8) (hx0 : v = 0 → x < 4) (hq : q < 8) {rm' sd' r : Int32} {a3' a4' a5' a6' a7' a22' : Nat → Int32}
    (k4 : ∀ {y : Int32} {post : Int32 → St1 → Prop} {nt sk nc wc tc mt : Int32} {a8 a16 a17 a18 a19 a20 a21 : Nat → Int32}, (v = 3 → y = nI q) → (∀ nt' sk' a8', post r (rm', nt', sk', rc, nc, wc, tc, mt, sd', a1, a2, a3', a4', a5', a6', a7', a8', a9, a10, a11, a12, a13, a14, a15, a16, a17, a18, a19, a20, a21, a22')) → wpX_carryOut post (rm, nt, sk, rc, nc, wc, tc, mt, sd, a1, a2, a3, a4, a5, a6, a7, a8, a9, a10, a11, a12, a13, a14, a15, a16, a17, a18, a19, a20, a21, a22) (nI v) (nI x) y)
    {post : Int32 → St1 → Prop} {nt sk nc wc tc mt : Int32} {a8 a16 a17 a18 a19 a20 a21 : Nat → Int32}
    (H : ∀ nt' sk' a8', post r (rm', nt', sk', rc, nc, wc, tc, mt, sd', a1, a2, a3', a4', a5', a6', a7', a8', a9, a10, a11, a12, a13, a14, a15, a16, a17, a18, a19, a20, a21, a22')) : wpX_command post (rm, nt, sk, rc, nc, wc, tc, mt, sd, a1, a2, a3, a4, a5, a6, a7, a8, a9, a10, a11, a12, a13, a14, a15, a16, a17, a18, a19, a20, a21, a22) (nI v) (nI x) (nI q) := by
  have h42 : wX_command_42 post (nI v) (nI x) (nI q) rm nt sk rc nc wc tc mt sd a1 a2 a3 a4 a5 a6 a7 a8 a9 a10 a11 a12 a13 a14 a15 a16 a17 a18 a19 a20 a21 a22 := by
    unfold wX_command_42
    exact k4 (fun _ => rfl) H
  have h24 : ∀ z : Int32, ¬ z < nI x → wX_command_24 post (nI v) (nI x) (nI q) z (nI x) rm nt sk rc nc wc tc mt sd a1 a2 a3 a4 a5 a6 a7 a8 a9 a10 a11 a12 a13 a14 a15 a16 a17 a18 a19 a20 a21 a22 := by
    intro z hz
    refine br_f hz ?_
    by_cases c : v = 3
    · refine br_t (by rw [c]; rfl) ?_
      exact br_f (nI_pos (by omega)) (br_f (sw_n7 hq) (br_f (by decide) h42))
    · exact br_f (fun z => c ((nI_eq (b := 3) (by omega) (by omega)).mp z)) h42
  refine br_f (nI_pos (by omega)) (br_f (nI_nlt (a := 5) (by omega) (by decide)) (br_f (nI_pos (by omega)) ?_))
  by_cases c : v = 0
  · exact br_t (by rw [c]; rfl) (h24 3 (nI_nlt (a := 3) (by have := hx0 c; omega) (by decide)))
  · exact br_f (fun z => c ((nI_eq (b := 0) (by omega) (by omega)).mp z)) (h24 7 (sw_n7 hx))
end
section
/-! words: the tree of letters as it stands in the end, and its first n nodes -/
def sw_FK (j : Nat) : List Nat := if j = 0 then [21, 12, 7, 6, 5, 4, 3, 2, 1] else if j = 7 then [11, 10, 9, 8] else if j = 12 then [20, 19, 18, 17, 16, 15, 14, 13] else []
def sw_FL (j : Nat) : Nat := [0, 1, 2, 3, 4, 5, 6, 7, 1, 2, 3, 4, 8, 1, 2, 3, 4, 5, 6, 7, 8, 26].getD j 0
def sw_FM (j : Nat) : Int32 := ([-1, 0, 1, 2, 3, 4, 5, -1, 10, 11, 12, 13, -1, 20, 21, 22, 23, 24, 25, 26, 27, 30] : List Int32).getD j 0
def sw_K (n j : Nat) : List Nat := (sw_FK j).filter (fun c => decide (c < n))
def sw_TR (n : Nat) (a16 a18 a19 : Nat → Int32) : Prop := ∀ j, j < n → sw_Ch a19 (a18 j) (sw_K n j) ∧ (0 < j → a16 j = nI (sw_FL j))
def sw_TM (n : Nat) (a17 : Nat → Int32) : Prop := ∀ j, j < n → a17 j = sw_FM j
def sw_cf (n j l : Nat) : Int32 := match (sw_K n j).find? (fun c => sw_FL c == l) with
  | some c => nI c
  | none => -1
theorem sw_fl27 : ∀ c, c < 22 → sw_FL c < 27 := by decide +kernel
theorem sw_fkp : ∀ j, j < 22 → ∀ c, c ∈ sw_FK j → 0 < c ∧ c < 22 := by decide +kernel
theorem sw_k_mem {n j c : Nat} (hj : j < 22) (h : c ∈ sw_K n j) : 0 < c ∧ c < 22 ∧ c < n := by
  unfold sw_K at h
  rw [List.mem_filter, decide_eq_true_eq] at h
  have g := sw_fkp j hj c h.1
  exact ⟨g.1, g.2, h.2⟩
theorem sw_cf_loop {a16 a19 : Nat → Int32} {e : Nat} (he : e < 27) : ∀ (l : List Nat) (h : Int32), sw_Ch a19 h l → (∀ c, c ∈ l → c < 22 ∧ a16 c = nI (sw_FL c)) → ∀ {post : Int32 → Prop} {rm nt sk rc nc wc tc mt sd : Int32} {a1 a2 a3 a4 a5 a6 a7 a8 a9 a10 a11 a12 a13 a14 a15 a17 a18 a20 a21 a22 : Nat → Int32}, post (match l.find? (fun c => sw_FL c == e) with | some c => nI c | none => -1) → wX_childOf_7 post (nI e) rm nt sk rc nc wc tc mt sd a1 a2 a3 a4 a5 a6 a7 a8 a9 a10 a11 a12 a13 a14 a15 a16 a17 a18 a19 a20 a21 a22 (l.length + 1) h
  | [], h, hc, _ => fun H => by
    rw [show h = -1 from hc]
    exact br_t (by decide) H
  | c :: l, h, hc, hl => fun H => by
    obtain ⟨h22, ha⟩ := hl c List.mem_cons_self
    have h27 := sw_fl27 c h22
    have hcl : (nI c).toNatClampNeg = c := nI_clamp (by omega)
    rw [hc.1]
    by_cases g : sw_FL c = e
    · have ef : (c :: l).find? (fun c => sw_FL c == e) = some c := by simp [List.find?, g]
      rw [ef] at H
      exact br_f (nI_pos (by omega)) ⟨pk_in c 100 (by omega), br_t (by rw [hcl, ha, g]) H⟩
    · have ef : (c :: l).find? (fun c => sw_FL c == e) = l.find? (fun c => sw_FL c == e) := by
        have hb : (sw_FL c == e) = false := beq_eq_false_iff_ne.mpr g
        simp [List.find?, hb]
      rw [ef] at H
      exact br_f (nI_pos (by omega)) ⟨pk_in c 100 (by omega), br_f (by rw [hcl, ha, nI_eq (by omega) (by omega)]; exact g) ⟨pk_in c 100 (by omega), nm_r (by rw [hcl]) (sw_cf_loop he l (a19 c) hc.2 (fun x hx => hl x (List.mem_cons_of_mem _ hx)) H)⟩⟩
theorem sw_child {n j e : Nat} {a16 a18 a19 : Nat → Int32} (hT : sw_TR n a16 a18 a19) (hn : n ≤ 22) (hj : j < n) (he : e < 27) {post : Int32 → Prop} {rm nt sk rc nc wc tc mt sd : Int32} {a1 a2 a3 a4 a5 a6 a7 a8 a9 a10 a11 a12 a13 a14 a15 a17 a20 a21 a22 : Nat → Int32} (H : post (sw_cf n j e)) : wpX_childOf post (rm, nt, sk, rc, nc, wc, tc, mt, sd, a1, a2, a3, a4, a5, a6, a7, a8, a9, a10, a11, a12, a13, a14, a15, a16, a17, a18, a19, a20, a21, a22) (nI j) (nI e) := by
  refine And.intro (pk_in j 100 (by omega)) (nm_r (e' := a18 j) (by rw [nI_clamp (by omega)]) (Exists.intro ((sw_K n j).length + 1) ?_))
  refine sw_cf_loop he (sw_K n j) (a18 j) (hT j hj).1 (fun c hc => ?_) H
  have g := sw_k_mem (by omega) hc
  exact ⟨g.2.1, (hT c g.2.2).2 g.1⟩
abbrev sw_hOK (n p e : Nat) : Prop := sw_FL n = e ∧ sw_K (n + 1) p = n :: sw_K n p ∧ sw_K (n + 1) n = [] ∧ ∀ j, j < n → j ≠ p → sw_K (n + 1) j = sw_K n j
theorem sw_tr_hang {n p e : Nat} {a16 a18 a19 : Nat → Int32} (hT : sw_TR n a16 a18 a19) (hn : n < 22) (hp : p < n) (hO : sw_hOK n p e) : sw_TR (n + 1) (upd a16 n (nI e)) (upd (upd a18 n (-1)) p (nI n)) (upd a19 n (a18 p)) := by
  obtain ⟨o1, o2, o3, o4⟩ := hO
  have hout : ∀ j, j < n → n ∉ sw_K n j := fun j hj z => by
    have := (sw_k_mem (by omega) z).2.2
    omega
  intro j hj
  by_cases e1 : j = n
  · rw [e1, o3, pk_un (show n ≠ p by omega), pk_us, pk_us, o1]
    exact ⟨rfl, fun _ => rfl⟩
  · have hjn : j < n := by omega
    obtain ⟨t1, t2⟩ := hT j hjn
    rw [pk_un (f := a16) e1]
    refine ⟨?_, t2⟩
    by_cases e2 : j = p
    · rw [e2, o2, pk_us]
      refine ⟨rfl, ?_⟩
      rw [pk_us]
      rw [e2] at t1
      exact sw_ch_upd (hout p hp) t1
    · rw [o4 j hjn e2, pk_un e2, pk_un e1]
      exact sw_ch_upd (hout j hjn) t1
theorem sw_nar2 {x : Int32} (h : x = -1 ∨ ∃ u, u < 100 ∧ x = nI u) : vp_nar .byte x = x := by
  rw [vp_nar_byte]
  rcases h with rfl | ⟨u, hu, rfl⟩
  · decide
  · exact sw_b8 u (by omega)
theorem sw_hang {n p e : Nat} {a16 a17 a18 a19 : Nat → Int32} (hT : sw_TR n a16 a18 a19) (hn : n < 22) (hp : p < n) (he : e < 27) {post : Int32 → St1 → Prop} {rm nt sk rc wc tc mt sd : Int32} {a1 a2 a3 a4 a5 a6 a7 a8 a9 a10 a11 a12 a13 a14 a15 a20 a21 a22 : Nat → Int32}
    (H : post (nI n) (rm, nt, sk, rc, nI (n + 1), wc, tc, mt, sd, a1, a2, a3, a4, a5, a6, a7, a8, a9, a10, a11, a12, a13, a14, a15, upd a16 n (nI e), upd a17 n (-1), upd (upd a18 n (-1)) p (nI n), upd a19 n (a18 p), a20, a21, a22)) : wpX_hang post (rm, nt, sk, rc, nI n, wc, tc, mt, sd, a1, a2, a3, a4, a5, a6, a7, a8, a9, a10, a11, a12, a13, a14, a15, a16, a17, a18, a19, a20, a21, a22) (nI p) (nI e) := by
  have hcn : (nI n).toNatClampNeg = n := nI_clamp (by omega)
  have hcp : (nI p).toNatClampNeg = p := nI_clamp (by omega)
  have hin : vp_in (nI n) 100 := pk_in n 100 (by omega)
  have hip : vp_in (nI p) 100 := pk_in p 100 (by omega)
  have hv : vp_nar .byte (a18 p) = a18 p := sw_nar2 (sw_ch_hd (hT p hp).1 (fun x hx => by have := (sw_k_mem (by omega) hx).2.1; omega))
  have e16 : upd a16 (nI n).toNatClampNeg (nI e).toInt8.toInt32 = upd a16 n (nI e) := by rw [hcn, sw_b8 e (by omega)]
  have e17 : upd a17 (nI n).toNatClampNeg (-1) = upd a17 n (-1) := by rw [hcn]
  have e18 : upd a18 (nI n).toNatClampNeg (-1) = upd a18 n (-1) := by rw [hcn]
  have e19 : upd a19 (nI n).toNatClampNeg (vp_nar .byte (upd a18 n (-1) (nI p).toNatClampNeg)) = upd a19 n (a18 p) := by rw [hcn, hcp, pk_un (show p ≠ n by omega), hv]
  have e18b : upd (upd a18 n (-1)) (nI p).toNatClampNeg (nI n).toInt8.toInt32 = upd (upd a18 n (-1)) p (nI n) := by rw [hcp, sw_b8 n (by omega)]
  exact nm_r (nI_1 n) ⟨hin, nm_r e16 ⟨hin, nm_r e17 ⟨hin, nm_r e18 ⟨hip, hin, nm_r e19 ⟨hip, nm_r e18b H⟩⟩⟩⟩⟩
/-! is a word written: one or two letters -/
theorem sw_d27 {a : Nat} (ha : a < 2 ^ 31) : nI a / 27 = nI (a / 27) := pk_div (d := 27) ha (by decide) (by decide)
theorem sw_r27 {a : Nat} (ha : a < 2 ^ 31) : nI a - nI a / 27 * 27 = nI (a % 27) := pk_rem (d := 27) ha (by decide) (by decide)
theorem sw_iw_z {post : Int32 → Prop} {f k : Nat} {x2 : Int32} {rm nt sk rc nc wc tc mt sd : Int32} {a1 a2 a3 a4 a5 a6 a7 a8 a9 a10 a11 a12 a13 a14 a15 a16 a17 a18 a19 a20 a21 a22 : Nat → Int32} (hk : 0 < k) (hk4 : k < 4) (H : wX_isWritten_20 post rm nt sk rc nc wc tc mt sd a1 a2 a3 a4 a5 a6 a7 a8 a9 a10 a11 a12 a13 a14 a15 a16 a17 a18 a19 a20 a21 a22 f 1 (nI 0) (nI (k + 1))) : wX_isWritten_20 post rm nt sk rc nc wc tc mt sd a1 a2 a3 a4 a5 a6 a7 a8 a9 a10 a11 a12 a13 a14 a15 a16 a17 a18 a19 a20 a21 a22 (f + 1) x2 (nI 0) (nI k) := by
  refine br_f (nI_ge (b := 4) hk4 (by decide)) ⟨by decide, nm_r (sw_r27 (a := 0) (by decide)) ⟨by decide, nm_r (sw_d27 (a := 0) (by decide)) (br_t (by decide) (br_t (by decide) (br_f (nI_ne0 hk (by omega)) (nm_r (nI_1 k) H))))⟩⟩
theorem sw_iw_s {post : Int32 → Prop} {f k a : Nat} {rm nt sk rc nc wc tc mt sd : Int32} {a1 a2 a3 a4 a5 a6 a7 a8 a9 a10 a11 a12 a13 a14 a15 a16 a17 a18 a19 a20 a21 a22 : Nat → Int32} (ha : a < 2 ^ 31) (h0 : 0 < a % 27) (hk4 : k < 4) (H : wX_isWritten_20 post rm nt sk rc nc wc tc mt sd a1 a2 a3 a4 a5 a6 a7 a8 a9 a10 a11 a12 a13 a14 a15 a16 a17 a18 a19 a20 a21 a22 f 0 (nI (a / 27)) (nI (k + 1))) : wX_isWritten_20 post rm nt sk rc nc wc tc mt sd a1 a2 a3 a4 a5 a6 a7 a8 a9 a10 a11 a12 a13 a14 a15 a16 a17 a18 a19 a20 a21 a22 (f + 1) 0 (nI a) (nI k) := by
  have h27 : a % 27 < 27 := Nat.mod_lt _ (by decide)
  refine br_f (nI_ge (b := 4) hk4 (by decide)) ⟨by decide, nm_r (sw_r27 ha) ⟨by decide, nm_r (sw_d27 ha) (br_f (nI_nle h0 (by omega)) (br_t rfl (br_f (nI_ne0 h0 (by omega)) (nm_r (nI_1 k) H))))⟩⟩
theorem sw_written {N : Nat} (h1 : 0 < N % 27) (h2 : N < 729) {post : Int32 → Prop} {rm nt sk rc nc wc tc mt sd : Int32} {a1 a2 a3 a4 a5 a6 a7 a8 a9 a10 a11 a12 a13 a14 a15 a16 a17 a18 a19 a20 a21 a22 : Nat → Int32} (H : post 1) : wpX_isWritten post (rm, nt, sk, rc, nc, wc, tc, mt, sd, a1, a2, a3, a4, a5, a6, a7, a8, a9, a10, a11, a12, a13, a14, a15, a16, a17, a18, a19, a20, a21, a22) (nI N) := by
  have h0 : 0 < N := by
    rcases Nat.eq_zero_or_pos N with z | z
    · rw [z] at h1
      exact absurd h1 (by decide)
    · exact z
  have hend : ∀ {x2 : Int32}, wX_isWritten_20 post rm nt sk rc nc wc tc mt sd a1 a2 a3 a4 a5 a6 a7 a8 a9 a10 a11 a12 a13 a14 a15 a16 a17 a18 a19 a20 a21 a22 3 x2 (nI 0) (nI 2) := sw_iw_z (by decide) (by decide) (sw_iw_z (by decide) (by decide) (br_t (by decide) H))
  refine br_f (nI_nlt (b := 1) h0 (by omega)) (br_t (nI_le (b := 531440) (by omega) (by decide)) (Exists.intro 5 (sw_iw_s (k := 0) (by omega) h1 (by decide) ?_)))
  by_cases c : N / 27 = 0
  · rw [c]
    exact sw_iw_z (by decide) (by decide) hend
  · have e : N / 27 / 27 = 0 := by omega
    refine sw_iw_s (k := 1) (by omega) (by omega) (by decide) ?_
    rw [e]
    exact hend
theorem sw_meaning {post : Int32 → Prop} {k : Nat} {rm nt sk rc nc wc tc mt sd : Int32} {a1 a2 a3 a4 a5 a6 a7 a8 a9 a10 a11 a12 a13 a14 a15 a16 a17 a18 a19 a20 a21 a22 : Nat → Int32} (hk : k ≤ 5 ∨ (10 ≤ k ∧ k ≤ 13) ∨ (20 ≤ k ∧ k ≤ 27) ∨ k = 30) (H : post 1) : wpX_isMeaning post (rm, nt, sk, rc, nc, wc, tc, mt, sd, a1, a2, a3, a4, a5, a6, a7, a8, a9, a10, a11, a12, a13, a14, a15, a16, a17, a18, a19, a20, a21, a22) (nI k) := by
  refine br_f (nI_pos (by omega)) ?_
  by_cases c5 : k ≤ 5
  · exact br_t (nI_le (b := 5) c5 (by decide)) H
  · refine br_f (nI_ge (a := 5) (by omega) (by omega)) (br_f (nI_nlt (b := 10) (by omega) (by omega)) ?_)
    by_cases c13 : k ≤ 13
    · exact br_t (nI_le (b := 13) c13 (by decide)) H
    · refine br_f (nI_ge (a := 13) (by omega) (by omega)) (br_f (nI_nlt (b := 20) (by omega) (by omega)) ?_)
      by_cases c27 : k ≤ 27
      · exact br_t (nI_le (b := 27) c27 (by decide)) H
      · exact br_f (nI_ge (a := 27) (by omega) (by omega)) (br_t (by rw [show k = 30 by omega]; rfl) H)
/-! the end of word: a fresh word -/
theorem sw_fresh {N m w : Nat} {x3 : Int32} (hx : x3 = -1) (hw : w < 24) {post : Int32 → St1 → Prop} {rm nt sk rc nc tc mt sd : Int32} {a1 a2 a3 a4 a5 a6 a7 a8 a9 a10 a11 a12 a13 a14 a15 a16 a17 a18 a19 a20 a21 a22 : Nat → Int32} (H : wX_word_105 post (nI N) (nI m) rm nt sk rc nc (nI (w + 1)) tc mt sd a1 a2 a3 a4 a5 a6 a7 a8 a9 a10 a11 a12 a13 a14 a15 a16 a17 a18 a19 a20 a21 a22) : wX_word_53 post (nI N) (nI m) x3 rm nt sk rc nc (nI w) tc mt sd a1 a2 a3 a4 a5 a6 a7 a8 a9 a10 a11 a12 a13 a14 a15 a16 a17 a18 a19 a20 a21 a22 := by
  rw [hx]
  exact br_t (by decide) (br_f (by decide) (br_t (nI_lt (b := 24) hw (by decide)) (br_f (by decide) (nm_r (nI_1 w) H))))
/-- one letter, new under the root -/
theorem sw_wordA {n w e m : Nat} {a16 a17 a18 a19 : Nat → Int32} (hT : sw_TR n a16 a18 a19) (hM : sw_TM n a17) (hn0 : 0 < n) (hn : n < 22) (hw : w < 24) (he0 : 0 < e) (he : e < 27) (hm : m ≤ 5 ∨ (10 ≤ m ∧ m ≤ 13) ∨ (20 ≤ m ∧ m ≤ 27) ∨ m = 30)
    (hf : sw_cf n 0 e = -1) (hO : sw_hOK n 0 e) (hFM : sw_FM n = nI m) {post : Int32 → St1 → Prop} {rm nt sk rc tc mt sd : Int32} {a1 a2 a3 a4 a5 a6 a7 a8 a9 a10 a11 a12 a13 a14 a15 a20 a21 a22 : Nat → Int32}
    (H : ∀ a16' a17' a18' a19', sw_TR (n + 1) a16' a18' a19' → sw_TM (n + 1) a17' → post (nI (w + 1)) (rm, nt, sk, rc, nI (n + 1), nI (w + 1), tc, mt, sd, a1, a2, a3, a4, a5, a6, a7, a8, a9, a10, a11, a12, a13, a14, a15, a16', a17', a18', a19', a20, a21, a22)) : wpX_word post (rm, nt, sk, rc, nI n, nI w, tc, mt, sd, a1, a2, a3, a4, a5, a6, a7, a8, a9, a10, a11, a12, a13, a14, a15, a16, a17, a18, a19, a20, a21, a22) (nI e) (nI m) := by
  have em : e % 27 = e := Nat.mod_eq_of_lt he
  have ed : e / 27 = 0 := Nat.div_eq_of_lt he
  have r1 : nI e - nI e / 27 * 27 = nI e := by rw [sw_r27 (by omega), em]
  have d1 : nI e / 27 = nI 0 := by rw [sw_d27 (by omega), ed]
  have hne : ¬ nI e ≤ 0 := nI_nle he0 (by omega)
  have hM' : sw_TM (n + 1) (upd (upd a17 n (-1)) n (nI m)) := by
    intro j hj
    by_cases g : j = n
    · rw [g, pk_us, hFM]
    · rw [pk_un g, pk_un g]
      exact hM j (by omega)
  have hcn : (nI n).toNatClampNeg = n := nI_clamp (by omega)
  unfold wpX_word
  refine sw_written (by omega) (by omega) (br_f (by decide) (sw_meaning hm (br_f (by decide) (Exists.intro 2 ?_))))
  refine br_f hne (br_f (by decide) ⟨by decide, ?_⟩)
  rw [r1]
  refine sw_child (j := 0) hT (by omega) hn0 he ⟨by decide, nm_r d1 ?_⟩
  rw [hf]
  refine br_t (by decide) (sw_fresh rfl hw ?_)
  unfold wX_word_105
  refine Exists.intro 2 (br_f hne ⟨by decide, nm_r r1 (sw_child (j := 0) hT (by omega) hn0 he ?_)⟩)
  rw [hf]
  refine br_f (by decide) (sw_hang (p := 0) hT hn hn0 he ⟨by decide, nm_r d1 (br_t (by decide) ⟨pk_in n 100 (by omega), nm_r (e' := upd (upd a17 n (-1)) n (nI m)) (by rw [hcn, sw_b8 m (by omega)]) ?_⟩)⟩)
  exact H _ _ _ _ (sw_tr_hang hT hn hn0 hO) hM'
/-- two letters, the first one known -/
theorem sw_wordB {n w c d g m : Nat} {a16 a17 a18 a19 : Nat → Int32} (hT : sw_TR n a16 a18 a19) (hM : sw_TM n a17) (hn0 : 0 < n) (hn : n < 22) (hw : w < 24) (hc0 : 0 < c) (hc : c < 27) (hd0 : 0 < d) (hd : d < 27) (hm : m ≤ 5 ∨ (10 ≤ m ∧ m ≤ 13) ∨ (20 ≤ m ∧ m ≤ 27) ∨ m = 30)
    (hg : g < n) (hf : sw_cf n 0 c = nI g) (hf2 : sw_cf n g d = -1) (hO : sw_hOK n g d) (hFM : sw_FM n = nI m) {post : Int32 → St1 → Prop} {rm nt sk rc tc mt sd : Int32} {a1 a2 a3 a4 a5 a6 a7 a8 a9 a10 a11 a12 a13 a14 a15 a20 a21 a22 : Nat → Int32}
    (H : ∀ a16' a17' a18' a19', sw_TR (n + 1) a16' a18' a19' → sw_TM (n + 1) a17' → post (nI (w + 1)) (rm, nt, sk, rc, nI (n + 1), nI (w + 1), tc, mt, sd, a1, a2, a3, a4, a5, a6, a7, a8, a9, a10, a11, a12, a13, a14, a15, a16', a17', a18', a19', a20, a21, a22)) : wpX_word post (rm, nt, sk, rc, nI n, nI w, tc, mt, sd, a1, a2, a3, a4, a5, a6, a7, a8, a9, a10, a11, a12, a13, a14, a15, a16, a17, a18, a19, a20, a21, a22) (nI (c + 27 * d)) (nI m) := by
  have em : (c + 27 * d) % 27 = c := by omega
  have ed : (c + 27 * d) / 27 = d := by omega
  have em2 : d % 27 = d := Nat.mod_eq_of_lt hd
  have ed2 : d / 27 = 0 := Nat.div_eq_of_lt hd
  have r1 : nI (c + 27 * d) - nI (c + 27 * d) / 27 * 27 = nI c := by rw [sw_r27 (by omega), em]
  have d1 : nI (c + 27 * d) / 27 = nI d := by rw [sw_d27 (by omega), ed]
  have r2 : nI d - nI d / 27 * 27 = nI d := by rw [sw_r27 (by omega), em2]
  have d2 : nI d / 27 = nI 0 := by rw [sw_d27 (by omega), ed2]
  have hne : ¬ nI (c + 27 * d) ≤ 0 := nI_nle (by omega) (by omega)
  have hne2 : ¬ nI d ≤ 0 := nI_nle hd0 (by omega)
  have hM' : sw_TM (n + 1) (upd (upd a17 n (-1)) n (nI m)) := by
    intro j hj
    by_cases g : j = n
    · rw [g, pk_us, hFM]
    · rw [pk_un g, pk_un g]
      exact hM j (by omega)
  have hcn : (nI n).toNatClampNeg = n := nI_clamp (by omega)
  unfold wpX_word
  refine sw_written (by omega) (by omega) (br_f (by decide) (sw_meaning hm (br_f (by decide) (Exists.intro 3 ?_))))
  refine br_f hne (br_f (by decide) ⟨by decide, ?_⟩)
  rw [r1]
  refine sw_child (j := 0) hT (by omega) hn0 hc ⟨by decide, nm_r d1 ?_⟩
  rw [hf]
  refine br_f hne2 (br_f (nI_pos (by omega)) ⟨by decide, ?_⟩)
  rw [r2]
  refine sw_child (j := g) hT (by omega) hg hd ⟨by decide, nm_r d2 ?_⟩
  rw [hf2]
  refine br_t (by decide) (sw_fresh rfl hw ?_)
  unfold wX_word_105
  refine Exists.intro 3 (br_f hne ⟨by decide, nm_r r1 (sw_child (j := 0) hT (by omega) hn0 hc ?_)⟩)
  rw [hf]
  refine br_t (nI_pos' (by omega)) ⟨by decide, nm_r d1 (br_f hne2 ⟨by decide, nm_r r2 (sw_child (j := g) hT (by omega) hg hd ?_)⟩)⟩
  rw [hf2]
  refine br_f (by decide) (sw_hang (p := g) hT hn hg hd ⟨by decide, nm_r d2 (br_t (by decide) ⟨pk_in n 100 (by omega), nm_r (e' := upd (upd a17 n (-1)) n (nI m)) (by rw [hcn, sw_b8 m (by omega)]) ?_⟩)⟩)
  exact H _ _ _ _ (sw_tr_hang hT hn hg hO) hM'
/-- two letters, both new -/
theorem sw_wordC {n w c d m : Nat} {a16 a17 a18 a19 : Nat → Int32} (hT : sw_TR n a16 a18 a19) (hM : sw_TM n a17) (hn0 : 0 < n) (hn : n + 1 < 22) (hw : w < 24) (hc0 : 0 < c) (hc : c < 27) (hd0 : 0 < d) (hd : d < 27) (hm : m ≤ 5 ∨ (10 ≤ m ∧ m ≤ 13) ∨ (20 ≤ m ∧ m ≤ 27) ∨ m = 30)
    (hf : sw_cf n 0 c = -1) (hO : sw_hOK n 0 c) (hf2 : sw_cf (n + 1) n d = -1) (hO2 : sw_hOK (n + 1) n d) (hFM0 : sw_FM n = -1) (hFM : sw_FM (n + 1) = nI m) {post : Int32 → St1 → Prop} {rm nt sk rc tc mt sd : Int32} {a1 a2 a3 a4 a5 a6 a7 a8 a9 a10 a11 a12 a13 a14 a15 a20 a21 a22 : Nat → Int32}
    (H : ∀ a16' a17' a18' a19', sw_TR (n + 2) a16' a18' a19' → sw_TM (n + 2) a17' → post (nI (w + 1)) (rm, nt, sk, rc, nI (n + 2), nI (w + 1), tc, mt, sd, a1, a2, a3, a4, a5, a6, a7, a8, a9, a10, a11, a12, a13, a14, a15, a16', a17', a18', a19', a20, a21, a22)) : wpX_word post (rm, nt, sk, rc, nI n, nI w, tc, mt, sd, a1, a2, a3, a4, a5, a6, a7, a8, a9, a10, a11, a12, a13, a14, a15, a16, a17, a18, a19, a20, a21, a22) (nI (c + 27 * d)) (nI m) := by
  have em : (c + 27 * d) % 27 = c := by omega
  have ed : (c + 27 * d) / 27 = d := by omega
  have em2 : d % 27 = d := Nat.mod_eq_of_lt hd
  have ed2 : d / 27 = 0 := Nat.div_eq_of_lt hd
  have r1 : nI (c + 27 * d) - nI (c + 27 * d) / 27 * 27 = nI c := by rw [sw_r27 (by omega), em]
  have d1 : nI (c + 27 * d) / 27 = nI d := by rw [sw_d27 (by omega), ed]
  have r2 : nI d - nI d / 27 * 27 = nI d := by rw [sw_r27 (by omega), em2]
  have d2 : nI d / 27 = nI 0 := by rw [sw_d27 (by omega), ed2]
  have hne : ¬ nI (c + 27 * d) ≤ 0 := nI_nle (by omega) (by omega)
  have hne2 : ¬ nI d ≤ 0 := nI_nle hd0 (by omega)
  have hM' : sw_TM (n + 2) (upd (upd (upd a17 n (-1)) (n + 1) (-1)) (n + 1) (nI m)) := by
    intro j hj
    by_cases g : j = n + 1
    · rw [g, pk_us, hFM]
    · rw [pk_un g, pk_un g]
      by_cases g2 : j = n
      · rw [g2, pk_us, hFM0]
      · rw [pk_un g2]
        exact hM j (by omega)
  have hcn : (nI (n + 1)).toNatClampNeg = n + 1 := nI_clamp (by omega)
  have hT' := sw_tr_hang hT (by omega) hn0 hO
  unfold wpX_word
  refine sw_written (by omega) (by omega) (br_f (by decide) (sw_meaning hm (br_f (by decide) (Exists.intro 2 ?_))))
  refine br_f hne (br_f (by decide) ⟨by decide, ?_⟩)
  rw [r1]
  refine sw_child (j := 0) hT (by omega) hn0 hc ⟨by decide, nm_r d1 ?_⟩
  rw [hf]
  refine br_f hne2 (br_t (by decide) (sw_fresh rfl hw ?_))
  unfold wX_word_105
  refine Exists.intro 3 (br_f hne ⟨by decide, nm_r r1 (sw_child (j := 0) hT (by omega) hn0 hc ?_)⟩)
  rw [hf]
  refine br_f (by decide) (sw_hang (p := 0) hT (by omega) hn0 hc ⟨by decide, nm_r d1 (br_f hne2 ⟨by decide, nm_r r2 (sw_child (j := n) hT' (by omega) (by omega) hd ?_)⟩)⟩)
  rw [hf2]
  refine br_f (by decide) (sw_hang (p := n) hT' hn (by omega) hd ⟨by decide, nm_r d2 (br_t (by decide) ⟨pk_in (n + 1) 100 (by omega), nm_r (e' := upd (upd (upd a17 n (-1)) (n + 1) (-1)) (n + 1) (nI m)) (by rw [hcn, sw_b8 m (by omega)]) ?_⟩)⟩)
  exact H _ _ _ _ (sw_tr_hang hT' hn (by omega) hO2) hM'
end
section
/-! typing -/
theorem sw_type {txt : List Nat} {c : Nat} {a20 : Nat → Int32} (hl : txt.length < 30) (hc : c = 32 ∨ (97 ≤ c ∧ c ≤ 122)) (hs : sw_St a20 txt) {post : Int32 → St1 → Prop} {rm nt sk rc nc wc mt sd : Int32} {a1 a2 a3 a4 a5 a6 a7 a8 a9 a10 a11 a12 a13 a14 a15 a16 a17 a18 a19 a21 a22 : Nat → Int32}
    (H : ∀ a20', sw_St a20' (txt ++ [c]) → post 1 (rm, nt, sk, rc, nc, wc, nI (txt ++ [c]).length, mt, sd, a1, a2, a3, a4, a5, a6, a7, a8, a9, a10, a11, a12, a13, a14, a15, a16, a17, a18, a19, a20', a21, a22)) : wpX_type post (rm, nt, sk, rc, nc, wc, nI txt.length, mt, sd, a1, a2, a3, a4, a5, a6, a7, a8, a9, a10, a11, a12, a13, a14, a15, a16, a17, a18, a19, a20, a21, a22) (nI c) := by
  have h29 : wX_type_29 post (nI c) rm nt sk rc nc wc (nI txt.length) mt sd a1 a2 a3 a4 a5 a6 a7 a8 a9 a10 a11 a12 a13 a14 a15 a16 a17 a18 a19 a20 a21 a22 := And.intro (pk_in txt.length 30 hl) (nm_r (e' := upd a20 txt.length (nI c)) (by rw [nI_clamp (by omega), sw_b8 c (by omega)]) (nm_r (e' := nI (txt ++ [c]).length) (by rw [List.length_append, List.length_singleton]; exact nI_1 _) (H _ (sw_st_push c hs))))
  refine br_f (nI_ge (b := 30) hl (by decide)) ?_
  rcases hc with e | ⟨h1, h2⟩
  · exact br_t (by rw [e]; rfl) h29
  · exact br_f (fun z => by have := (nI_eq (b := 32) (by omega) (by omega)).mp z; omega) (br_f (nI_nlt (b := 97) h1 (by omega)) (br_t (nI_le (b := 122) h2 (by decide)) h29))
def sw_to (z v x q : Nat) : List Nat := [z, 97 + x] ++ (if v = 3 then [32, 104, 97 + q] else [])
def sw_tz (v : Nat) : Nat := if v = 0 then 103 else 104
theorem sw_a97 (x : Nat) : (97 : Int32) + nI x = nI (97 + x) := nI_add 97 x
theorem sw_t120 {txt : List Nat} {z v x q : Nat} {a20 : Nat → Int32} (hl : txt.length ≤ 20) (hz : z = 103 ∨ z = 104) (hv : v < 6) (hx : x < 8) (hq : q < 8) (hs : sw_St a20 txt) {post : Int32 → St1 → Prop} {rm nt sk rc nc wc mt sd : Int32} {a1 a2 a3 a4 a5 a6 a7 a8 a9 a10 a11 a12 a13 a14 a15 a16 a17 a18 a19 a21 a22 : Nat → Int32}
    (H : ∀ a20', sw_St a20' (txt ++ sw_to z v x q) → post 1 (rm, nt, sk, rc, nc, wc, nI (txt ++ sw_to z v x q).length, mt, sd, a1, a2, a3, a4, a5, a6, a7, a8, a9, a10, a11, a12, a13, a14, a15, a16, a17, a18, a19, a20', a21, a22)) : wL_types_120 post (nI v) (nI x) (nI q) (nI z) rm nt sk rc nc wc (nI txt.length) mt sd a1 a2 a3 a4 a5 a6 a7 a8 a9 a10 a11 a12 a13 a14 a15 a16 a17 a18 a19 a20 a21 a22 := by
  unfold wL_types_120
  refine sw_type (by omega) (by omega) hs (fun b1 h1 => br_f (by decide) ?_)
  rw [sw_a97 x]
  refine sw_type (c := 97 + x) (by simp only [List.length_append, List.length_singleton]; omega) (by omega) h1 (fun b2 h2 => br_f (by decide) ?_)
  by_cases c : v = 3
  · have e : txt ++ sw_to z v x q = ((((txt ++ [z]) ++ [97 + x]) ++ [32]) ++ [104]) ++ [97 + q] := by simp [sw_to, c]
    rw [e] at H
    refine br_t (by rw [c]; rfl) ?_
    refine sw_type (c := 32) (by simp only [List.length_append, List.length_singleton]; omega) (by omega) h2 (fun b3 h3 => br_f (by decide) ?_)
    refine sw_type (c := 104) (by simp only [List.length_append, List.length_singleton]; omega) (by omega) h3 (fun b4 h4 => br_f (by decide) ?_)
    rw [sw_a97 q]
    exact sw_type (c := 97 + q) (by simp only [List.length_append, List.length_singleton]; omega) (by omega) h4 (fun b5 h5 => br_f (by decide) (H b5 h5))
  · have e : txt ++ sw_to z v x q = (txt ++ [z]) ++ [97 + x] := by simp [sw_to, c]
    rw [e] at H
    exact br_f (fun z => c ((nI_eq (b := 3) (by omega) (by omega)).mp z)) (H b2 h2)
theorem sw_t108 {txt : List Nat} {v x q : Nat} {a20 : Nat → Int32} (hl : txt.length ≤ 20) (hv : v < 6) (hx : x < 8) (hq : q < 8) (hs : sw_St a20 txt) {post : Int32 → St1 → Prop} {rm nt sk rc nc wc mt sd : Int32} {a1 a2 a3 a4 a5 a6 a7 a8 a9 a10 a11 a12 a13 a14 a15 a16 a17 a18 a19 a21 a22 : Nat → Int32}
    (H : ∀ a20', sw_St a20' (txt ++ sw_to (sw_tz v) v x q) → post 1 (rm, nt, sk, rc, nc, wc, nI (txt ++ sw_to (sw_tz v) v x q).length, mt, sd, a1, a2, a3, a4, a5, a6, a7, a8, a9, a10, a11, a12, a13, a14, a15, a16, a17, a18, a19, a20', a21, a22)) : wL_types_108 post (nI v) (nI x) (nI q) rm nt sk rc nc wc (nI txt.length) mt sd a1 a2 a3 a4 a5 a6 a7 a8 a9 a10 a11 a12 a13 a14 a15 a16 a17 a18 a19 a20 a21 a22 := by
  unfold sw_tz at H
  by_cases c : v = 0
  · rw [if_pos c] at H
    exact br_t (by rw [c]; rfl) (sw_t120 (z := 103) hl (by omega) hv hx hq hs H)
  · rw [if_neg c] at H
    exact br_f (fun z => c ((nI_eq (b := 0) (by omega) (by omega)).mp z)) (sw_t120 (z := 104) hl (by omega) hv hx hq hs H)
theorem sw_t72 {txt : List Nat} {v x q : Nat} {x4 : Int32} {a20 : Nat → Int32} (hl : txt.length ≤ 15) (hv : v < 6) (hx : x < 8) (hq : q < 8) (hs : sw_St a20 txt) {post : Int32 → St1 → Prop} {rm nt sk rc nc wc mt sd : Int32} {a1 a2 a3 a4 a5 a6 a7 a8 a9 a10 a11 a12 a13 a14 a15 a16 a17 a18 a19 a21 a22 : Nat → Int32}
    (H : ∀ mid a20', (mid = [] ∨ mid = [32, 122, 32]) → sw_St a20' ((txt ++ mid) ++ sw_to (sw_tz v) v x q) → post 1 (rm, nt, sk, rc, nc, wc, nI ((txt ++ mid) ++ sw_to (sw_tz v) v x q).length, mt, sd, a1, a2, a3, a4, a5, a6, a7, a8, a9, a10, a11, a12, a13, a14, a15, a16, a17, a18, a19, a20', a21, a22)) : wL_types_72 post (nI v) (nI x) (nI q) x4 rm nt sk rc nc wc (nI txt.length) mt sd a1 a2 a3 a4 a5 a6 a7 a8 a9 a10 a11 a12 a13 a14 a15 a16 a17 a18 a19 a20 a21 a22 := by
  by_cases c : (x4 &&& 4) = 0
  · have H' := fun a20' => H [] a20' (Or.inl rfl)
    rw [List.append_nil] at H'
    exact br_t c (sw_t108 (by omega) hv hx hq hs H')
  · have H' := fun a20' => H [32, 122, 32] a20' (Or.inr rfl)
    have e : txt ++ [32, 122, 32] = ((txt ++ [32]) ++ [122]) ++ [32] := by simp
    rw [e] at H'
    refine br_f c ?_
    refine sw_type (c := 32) (by omega) (by omega) hs (fun b1 h1 => br_f (by decide) ?_)
    refine sw_type (c := 122) (by simp only [List.length_append, List.length_singleton]; omega) (by omega) h1 (fun b2 h2 => br_f (by decide) ?_)
    refine sw_type (c := 32) (by simp only [List.length_append, List.length_singleton]; omega) (by omega) h2 (fun b3 h3 => br_f (by decide) ?_)
    exact sw_t108 (by simp only [List.length_append, List.length_singleton]; omega) hv hx hq h3 H'
theorem sw_t45 {txt : List Nat} {v x q : Nat} {x4 x5 : Int32} {a20 : Nat → Int32} (hl : txt.length ≤ 10) (hv : v < 6) (hx : x < 8) (hq : q < 8) (h5 : x5 = 0 → v = 0) (hs : sw_St a20 txt) {post : Int32 → St1 → Prop} {rm nt sk rc nc wc mt sd : Int32} {a1 a2 a3 a4 a5 a6 a7 a8 a9 a10 a11 a12 a13 a14 a15 a16 a17 a18 a19 a21 a22 : Nat → Int32}
    (H : ∀ vb mid a20', (vb = [97 + v, 32] ∨ (v = 0 ∧ vb = [])) → (mid = [] ∨ mid = [32, 122, 32]) → sw_St a20' (((txt ++ vb) ++ mid) ++ sw_to (sw_tz v) v x q) → post 1 (rm, nt, sk, rc, nc, wc, nI (((txt ++ vb) ++ mid) ++ sw_to (sw_tz v) v x q).length, mt, sd, a1, a2, a3, a4, a5, a6, a7, a8, a9, a10, a11, a12, a13, a14, a15, a16, a17, a18, a19, a20', a21, a22)) : wL_types_45 post (nI v) (nI x) (nI q) x4 x5 rm nt sk rc nc wc (nI txt.length) mt sd a1 a2 a3 a4 a5 a6 a7 a8 a9 a10 a11 a12 a13 a14 a15 a16 a17 a18 a19 a20 a21 a22 := by
  by_cases c : x5 = 0
  · have H' := fun mid a20' => H [] mid a20' (Or.inr ⟨h5 c, rfl⟩)
    rw [List.append_nil] at H'
    exact br_t c (sw_t72 (by omega) hv hx hq hs H')
  · have H' := fun mid a20' => H [97 + v, 32] mid a20' (Or.inl rfl)
    have e : txt ++ [97 + v, 32] = (txt ++ [97 + v]) ++ [32] := by simp
    rw [e] at H'
    refine br_f c ?_
    rw [sw_a97 v]
    refine sw_type (c := 97 + v) (by omega) (by omega) hs (fun b1 h1 => br_f (by decide) ?_)
    refine sw_type (c := 32) (by simp only [List.length_append, List.length_singleton]; omega) (by omega) h1 (fun b2 h2 => br_f (by decide) ?_)
    exact sw_t72 (by simp only [List.length_append, List.length_singleton]; omega) hv hx hq h2 H'
def sw_GT (v x q : Nat) (txt : List Nat) : Prop := ∃ pre vb mid : List Nat, (pre = [] ∨ pre = [122, 32]) ∧ (vb = [97 + v, 32] ∨ (v = 0 ∧ vb = [])) ∧ (mid = [] ∨ mid = [32, 122, 32]) ∧ txt = ((pre ++ vb) ++ mid) ++ sw_to (sw_tz v) v x q
theorem sw_t16 {v x q : Nat} {x4 z0 : Int32} {a20 : Nat → Int32} (hv : v < 6) (hx : x < 8) (hq : q < 8) (h5 : z0 = 0 → v = 0) {post : Int32 → St1 → Prop} {rm nt sk rc nc wc mt sd : Int32} {a1 a2 a3 a4 a5 a6 a7 a8 a9 a10 a11 a12 a13 a14 a15 a16 a17 a18 a19 a21 a22 : Nat → Int32}
    (H : ∀ txt a20', sw_GT v x q txt → sw_St a20' txt → post 1 (rm, nt, sk, rc, nc, wc, nI txt.length, mt, sd, a1, a2, a3, a4, a5, a6, a7, a8, a9, a10, a11, a12, a13, a14, a15, a16, a17, a18, a19, a20', a21, a22)) : wL_types_16 post (nI v) (nI x) (nI q) x4 z0 rm nt sk rc nc wc (nI 0) mt sd a1 a2 a3 a4 a5 a6 a7 a8 a9 a10 a11 a12 a13 a14 a15 a16 a17 a18 a19 a20 a21 a22 := by
  by_cases c : (x4 &&& 2) = 0
  · exact br_t c (sw_t45 (txt := []) (by decide) hv hx hq h5 (sw_st0 _) (fun vb mid a20' g1 g2 g3 => H _ a20' ⟨[], vb, mid, Or.inl rfl, g1, g2, rfl⟩ g3))
  · refine br_f c ?_
    refine sw_type (txt := []) (c := 122) (by decide) (by omega) (sw_st0 _) (fun b1 h1 => br_f (by decide) ?_)
    refine sw_type (c := 32) (by decide) (by omega) h1 (fun b2 h2 => br_f (by decide) ?_)
    exact sw_t45 (by decide) hv hx hq h5 h2 (fun vb mid a20' g1 g2 g3 => H _ a20' ⟨[122, 32], vb, mid, Or.inr rfl, g1, g2, rfl⟩ g3)
theorem sw_types {v x q : Nat} {p4 : Int32} (hv : v < 6) (hx : x < 8) (hq : q < 8) {post : Int32 → St1 → Prop} {rm nt sk rc nc wc mt sd : Int32} {a1 a2 a3 a4 a5 a6 a7 a8 a9 a10 a11 a12 a13 a14 a15 a16 a17 a18 a19 a20 a21 a22 : Nat → Int32}
    (H : ∀ txt a20', sw_GT v x q txt → sw_St a20' txt → post 1 (rm, nt, sk, rc, nc, wc, nI txt.length, mt, sd, a1, a2, a3, a4, a5, a6, a7, a8, a9, a10, a11, a12, a13, a14, a15, a16, a17, a18, a19, a20', a21, a22)) : wpL_types post (rm, nt, sk, rc, nc, wc, 0, mt, sd, a1, a2, a3, a4, a5, a6, a7, a8, a9, a10, a11, a12, a13, a14, a15, a16, a17, a18, a19, a20, a21, a22) (nI v) (nI x) (nI q) p4 := by
  by_cases c : v = 0
  · refine br_f (by rw [c]; decide) ?_
    by_cases d : (p4 &&& 1) = 0
    · exact br_t d (sw_t16 hv hx hq (fun _ => c) H)
    · exact br_f d (sw_t16 hv hx hq (fun _ => c) H)
  · exact br_t (nI_lt (a := 0) (by omega) (by omega)) (sw_t16 hv hx hq (fun z => absurd z (by decide)) H)
end
section
/-! entering what was typed -/
theorem sw_drop1 {T r : List Nat} {c i : Nat} (h : T.drop i = c :: r) : i < T.length ∧ T.getD i 0 = c ∧ T.drop (i + 1) = r := by
  have hlt : i < T.length := by
    apply Classical.byContradiction
    intro z
    rw [List.drop_of_length_le (by omega)] at h
    cases h
  have e := List.drop_eq_getElem_cons hlt
  rw [h] at e
  injection e with e1 e2
  refine ⟨hlt, ?_, e2.symm⟩
  rw [List.getD_eq_getElem?_getD, List.getElem?_eq_getElem hlt]
  exact e1.symm
theorem sw_drop0 {T : List Nat} {i : Nat} (h : T.drop i = []) : T.length ≤ i := List.drop_eq_nil_iff.mp h
def sw_km (m : Nat) (u : List Nat) : List Nat := if m = 30 then u else u ++ [m]
def sw_ka (m : Nat) (u : List Nat) (a21 : Nat → Int32) : Nat → Int32 := if m = 30 then a21 else upd a21 u.length (nI m)
theorem sw_kst {m : Nat} {u : List Nat} {a21 : Nat → Int32} (h : sw_St a21 u) : sw_St (sw_ka m u a21) (sw_km m u) := by
  unfold sw_ka sw_km
  split
  · exact h
  · exact sw_st_push m h
theorem sw_e39end {T u : List Nat} {i g m f n : Nat} {x4 : Int32} {a17 a20 a21 : Nat → Int32} (hM : sw_TM 22 a17) (hT : T.length ≤ 30) (h20 : sw_St a20 T) (hu : u.length < 16) (hend : T.drop i = [] ∨ ∃ r, T.drop i = 32 :: r) (hi : i ≤ 30) (hg : g < 22) (hFM : sw_FM g = nI m) (hm : m ≤ 30) {post : Int32 → St1 → Prop} {rm nt sk rc nc wc sd : Int32} {a1 a2 a3 a4 a5 a6 a7 a8 a9 a10 a11 a12 a13 a14 a15 a16 a18 a19 a22 : Nat → Int32}
    (H : wX_enter_9 post n 0 (nI i) rm nt sk rc nc wc (nI T.length) (nI (sw_km m u).length) sd a1 a2 a3 a4 a5 a6 a7 a8 a9 a10 a11 a12 a13 a14 a15 a16 a17 a18 a19 a20 (sw_ka m u a21) a22) : wX_enter_39 post (wX_enter_9 post n) 0 rm nt sk rc nc wc (nI T.length) (nI u.length) sd a1 a2 a3 a4 a5 a6 a7 a8 a9 a10 a11 a12 a13 a14 a15 a16 a17 a18 a19 a20 a21 a22 (f + 1) (nI i) (nI g) x4 := by
  have h106 : wX_enter_106 post (wX_enter_9 post n) 0 (nI i) (nI m) rm nt sk rc nc wc (nI T.length) (nI u.length) sd a1 a2 a3 a4 a5 a6 a7 a8 a9 a10 a11 a12 a13 a14 a15 a16 a17 a18 a19 a20 a21 a22 := by
    refine br_t (nI_pos' (by omega)) ?_
    by_cases c : m = 30
    · unfold sw_km sw_ka at H
      rw [if_pos c, if_pos c] at H
      exact br_t (by rw [c]; rfl) H
    · unfold sw_km sw_ka at H
      rw [if_neg c, if_neg c] at H
      refine br_f (fun z => c ((nI_eq (b := 30) (by omega) (by omega)).mp z)) ?_
      refine And.intro (pk_in u.length 16 hu) (nm_r (e' := upd a21 u.length (nI m)) (by rw [nI_clamp (by omega), sw_b8 m (by omega)]) (nm_r (e' := nI (u ++ [m]).length) (by rw [List.length_append, List.length_singleton]; exact nI_1 _) H))
  have h92 : wX_enter_92 post (wX_enter_9 post n) 0 (nI i) (nI g) rm nt sk rc nc wc (nI T.length) (nI u.length) sd a1 a2 a3 a4 a5 a6 a7 a8 a9 a10 a11 a12 a13 a14 a15 a16 a17 a18 a19 a20 a21 a22 := by
    refine br_t (nI_pos' (by omega)) ⟨pk_in g 100 (by omega), ?_⟩
    rw [nI_clamp (by omega), hM g hg, hFM]
    exact h106
  rcases hend with e | ⟨r, e⟩
  · exact br_t (nI_le (sw_drop0 e) (by omega)) h92
  · obtain ⟨d1, d2, d3⟩ := sw_drop1 e
    exact br_f (nI_ge d1 (by omega)) ⟨pk_in i 30 (by omega), br_t (by rw [nI_clamp (by omega), h20 i d1, d2]; rfl) h92⟩
theorem sw_e39let {T u r : List Nat} {i g g' e k f n : Nat} {a16 a18 a19 a20 : Nat → Int32} (hR : sw_TR 22 a16 a18 a19) (hT : T.length ≤ 30) (h20 : sw_St a20 T) (hd : T.drop i = (96 + e) :: r) (he0 : 0 < e) (he : e < 27) (hg : g < 22) (hk : k < 4) (hf : sw_cf 22 g e = nI g') {post : Int32 → St1 → Prop} {rm nt sk rc nc wc sd : Int32} {a1 a2 a3 a4 a5 a6 a7 a8 a9 a10 a11 a12 a13 a14 a15 a17 a21 a22 : Nat → Int32}
    (H : wX_enter_39 post (wX_enter_9 post n) 0 rm nt sk rc nc wc (nI T.length) (nI u.length) sd a1 a2 a3 a4 a5 a6 a7 a8 a9 a10 a11 a12 a13 a14 a15 a16 a17 a18 a19 a20 a21 a22 f (nI (i + 1)) (nI g') (nI (k + 1))) : wX_enter_39 post (wX_enter_9 post n) 0 rm nt sk rc nc wc (nI T.length) (nI u.length) sd a1 a2 a3 a4 a5 a6 a7 a8 a9 a10 a11 a12 a13 a14 a15 a16 a17 a18 a19 a20 a21 a22 (f + 1) (nI i) (nI g) (nI k) := by
  obtain ⟨d1, d2, d3⟩ := sw_drop1 hd
  have ea : a20 (nI i).toNatClampNeg = nI (96 + e) := by rw [nI_clamp (by omega), h20 i d1, d2]
  have hin : vp_in (nI i) 30 := pk_in i 30 (by omega)
  refine br_f (nI_ge d1 (by omega)) ⟨hin, br_f (fun z => ?_) (br_f (nI_ge (b := 4) hk (by decide)) (br_f (nI_pos (by omega)) ⟨hin, ?_⟩))⟩
  · rw [ea] at z
    have := (nI_eq (b := 32) (by omega) (by omega)).mp z
    omega
  · rw [ea, show nI (96 + e) - 96 = nI e by rw [show (96 : Int32) = nI 96 from rfl, pk_sub (by omega), Nat.add_sub_cancel_left]]
    refine sw_child hR (by decide) hg he (nm_r (nI_1 k) (nm_r (nI_1 i) ?_))
    rw [hf]
    exact H
theorem sw_eSp {T u r : List Nat} {i : Nat} {a20 : Nat → Int32} (hT : T.length ≤ 30) (h20 : sw_St a20 T) (hd : T.drop i = 32 :: r) {post : Int32 → St1 → Prop} {rm nt sk rc nc wc sd : Int32} {a1 a2 a3 a4 a5 a6 a7 a8 a9 a10 a11 a12 a13 a14 a15 a16 a17 a18 a19 a21 a22 : Nat → Int32}
    (H : ∃ n, wX_enter_9 post n 0 (nI (i + 1)) rm nt sk rc nc wc (nI T.length) (nI u.length) sd a1 a2 a3 a4 a5 a6 a7 a8 a9 a10 a11 a12 a13 a14 a15 a16 a17 a18 a19 a20 a21 a22) : ∃ n, wX_enter_9 post n 0 (nI i) rm nt sk rc nc wc (nI T.length) (nI u.length) sd a1 a2 a3 a4 a5 a6 a7 a8 a9 a10 a11 a12 a13 a14 a15 a16 a17 a18 a19 a20 a21 a22 := by
  obtain ⟨n, H⟩ := H
  obtain ⟨d1, d2, d3⟩ := sw_drop1 hd
  exact ⟨n + 1, br_f (nI_ge d1 (by omega)) ⟨pk_in i 30 (by omega), br_t (by rw [nI_clamp (by omega), h20 i d1, d2]; rfl) (nm_r (nI_1 i) H)⟩⟩
theorem sw_eW1 {T u r : List Nat} {i e g m : Nat} {a16 a17 a18 a19 a20 a21 : Nat → Int32} (hR : sw_TR 22 a16 a18 a19) (hM : sw_TM 22 a17) (hT : T.length ≤ 30) (h20 : sw_St a20 T) (hu : u.length < 16) (hd : T.drop i = (96 + e) :: r) (hend : r = [] ∨ ∃ r', r = 32 :: r') (he0 : 0 < e) (he : e < 27) (hf : sw_cf 22 0 e = nI g) (hg : g < 22) (hFM : sw_FM g = nI m) (hm : m ≤ 30) {post : Int32 → St1 → Prop} {rm nt sk rc nc wc sd : Int32} {a1 a2 a3 a4 a5 a6 a7 a8 a9 a10 a11 a12 a13 a14 a15 a22 : Nat → Int32}
    (H : ∃ n, wX_enter_9 post n 0 (nI (i + 1)) rm nt sk rc nc wc (nI T.length) (nI (sw_km m u).length) sd a1 a2 a3 a4 a5 a6 a7 a8 a9 a10 a11 a12 a13 a14 a15 a16 a17 a18 a19 a20 (sw_ka m u a21) a22) : ∃ n, wX_enter_9 post n 0 (nI i) rm nt sk rc nc wc (nI T.length) (nI u.length) sd a1 a2 a3 a4 a5 a6 a7 a8 a9 a10 a11 a12 a13 a14 a15 a16 a17 a18 a19 a20 a21 a22 := by
  obtain ⟨n, H⟩ := H
  obtain ⟨d1, d2, d3⟩ := sw_drop1 hd
  have hend' : T.drop (i + 1) = [] ∨ ∃ r', T.drop (i + 1) = 32 :: r' := by rw [d3]; exact hend
  refine ⟨n + 1, br_f (nI_ge d1 (by omega)) ⟨pk_in i 30 (by omega), br_f (fun z => ?_) (Exists.intro 2 ?_)⟩⟩
  · rw [nI_clamp (by omega), h20 i d1, d2] at z
    have := (nI_eq (b := 32) (by omega) (by omega)).mp z
    omega
  · exact sw_e39let (g := 0) (k := 0) hR hT h20 hd he0 he (by decide) (by decide) hf (sw_e39end hM hT h20 hu hend' (by omega) hg hFM hm H)
theorem sw_eW2 {T u r : List Nat} {i e g e2 g2 m : Nat} {a16 a17 a18 a19 a20 a21 : Nat → Int32} (hR : sw_TR 22 a16 a18 a19) (hM : sw_TM 22 a17) (hT : T.length ≤ 30) (h20 : sw_St a20 T) (hu : u.length < 16) (hd : T.drop i = (96 + e) :: (96 + e2) :: r) (hend : r = [] ∨ ∃ r', r = 32 :: r') (he0 : 0 < e) (he : e < 27) (hf : sw_cf 22 0 e = nI g) (hg : g < 22)
    (he20 : 0 < e2) (he2 : e2 < 27) (hf2 : sw_cf 22 g e2 = nI g2) (hg2 : g2 < 22) (hFM : sw_FM g2 = nI m) (hm : m ≤ 30) {post : Int32 → St1 → Prop} {rm nt sk rc nc wc sd : Int32} {a1 a2 a3 a4 a5 a6 a7 a8 a9 a10 a11 a12 a13 a14 a15 a22 : Nat → Int32}
    (H : ∃ n, wX_enter_9 post n 0 (nI (i + 2)) rm nt sk rc nc wc (nI T.length) (nI (sw_km m u).length) sd a1 a2 a3 a4 a5 a6 a7 a8 a9 a10 a11 a12 a13 a14 a15 a16 a17 a18 a19 a20 (sw_ka m u a21) a22) : ∃ n, wX_enter_9 post n 0 (nI i) rm nt sk rc nc wc (nI T.length) (nI u.length) sd a1 a2 a3 a4 a5 a6 a7 a8 a9 a10 a11 a12 a13 a14 a15 a16 a17 a18 a19 a20 a21 a22 := by
  obtain ⟨n, H⟩ := H
  obtain ⟨d1, d2, d3⟩ := sw_drop1 hd
  obtain ⟨q1, q2, q3⟩ := sw_drop1 d3
  have hend' : T.drop (i + 2) = [] ∨ ∃ r', T.drop (i + 2) = 32 :: r' := by rw [q3]; exact hend
  refine ⟨n + 1, br_f (nI_ge d1 (by omega)) ⟨pk_in i 30 (by omega), br_f (fun z => ?_) (Exists.intro 3 ?_)⟩⟩
  · rw [nI_clamp (by omega), h20 i d1, d2] at z
    have := (nI_eq (b := 32) (by omega) (by omega)).mp z
    omega
  · exact sw_e39let (g := 0) (k := 0) hR hT h20 hd he0 he (by decide) (by decide) hf (sw_e39let (k := 1) hR hT h20 d3 he20 he2 hg (by decide) hf2 (sw_e39end hM hT h20 hu hend' (by omega) hg2 hFM hm H))
/-! the words of a command -/
theorem sw_lz : sw_cf 22 0 26 = nI 21 ∧ sw_FM 21 = nI 30 := by decide +kernel
theorem sw_lv : ∀ v, v < 6 → sw_cf 22 0 (1 + v) = nI (1 + v) ∧ sw_FM (1 + v) = nI v := by decide +kernel
theorem sw_lg : sw_cf 22 0 7 = nI 7 := by decide +kernel
theorem sw_lh : sw_cf 22 0 8 = nI 12 := by decide +kernel
theorem sw_ld : ∀ x, x < 4 → sw_cf 22 7 (1 + x) = nI (8 + x) ∧ sw_FM (8 + x) = nI (10 + x) := by decide +kernel
theorem sw_lt : ∀ x, x < 8 → sw_cf 22 12 (1 + x) = nI (13 + x) ∧ sw_FM (13 + x) = nI (20 + x) := by decide +kernel
/-- what the words of the object mean -/
def sw_om (v x q : Nat) : List Nat := if v = 0 then [10 + x] else if v = 3 then [20 + x, 20 + q] else [20 + x]
theorem sw_eObj {T u : List Nat} {i v x q : Nat} {a16 a17 a18 a19 a20 a21 : Nat → Int32} (hR : sw_TR 22 a16 a18 a19) (hM : sw_TM 22 a17) (hT : T.length ≤ 30) (h20 : sw_St a20 T) (h21 : sw_St a21 u) (hu : u.length ≤ 1) (hv : v < 6) (hx : x < 8) (hx0 : v = 0 → x < 4) (hq : q < 8) (hd : T.drop i = sw_to (sw_tz v) v x q) {post : Int32 → St1 → Prop} {rm nt sk rc nc wc sd : Int32} {a1 a2 a3 a4 a5 a6 a7 a8 a9 a10 a11 a12 a13 a14 a15 a22 : Nat → Int32}
    (fin : ∀ j b, T.drop j = [] → j ≤ 32 → sw_St b (u ++ sw_om v x q) → ∃ n, wX_enter_9 post n 0 (nI j) rm nt sk rc nc wc (nI T.length) (nI (u ++ sw_om v x q).length) sd a1 a2 a3 a4 a5 a6 a7 a8 a9 a10 a11 a12 a13 a14 a15 a16 a17 a18 a19 a20 b a22) : ∃ n, wX_enter_9 post n 0 (nI i) rm nt sk rc nc wc (nI T.length) (nI u.length) sd a1 a2 a3 a4 a5 a6 a7 a8 a9 a10 a11 a12 a13 a14 a15 a16 a17 a18 a19 a20 a21 a22 := by
  by_cases c0 : v = 0
  · have e1 : sw_to (sw_tz v) v x q = (96 + 7) :: (96 + (1 + x)) :: [] := by
      subst c0
      show [103, 97 + x] = _
      rw [show 97 + x = 96 + (1 + x) by omega]
    have e2 : sw_om v x q = [10 + x] := by unfold sw_om; rw [if_pos c0]
    rw [e1] at hd
    rw [e2] at fin
    have g := sw_ld x (hx0 c0)
    have hx4 := hx0 c0
    have k1 : sw_km (10 + x) u = u ++ [10 + x] := by unfold sw_km; rw [if_neg (by omega)]
    refine sw_eW2 (m := 10 + x) hR hM hT h20 (by omega) hd (Or.inl rfl) (by decide) (by decide) sw_lg (by decide) (by omega) (by omega) g.1 (by omega) g.2 (by omega) ?_
    have hst := sw_kst (m := 10 + x) h21
    rw [k1] at hst ⊢
    exact fin (i + 2) _ (sw_drop1 (sw_drop1 hd).2.2).2.2 (by have := (sw_drop1 (sw_drop1 hd).2.2).1; omega) hst
  · have g := sw_lt x hx
    have k1 : sw_km (20 + x) u = u ++ [20 + x] := by unfold sw_km; rw [if_neg (by omega)]
    have hst := sw_kst (m := 20 + x) h21
    by_cases c3 : v = 3
    · have e1 : sw_to (sw_tz v) v x q = (96 + 8) :: (96 + (1 + x)) :: 32 :: (96 + 8) :: (96 + (1 + q)) :: [] := by
        subst c3
        show [104, 97 + x, 32, 104, 97 + q] = _
        rw [show 97 + x = 96 + (1 + x) by omega, show 97 + q = 96 + (1 + q) by omega]
      have e2 : sw_om v x q = [20 + x, 20 + q] := by unfold sw_om; rw [if_neg c0, if_pos c3]
      rw [e1] at hd
      rw [e2] at fin
      have gq := sw_lt q hq
      have k2 : sw_km (20 + q) (u ++ [20 + x]) = u ++ [20 + x, 20 + q] := by unfold sw_km; rw [if_neg (by omega)]; simp
      refine sw_eW2 (m := 20 + x) hR hM hT h20 (by omega) hd (Or.inr ⟨_, rfl⟩) (by decide) (by decide) sw_lh (by decide) (by omega) (by omega) g.1 (by omega) g.2 (by omega) ?_
      rw [k1] at hst ⊢
      have hd2 := (sw_drop1 (sw_drop1 hd).2.2).2.2
      have hd3 := (sw_drop1 hd2).2.2
      refine sw_eSp hT h20 hd2 ?_
      refine sw_eW2 (m := 20 + q) hR hM hT h20 (by simp only [List.length_append, List.length_singleton]; omega) hd3 (Or.inl rfl) (by decide) (by decide) sw_lh (by decide) (by omega) (by omega) gq.1 (by omega) gq.2 (by omega) ?_
      have hst2 := sw_kst (m := 20 + q) hst
      rw [k2] at hst2 ⊢
      exact fin _ _ (sw_drop1 (sw_drop1 hd3).2.2).2.2 (by have := (sw_drop1 (sw_drop1 hd3).2.2).1; omega) hst2
    · have e1 : sw_to (sw_tz v) v x q = (96 + 8) :: (96 + (1 + x)) :: [] := by
        unfold sw_to sw_tz
        rw [if_neg c0, if_neg c3, show 97 + x = 96 + (1 + x) by omega]
        rfl
      have e2 : sw_om v x q = [20 + x] := by unfold sw_om; rw [if_neg c0, if_neg c3]
      rw [e1] at hd
      rw [e2] at fin
      refine sw_eW2 (m := 20 + x) hR hM hT h20 (by omega) hd (Or.inl rfl) (by decide) (by decide) sw_lh (by decide) (by omega) (by omega) g.1 (by omega) g.2 (by omega) ?_
      rw [k1] at hst ⊢
      exact fin _ _ (sw_drop1 (sw_drop1 hd).2.2).2.2 (by have := (sw_drop1 (sw_drop1 hd).2.2).1; omega) hst
theorem sw_eMid {T u mid : List Nat} {i v x q : Nat} {a16 a17 a18 a19 a20 a21 : Nat → Int32} (hR : sw_TR 22 a16 a18 a19) (hM : sw_TM 22 a17) (hT : T.length ≤ 30) (h20 : sw_St a20 T) (h21 : sw_St a21 u) (hu : u.length ≤ 1) (hv : v < 6) (hx : x < 8) (hx0 : v = 0 → x < 4) (hq : q < 8) (hmid : mid = [] ∨ mid = [32, 122, 32]) (hd : T.drop i = mid ++ sw_to (sw_tz v) v x q) {post : Int32 → St1 → Prop} {rm nt sk rc nc wc sd : Int32} {a1 a2 a3 a4 a5 a6 a7 a8 a9 a10 a11 a12 a13 a14 a15 a22 : Nat → Int32}
    (fin : ∀ j b, T.drop j = [] → j ≤ 32 → sw_St b (u ++ sw_om v x q) → ∃ n, wX_enter_9 post n 0 (nI j) rm nt sk rc nc wc (nI T.length) (nI (u ++ sw_om v x q).length) sd a1 a2 a3 a4 a5 a6 a7 a8 a9 a10 a11 a12 a13 a14 a15 a16 a17 a18 a19 a20 b a22) : ∃ n, wX_enter_9 post n 0 (nI i) rm nt sk rc nc wc (nI T.length) (nI u.length) sd a1 a2 a3 a4 a5 a6 a7 a8 a9 a10 a11 a12 a13 a14 a15 a16 a17 a18 a19 a20 a21 a22 := by
  rcases hmid with e | e
  · rw [e, List.nil_append] at hd
    exact sw_eObj hR hM hT h20 h21 hu hv hx hx0 hq hd fin
  · rw [e] at hd
    have hd0 : T.drop i = 32 :: (96 + 26) :: 32 :: sw_to (sw_tz v) v x q := hd
    have hd1 := (sw_drop1 hd0).2.2
    have hd2 := (sw_drop1 hd1).2.2
    have hd3 := (sw_drop1 hd2).2.2
    refine sw_eSp hT h20 hd0 (sw_eW1 (m := 30) hR hM hT h20 (by omega) hd1 (Or.inr ⟨_, rfl⟩) (by decide) (by decide) sw_lz.1 (by decide) sw_lz.2 (by decide) ?_)
    exact sw_eSp hT h20 hd2 (sw_eObj hR hM hT h20 h21 hu hv hx hx0 hq hd3 fin)
theorem sw_eVb {T vb mid : List Nat} {i v x q : Nat} {a16 a17 a18 a19 a20 a21 : Nat → Int32} (hR : sw_TR 22 a16 a18 a19) (hM : sw_TM 22 a17) (hT : T.length ≤ 30) (h20 : sw_St a20 T) (hv : v < 6) (hx : x < 8) (hx0 : v = 0 → x < 4) (hq : q < 8) (hvb : vb = [97 + v, 32] ∨ (v = 0 ∧ vb = [])) (hmid : mid = [] ∨ mid = [32, 122, 32]) (hd : T.drop i = (vb ++ mid) ++ sw_to (sw_tz v) v x q) {post : Int32 → St1 → Prop} {rm nt sk rc nc wc sd : Int32} {a1 a2 a3 a4 a5 a6 a7 a8 a9 a10 a11 a12 a13 a14 a15 a22 : Nat → Int32}
    (fin : ∀ j b w, T.drop j = [] → j ≤ 32 → (w = [v] ++ sw_om v x q ∨ (v = 0 ∧ w = sw_om v x q)) → sw_St b w → ∃ n, wX_enter_9 post n 0 (nI j) rm nt sk rc nc wc (nI T.length) (nI w.length) sd a1 a2 a3 a4 a5 a6 a7 a8 a9 a10 a11 a12 a13 a14 a15 a16 a17 a18 a19 a20 b a22) : ∃ n, wX_enter_9 post n 0 (nI i) rm nt sk rc nc wc (nI T.length) (nI 0) sd a1 a2 a3 a4 a5 a6 a7 a8 a9 a10 a11 a12 a13 a14 a15 a16 a17 a18 a19 a20 a21 a22 := by
  rcases hvb with e | ⟨e0, e⟩
  · rw [e] at hd
    have hd0 : T.drop i = (96 + (1 + v)) :: 32 :: (mid ++ sw_to (sw_tz v) v x q) := by
      rw [hd, show 97 + v = 96 + (1 + v) by omega]
      rfl
    have hd1 := (sw_drop1 hd0).2.2
    have hd2 := (sw_drop1 hd1).2.2
    have g := sw_lv v hv
    have hst := sw_kst (m := v) (sw_st0 a21)
    have k1 : sw_km v [] = [v] := by unfold sw_km; rw [if_neg (by omega)]; rfl
    refine sw_eW1 (u := []) (m := v) hR hM hT h20 (by decide) hd0 (Or.inr ⟨_, rfl⟩) (by omega) (by omega) g.1 (by omega) g.2 (by omega) ?_
    rw [k1] at hst ⊢
    exact sw_eSp hT h20 hd1 (sw_eMid hR hM hT h20 hst (Nat.le_refl 1) hv hx hx0 hq hmid hd2 (fun j b h1 hj h2 => fin j b _ h1 hj (Or.inl rfl) h2))
  · rw [e, List.nil_append] at hd
    exact sw_eMid (u := []) hR hM hT h20 (sw_st0 a21) (by decide) hv hx hx0 hq hmid hd (fun j b h1 hj h2 => fin j b _ h1 hj (Or.inr ⟨e0, rfl⟩) h2)
theorem sw_eAll {T : List Nat} {v x q : Nat} {a16 a17 a18 a19 a20 a21 : Nat → Int32} (hR : sw_TR 22 a16 a18 a19) (hM : sw_TM 22 a17) (h20 : sw_St a20 T) (hv : v < 6) (hx : x < 8) (hx0 : v = 0 → x < 4) (hq : q < 8) (hG : sw_GT v x q T) {post : Int32 → St1 → Prop} {rm nt sk rc nc wc sd : Int32} {a1 a2 a3 a4 a5 a6 a7 a8 a9 a10 a11 a12 a13 a14 a15 a22 : Nat → Int32}
    (fin : ∀ j b w, T.drop j = [] → j ≤ 32 → (w = [v] ++ sw_om v x q ∨ (v = 0 ∧ w = sw_om v x q)) → sw_St b w → ∃ n, wX_enter_9 post n 0 (nI j) rm nt sk rc nc wc (nI T.length) (nI w.length) sd a1 a2 a3 a4 a5 a6 a7 a8 a9 a10 a11 a12 a13 a14 a15 a16 a17 a18 a19 a20 b a22) : ∃ n, wX_enter_9 post n 0 (nI 0) rm nt sk rc nc wc (nI T.length) (nI 0) sd a1 a2 a3 a4 a5 a6 a7 a8 a9 a10 a11 a12 a13 a14 a15 a16 a17 a18 a19 a20 a21 a22 := by
  obtain ⟨pre, vb, mid, h1, h2, h3, h4⟩ := hG
  have hT : T.length ≤ 30 := by
    rw [h4]
    have l1 : pre.length ≤ 2 := by rcases h1 with e | e <;> rw [e] <;> decide
    have l2 : vb.length ≤ 2 := by
      rcases h2 with e | ⟨_, e⟩ <;> rw [e]
      · exact Nat.le_refl 2
      · decide
    have l3 : mid.length ≤ 3 := by rcases h3 with e | e <;> rw [e] <;> decide
    have l4 : (sw_to (sw_tz v) v x q).length ≤ 5 := by
      unfold sw_to
      by_cases c : v = 3
      · rw [if_pos c]
        exact Nat.le_refl 5
      · rw [if_neg c]
        exact (by decide : 2 ≤ 5)
    rw [List.length_append, List.length_append, List.length_append]
    omega
  have hd : T.drop 0 = pre ++ ((vb ++ mid) ++ sw_to (sw_tz v) v x q) := by
    rw [List.drop_zero, h4]
    simp
  rcases h1 with e | e
  · rw [e, List.nil_append] at hd
    exact sw_eVb hR hM hT h20 hv hx hx0 hq h2 h3 hd fin
  · rw [e] at hd
    have hd0 : T.drop 0 = (96 + 26) :: 32 :: ((vb ++ mid) ++ sw_to (sw_tz v) v x q) := hd
    have hd1 := (sw_drop1 hd0).2.2
    have hd2 := (sw_drop1 hd1).2.2
    refine sw_eW1 (u := []) (m := 30) hR hM hT h20 (by decide) hd0 (Or.inr ⟨_, rfl⟩) (by decide) (by decide) sw_lz.1 (by decide) sw_lz.2 (by decide) ?_
    exact sw_eSp hT h20 hd1 (sw_eVb hR hM hT h20 hv hx hx0 hq h2 h3 hd2 fin)
end
section
/-! understanding, and the whole of enter -/
theorem sw_dirw {i x : Nat} (hi : i < 16) (hx : x < 4) {post : Int32 → Prop} {rm nt sk rc nc wc tc mt sd : Int32} {a1 a2 a3 a4 a5 a6 a7 a8 a9 a10 a11 a12 a13 a14 a15 a16 a17 a18 a19 a20 a21 a22 : Nat → Int32} (h : a21 i = nI (10 + x)) (H : post 1) : wpX_isDirectionWord post (rm, nt, sk, rc, nc, wc, tc, mt, sd, a1, a2, a3, a4, a5, a6, a7, a8, a9, a10, a11, a12, a13, a14, a15, a16, a17, a18, a19, a20, a21, a22) (nI i) := by
  have e : a21 (nI i).toNatClampNeg = nI (10 + x) := by rw [nI_clamp (by omega)]; exact h
  exact And.intro (pk_in i 16 hi) (br_f (by rw [e]; exact nI_nlt (b := 10) (by omega) (by omega)) ⟨pk_in i 16 hi, br_f (by rw [e]; exact nI_nlt (a := 13) (by omega) (by decide)) H⟩)
theorem sw_thgw {i x : Nat} (hi : i < 16) (hx : x < 8) {post : Int32 → Prop} {rm nt sk rc nc wc tc mt sd : Int32} {a1 a2 a3 a4 a5 a6 a7 a8 a9 a10 a11 a12 a13 a14 a15 a16 a17 a18 a19 a20 a21 a22 : Nat → Int32} (h : a21 i = nI (20 + x)) (H : post 1) : wpX_isThingWord post (rm, nt, sk, rc, nc, wc, tc, mt, sd, a1, a2, a3, a4, a5, a6, a7, a8, a9, a10, a11, a12, a13, a14, a15, a16, a17, a18, a19, a20, a21, a22) (nI i) := by
  have e : a21 (nI i).toNatClampNeg = nI (20 + x) := by rw [nI_clamp (by omega)]; exact h
  exact And.intro (pk_in i 16 hi) (br_f (by rw [e]; exact nI_nlt (b := 20) (by omega) (by omega)) ⟨pk_in i 16 hi, br_f (by rw [e]; exact nI_nlt (a := 27) (by omega) (by decide)) H⟩)
theorem sw_s10 (x : Nat) : nI (10 + x) - 10 = nI x := by rw [show (10 : Int32) = nI 10 from rfl, pk_sub (by omega), Nat.add_sub_cancel_left]
theorem sw_s20 (x : Nat) : nI (20 + x) - 20 = nI x := by rw [show (20 : Int32) = nI 20 from rfl, pk_sub (by omega), Nat.add_sub_cancel_left]
theorem sw_und {rm sd rc : Int32} {a1 a2 a3 a4 a5 a6 a7 a9 a10 a11 a12 a13 a14 a15 a22 : Nat → Int32} {v x q : Nat} (hv : v < 6) (hx : x < 8) (hx0 : v = 0 → x < 4) (hq : q < 8) {rm' sd' r : Int32} {a3' a4' a5' a6' a7' a22' : Nat → Int32}
    (k4 : ∀ {y : Int32} {post : Int32 → St1 → Prop} {nt sk nc wc tc mt : Int32} {a8 a16 a17 a18 a19 a20 a21 : Nat → Int32}, (v = 3 → y = nI q) → (∀ nt' sk' a8', post r (rm', nt', sk', rc, nc, wc, tc, mt, sd', a1, a2, a3', a4', a5', a6', a7', a8', a9, a10, a11, a12, a13, a14, a15, a16, a17, a18, a19, a20, a21, a22')) → wpX_carryOut post (rm, nt, sk, rc, nc, wc, tc, mt, sd, a1, a2, a3, a4, a5, a6, a7, a8, a9, a10, a11, a12, a13, a14, a15, a16, a17, a18, a19, a20, a21, a22) (nI v) (nI x) y)
    {w : List Nat} (hw : w = [v] ++ sw_om v x q ∨ (v = 0 ∧ w = sw_om v x q)) {a21 : Nat → Int32} (h21 : sw_St a21 w)
    {post : Int32 → St1 → Prop} {nt sk nc wc tc : Int32} {a8 a16 a17 a18 a19 a20 : Nat → Int32}
    (H : ∀ nt' sk' a8', post r (rm', nt', sk', rc, nc, wc, tc, nI w.length, sd', a1, a2, a3', a4', a5', a6', a7', a8', a9, a10, a11, a12, a13, a14, a15, a16, a17, a18, a19, a20, a21, a22')) : wpX_understand post (rm, nt, sk, rc, nc, wc, tc, nI w.length, sd, a1, a2, a3, a4, a5, a6, a7, a8, a9, a10, a11, a12, a13, a14, a15, a16, a17, a18, a19, a20, a21, a22) := by
  rcases hw with e | ⟨c0, e⟩
  · by_cases c0 : v = 0
    · subst c0
      have e' : w = [0, 10 + x] := e
      subst e'
      have h0 : a21 0 = nI 0 := h21 0 (by simp)
      have h1 : a21 1 = nI (10 + x) := h21 1 (by simp)
      refine nm_r (e' := nI 0) h0 (br_f (show ¬ nI 2 = 1 by decide) (br_t (by decide) (br_t rfl (br_t rfl (sw_dirw (i := 1) (by decide) (hx0 rfl) h1 (br_f (by decide) ?_))))))
      rw [h1, sw_s10]
      exact k4 (fun z => absurd z (by decide)) H
    · by_cases c3 : v = 3
      · subst c3
        have e' : w = [3, 20 + x, 20 + q] := e
        subst e'
        have h0 : a21 0 = nI 3 := h21 0 (by simp)
        have h1 : a21 1 = nI (20 + x) := h21 1 (by simp)
        have h2 : a21 2 = nI (20 + q) := h21 2 (by simp)
        refine nm_r (e' := nI 3) h0 (br_f (show ¬ nI 3 = 1 by decide) (br_t (by decide) (br_f (show ¬ nI 3 = 2 by decide) (br_f (show ¬ nI 3 = 2 by decide) (br_t rfl (br_t rfl (sw_thgw (i := 1) (by decide) hx h1 (br_f (by decide) (sw_thgw (i := 2) (by decide) hq h2 (br_f (by decide) (br_f (by decide) ?_)))))))))))
        rw [h1, h2, sw_s20, sw_s20]
        exact k4 (fun _ => rfl) H
      · have e' : w = [v, 20 + x] := by rw [e]; unfold sw_om; rw [if_neg c0, if_neg c3]; rfl
        subst e'
        have h0 : a21 0 = nI v := h21 0 (by show 0 < 2; decide)
        have h1 : a21 1 = nI (20 + x) := h21 1 (by show 1 < 2; decide)
        refine nm_r (e' := nI v) h0 (br_f (show ¬ nI 2 = 1 by decide) (br_t (nI_le (b := 5) (by omega) (by decide)) (br_t rfl (br_f (fun z => c0 ((nI_eq (b := 0) (by omega) (by omega)).mp z)) (br_t rfl (br_f (fun z => c3 ((nI_eq (b := 3) (by omega) (by omega)).mp z)) (sw_thgw (i := 1) (by decide) hx h1 (br_f (by decide) ?_))))))))
        rw [h1, sw_s20]
        exact k4 (fun z => absurd z c3) H
  · subst c0
    have e' : w = [10 + x] := e
    subst e'
    have h0 : a21 0 = nI (10 + x) := h21 0 (by show 0 < 1; decide)
    refine nm_r (e' := nI (10 + x)) h0 (br_t rfl (sw_dirw (i := 0) (by decide) (hx0 rfl) h0 (br_f (by decide) ?_)))
    rw [sw_s10]
    exact k4 (fun z => absurd z (by decide)) H
theorem sw_enterY {rm sd rc : Int32} {a1 a2 a3 a4 a5 a6 a7 a9 a10 a11 a12 a13 a14 a15 a22 : Nat → Int32} {v x q : Nat} (hv : v < 6) (hx : x < 8) (hx0 : v = 0 → x < 4) (hq : q < 8) {rm' sd' r : Int32} {a3' a4' a5' a6' a7' a22' : Nat → Int32}
    (k4 : ∀ {y : Int32} {post : Int32 → St1 → Prop} {nt sk nc wc tc mt : Int32} {a8 a16 a17 a18 a19 a20 a21 : Nat → Int32}, (v = 3 → y = nI q) → (∀ nt' sk' a8', post r (rm', nt', sk', rc, nc, wc, tc, mt, sd', a1, a2, a3', a4', a5', a6', a7', a8', a9, a10, a11, a12, a13, a14, a15, a16, a17, a18, a19, a20, a21, a22')) → wpX_carryOut post (rm, nt, sk, rc, nc, wc, tc, mt, sd, a1, a2, a3, a4, a5, a6, a7, a8, a9, a10, a11, a12, a13, a14, a15, a16, a17, a18, a19, a20, a21, a22) (nI v) (nI x) y)
    {T : List Nat} {a16 a17 a18 a19 a20 : Nat → Int32} (hR : sw_TR 22 a16 a18 a19) (hM : sw_TM 22 a17) (h20 : sw_St a20 T) (hG : sw_GT v x q T)
    {post : Int32 → St1 → Prop} {nt sk nc wc mt : Int32} {a8 a21 : Nat → Int32}
    (H : ∀ nt' sk' mt' a8' a21', post r (rm', nt', sk', rc, nc, wc, 0, mt', sd', a1, a2, a3', a4', a5', a6', a7', a8', a9, a10, a11, a12, a13, a14, a15, a16, a17, a18, a19, a20, a21', a22')) : wpX_enter post (rm, nt, sk, rc, nc, wc, nI T.length, mt, sd, a1, a2, a3, a4, a5, a6, a7, a8, a9, a10, a11, a12, a13, a14, a15, a16, a17, a18, a19, a20, a21, a22) := by
  refine sw_eAll (T := T) hR hM h20 hv hx hx0 hq hG (fun j b w hd hj hw hst => Exists.intro 1 (br_t (nI_le (sw_drop0 hd) (by omega)) (br_t rfl (br_f ?_ (sw_und hv hx hx0 hq k4 hw hst (fun nt' sk' a8' => H nt' sk' (nI w.length) a8' b))))))
  have hl : 0 < w.length ∧ w.length ≤ 3 := by
    have ho : 0 < (sw_om v x q).length ∧ (sw_om v x q).length ≤ 2 := by
      unfold sw_om
      split
      · exact ⟨Nat.zero_lt_one, by show 1 ≤ 2; decide⟩
      · split
        · exact ⟨by show 0 < 2; decide, Nat.le_refl 2⟩
        · exact ⟨Nat.zero_lt_one, by show 1 ≤ 2; decide⟩
    rcases hw with e | ⟨_, e⟩
    · rw [e, List.length_append, List.length_singleton]
      omega
    · rw [e]
      omega
  exact nI_ne0 hl.1 (by omega)
theorem sw_enter0 {post : Int32 → St1 → Prop} {rm nt sk rc nc wc mt sd : Int32} {a1 a2 a3 a4 a5 a6 a7 a8 a9 a10 a11 a12 a13 a14 a15 a16 a17 a18 a19 a20 a21 a22 : Nat → Int32} (H : post 13 (rm, nt, sk, rc, nc, wc, 0, 0, sd, a1, a2, a3, a4, a5, a6, a7, a8, a9, a10, a11, a12, a13, a14, a15, a16, a17, a18, a19, a20, a21, a22)) : wpX_enter post (rm, nt, sk, rc, nc, wc, 0, mt, sd, a1, a2, a3, a4, a5, a6, a7, a8, a9, a10, a11, a12, a13, a14, a15, a16, a17, a18, a19, a20, a21, a22) :=
  Exists.intro 1 (br_t (by decide) (br_t rfl (br_t rfl H)))
/-! a turn of the law -/
theorem sw_l219 {L n s v p q : Nat} {xs : Nat → Int32} {x3 x6 : Int32} {kc ks : Nat} {rm rc sd : Int32} {a1 a2 a3 a4 a5 a6 a7 a9 a10 a11 a12 a13 a14 a15 a22 : Nat → Int32} (hI : sw_I s rm rc sd a2 a4 a5 a6 a9 a11 a12 a13 a14 a15) (hs : s ≤ 80000) (hv : v < 6) (hp : p < 8) (hp0 : v = 0 → p < 4) (hq : q < 8) (eq : ((x6 >>> ((11 : Int32) &&& 31)) &&& 7) = nI q)
    {nt sk nc wc mt nty sky ncy wcy mty : Int32} {a8 a16 a17 a18 a19 a20 a21 a8y a16y a17y a18y a19y a20y a21y : Nat → Int32} (hR : sw_TR 22 a16y a18y a19y) (hM : sw_TM 22 a17y)
    (hJ : ∀ (rm sd : Int32) (a3 a4 a5 a6 a7 a22 : Nat → Int32), sw_I (s + 16) rm rc sd a2 a4 a5 a6 a9 a11 a12 a13 a14 a15 → ∀ (nt sk nty sky mty : Int32) (a8 a8y a20y a21y : Nat → Int32), wL_law_134 (fun r => r = 1) L xs kc ks n (x3 + 4) rm nt sk rc nc wc 0 mt sd a1 a2 a3 a4 a5 a6 a7 a8 a9 a10 a11 a12 a13 a14 a15 a16 a17 a18 a19 a20 a21 a22 rm nty sky rc ncy wcy 0 mty sd a1 a2 a3 a4 a5 a6 a7 a8y a9 a10 a11 a12 a13 a14 a15 a16y a17y a18y a19y a20y a21y a22) :
    wL_law_219 (fun r => r = 1) L xs (wL_law_134 (fun r => r = 1) L xs kc ks n) x3 x6 (nI v) (nI p) kc ks rm nt sk rc nc wc 0 mt sd a1 a2 a3 a4 a5 a6 a7 a8 a9 a10 a11 a12 a13 a14 a15 a16 a17 a18 a19 a20 a21 a22 rm nty sky rc ncy wcy 0 mty sd a1 a2 a3 a4 a5 a6 a7 a8y a9 a10 a11 a12 a13 a14 a15 a16y a17y a18y a19y a20y a21y a22 := by
  obtain ⟨hW, hE, hRI⟩ := hI
  obtain ⟨r, rm', sd', a3', a4', a5', a6', a7', a22', k1, k2, k3, k4⟩ := sw_carry (a1 := a1) (a3 := a3) (a7 := a7) (a10 := a10) (a22 := a22) hW (by omega) hE hRI hv hp hp0 hq
  obtain ⟨h, hh⟩ := sw_sum (a1 := a1) (a3 := a3') (a7 := a7') (a22 := a22') k2
  have hI' : sw_I (s + 16) rm' rc sd' a2 a4' a5' a6' a9 a11 a12 a13 a14 a15 := ⟨k2, hE, hRI⟩
  refine nm_r eq (sw_command hv hp hp0 hq k4 (fun nt1 sk1 b8 => br_f k1 ?_))
  refine sw_types hv hp hq (fun txt b20 hG hst => br_f (by decide) ?_)
  refine sw_enterY hv hp hp0 hq k4 hR hM hst hG (fun nt2 sk2 mt2 b8y b21 => br_t rfl ?_)
  refine hh (fun nt3 sk3 c8 => hh (fun nt4 sk4 c8y => br_t rfl ?_))
  refine sw_lholds k2 (fun nt5 sk5 d8 => br_f (by decide) ?_)
  by_cases c1 : v = 1
  · refine br_t (by rw [c1]; rfl) ?_
    by_cases c2 : r = 0
    · refine br_t c2 (sw_place hp (br_t (k3 c1 c2) (nm_e ?_)))
      exact hJ rm' sd' a3' a4' a5' a6' a7' a22' hI' _ _ _ _ _ _ _ _ _
    · exact br_f c2 (nm_e (hJ rm' sd' a3' a4' a5' a6' a7' a22' hI' _ _ _ _ _ _ _ _ _))
  · exact br_f (fun z => c1 ((nI_eq (b := 1) (by omega) (by omega)).mp z)) (nm_e (hJ rm' sd' a3' a4' a5' a6' a7' a22' hI' _ _ _ _ _ _ _ _ _))
end
section
/-! the law's loops -/
theorem sw_l134 {L kc ks : Nat} {xs : Nat → Int32} (hL : L ≤ 260) : ∀ (m i s : Nat), L ≤ i + 4 * m → i ≤ 300 → s + 16 * m ≤ 2000 → ∀ (rm rc sd : Int32) (a1 a2 a3 a4 a5 a6 a7 a9 a10 a11 a12 a13 a14 a15 a22 : Nat → Int32), sw_I s rm rc sd a2 a4 a5 a6 a9 a11 a12 a13 a14 a15 → ∀ (nt sk nc wc mt nty sky ncy wcy mty : Int32) (a8 a16 a17 a18 a19 a20 a21 a8y a16y a17y a18y a19y a20y a21y : Nat → Int32), sw_TR 22 a16y a18y a19y → sw_TM 22 a17y →
    wL_law_134 (fun r => r = 1) L xs kc ks (m + 1) (nI i) rm nt sk rc nc wc 0 mt sd a1 a2 a3 a4 a5 a6 a7 a8 a9 a10 a11 a12 a13 a14 a15 a16 a17 a18 a19 a20 a21 a22 rm nty sky rc ncy wcy 0 mty sd a1 a2 a3 a4 a5 a6 a7 a8y a9 a10 a11 a12 a13 a14 a15 a16y a17y a18y a19y a20y a21y a22 := by
  intro m
  induction m with
  | zero =>
    intro i s hLi hi hs rm rc sd a1 a2 a3 a4 a5 a6 a7 a9 a10 a11 a12 a13 a14 a15 a22 hI nt sk nc wc mt nty sky ncy wcy mty a8 a16 a17 a18 a19 a20 a21 a8y a16y a17y a18y a19y a20y a21y hR hM
    have hc : nI L - 4 < nI i := by
      rw [Int32.lt_iff_toInt_lt, show (4 : Int32) = nI 4 from rfl, pk_sub_toInt (by omega) (by omega), nI_toInt (by omega)]
      omega
    exact br_t hc (sw_enter0 (br_t rfl (sw_enter0 (br_t rfl rfl))))
  | succ m ih =>
    intro i s hLi hi hs rm rc sd a1 a2 a3 a4 a5 a6 a7 a9 a10 a11 a12 a13 a14 a15 a22 hI nt sk nc wc mt nty sky ncy wcy mty a8 a16 a17 a18 a19 a20 a21 a8y a16y a17y a18y a19y a20y a21y hR hM
    by_cases c : L < i + 4
    · have hc : nI L - 4 < nI i := by
        rw [Int32.lt_iff_toInt_lt, show (4 : Int32) = nI 4 from rfl, pk_sub_toInt (by omega) (by omega), nI_toInt (by omega)]
        omega
      exact br_t hc (sw_enter0 (br_t rfl (sw_enter0 (br_t rfl rfl))))
    · have hc : ¬ nI L - 4 < nI i := by
        rw [Int32.lt_iff_toInt_lt, show (4 : Int32) = nI 4 from rfl, pk_sub_toInt (by omega) (by omega), nI_toInt (by omega)]
        omega
      have i0 : vp_in (nI i) L := pk_in i L (by omega)
      have i1 : vp_in (nI i + 1) L := pk_in (i + 1) L (by omega) (nI_1 i)
      have i2 : vp_in (nI i + 2) L := pk_in (i + 2) L (by omega) (nI_add i 2)
      have i3 : vp_in (nI i + 3) L := pk_in (i + 3) L (by omega) (nI_add i 3)
      have i4 : nI i + 4 = nI (i + 4) := nI_add i 4
      obtain ⟨rc', b1, b2, b3, b4, b5, b6, b9, b10, b11, b12, b13, b14, b15, hI', hch⟩ := sw_change (a1 := a1) (a3 := a3) (a10 := a10) hI (xs (nI i).toNatClampNeg) (xs (nI i + 1).toNatClampNeg) (xs (nI i + 2).toNatClampNeg)
      obtain ⟨w, hw, ew⟩ := pk_andE (xs (nI i + 3).toNatClampNeg) (m := 255) 8 (by decide)
      obtain ⟨p3, hp3, ep3⟩ := pk_andE (xs (nI i + 3).toNatClampNeg >>> ((8 : Int32) &&& 31)) (m := 3) 2 (by decide)
      obtain ⟨p7, hp7, ep7⟩ := pk_andE (xs (nI i + 3).toNatClampNeg >>> ((8 : Int32) &&& 31)) (m := 7) 3 (by decide)
      obtain ⟨q, hq, eq⟩ := pk_andE (xs (nI i + 3).toNatClampNeg >>> ((11 : Int32) &&& 31)) (m := 7) 3 (by decide)
      have ev : (xs (nI i + 3).toNatClampNeg &&& 255) - (xs (nI i + 3).toNatClampNeg &&& 255) / 6 * 6 = nI (w % 6) := by
        rw [ew]
        exact pk_rem (d := 6) (by omega) (by decide) (by decide)
      have hv : w % 6 < 6 := Nat.mod_lt _ (by decide)
      refine br_f hc ⟨i1, nm_e ⟨i2, nm_e ⟨i3, nm_e ⟨i0, hch ⟨i0, hch ⟨by decide, nm_r ev ?_⟩⟩⟩⟩⟩⟩
      by_cases c0 : w % 6 = 0
      · refine br_t (by rw [c0]; rfl) ?_
        rw [ep3]
        refine sw_l219 hI' (by omega) hv (by omega) (fun _ => by omega) hq eq hR hM (fun rm sd a3 a4 a5 a6 a7 a22 hI2 nt sk nty sky mty a8 a8y a20y a21y => ?_)
        rw [i4]
        exact ih (i + 4) (s + 16) (by omega) (by omega) (by omega) _ _ _ _ _ _ _ _ _ _ _ _ _ _ _ _ _ _ hI2 _ _ _ _ _ _ _ _ _ _ _ _ _ _ _ _ _ _ _ _ _ _ _ _ hR hM
      · refine br_f (fun z => c0 ((nI_eq (b := 0) (by omega) (by omega)).mp z)) ?_
        rw [ep7]
        refine sw_l219 hI' (by omega) hv (by omega) (fun z => absurd z c0) hq eq hR hM (fun rm sd a3 a4 a5 a6 a7 a22 hI2 nt sk nty sky mty a8 a8y a20y a21y => ?_)
        rw [i4]
        exact ih (i + 4) (s + 16) (by omega) (by omega) (by omega) _ _ _ _ _ _ _ _ _ _ _ _ _ _ _ _ _ _ hI2 _ _ _ _ _ _ _ _ _ _ _ _ _ _ _ _ _ _ _ _ _ _ _ _ hR hM
/-! the words of the second object -/
theorem sw_q82o : ∀ t, t < 8 → t = 0 ∨ (sw_cf (13 + t) 0 8 = nI 12 ∧ sw_cf (13 + t) 12 (1 + t) = -1 ∧ sw_hOK (13 + t) 12 (1 + t) ∧ sw_FM (13 + t) = nI (20 + t)) := by decide +kernel
theorem sw_q82 (t : Nat) (h : t < 8) (h0 : 0 < t) : sw_cf (13 + t) 0 8 = nI 12 ∧ sw_cf (13 + t) 12 (1 + t) = -1 ∧ sw_hOK (13 + t) 12 (1 + t) ∧ sw_FM (13 + t) = nI (20 + t) := (sw_q82o t h).resolve_left (by omega)
theorem sw_q82c : sw_cf 12 0 8 = -1 ∧ sw_hOK 12 0 8 ∧ sw_cf 13 12 1 = -1 ∧ sw_hOK 13 12 1 ∧ sw_FM 12 = -1 ∧ sw_FM 13 = nI 20 := by decide +kernel
theorem sw_q82z : sw_cf 21 0 26 = -1 ∧ sw_hOK 21 0 26 ∧ sw_FM 21 = nI 30 := by decide +kernel
theorem sw_q46o : ∀ d, d < 4 → d = 0 ∨ (sw_cf (8 + d) 0 7 = nI 7 ∧ sw_cf (8 + d) 7 (1 + d) = -1 ∧ sw_hOK (8 + d) 7 (1 + d) ∧ sw_FM (8 + d) = nI (10 + d)) := by decide +kernel
theorem sw_q46 (d : Nat) (h : d < 4) (h0 : 0 < d) : sw_cf (8 + d) 0 7 = nI 7 ∧ sw_cf (8 + d) 7 (1 + d) = -1 ∧ sw_hOK (8 + d) 7 (1 + d) ∧ sw_FM (8 + d) = nI (10 + d) := (sw_q46o d h).resolve_left (by omega)
theorem sw_q46c : sw_cf 7 0 7 = -1 ∧ sw_hOK 7 0 7 ∧ sw_cf 8 7 1 = -1 ∧ sw_hOK 8 7 1 ∧ sw_FM 7 = -1 ∧ sw_FM 8 = nI 10 := by decide +kernel
theorem sw_q18 : ∀ v, v < 6 → sw_cf (1 + v) 0 (1 + v) = -1 ∧ sw_hOK (1 + v) 0 (1 + v) ∧ sw_FM (1 + v) = nI v := by decide +kernel
theorem sw_w82 (t : Nat) : (8 : Int32) + 27 * (1 + nI t) = nI (8 + 27 * (1 + t)) := by
  show nI 8 + nI 27 * (nI 1 + nI t) = _
  rw [nI_add, pk_mul, nI_add]
theorem sw_w46 (t : Nat) : (7 : Int32) + 27 * (1 + nI t) = nI (7 + 27 * (1 + t)) := by
  show nI 7 + nI 27 * (nI 1 + nI t) = _
  rw [nI_add, pk_mul, nI_add]
theorem sw_l82 {post : Int32 → Prop} {L kc ks : Nat} {xs : Nat → Int32} {rm nt sk rc nc wc tc mt sd : Int32} {a1 a2 a3 a4 a5 a6 a7 a8 a9 a10 a11 a12 a13 a14 a15 a16 a17 a18 a19 a20 a21 a22 : Nat → Int32} {nty sky tcy mty : Int32} {a8y a20y a21y : Nat → Int32}
    (K : ∀ (a16y a17y a18y a19y : Nat → Int32), sw_TR 22 a16y a18y a19y → sw_TM 22 a17y → ∃ fu, wL_law_134 post L xs kc ks fu 0 rm nt sk rc nc wc tc mt sd a1 a2 a3 a4 a5 a6 a7 a8 a9 a10 a11 a12 a13 a14 a15 a16 a17 a18 a19 a20 a21 a22 rm nty sky rc (nI 22) (nI 19) tcy mty sd a1 a2 a3 a4 a5 a6 a7 a8y a9 a10 a11 a12 a13 a14 a15 a16y a17y a18y a19y a20y a21y a22) : ∀ (m : Nat), m ≤ 7 → ∀ (t : Nat), t + m = 8 → ∀ (a16y a17y a18y a19y : Nat → Int32), sw_TR (13 + t) a16y a18y a19y → sw_TM (13 + t) a17y →
    wL_law_82 post L xs kc ks (m + 1) (nI t) rm nt sk rc nc wc tc mt sd a1 a2 a3 a4 a5 a6 a7 a8 a9 a10 a11 a12 a13 a14 a15 a16 a17 a18 a19 a20 a21 a22 rm nty sky rc (nI (13 + t)) (nI (10 + t)) tcy mty sd a1 a2 a3 a4 a5 a6 a7 a8y a9 a10 a11 a12 a13 a14 a15 a16y a17y a18y a19y a20y a21y a22
  | 0, _, t, ht, a16y, a17y, a18y, a19y, hR, hM => by
    have e : t = 8 := by omega
    subst e
    refine br_t (by decide) ?_
    exact sw_wordA (n := 21) (w := 18) (e := 26) (m := 30) hR hM (by decide) (by decide) (by decide) (by decide) (by decide) (by decide) sw_q82z.1 sw_q82z.2.1 sw_q82z.2.2 (fun b16 b17 b18 b19 g1 g2 => br_t rfl (K b16 b17 b18 b19 g1 g2))
  | m + 1, hm, t, ht, a16y, a17y, a18y, a19y, hR, hM => by
    obtain ⟨q1, q2, q3, q4⟩ := sw_q82 t (by omega) (by omega)
    refine br_f (nI_ge (b := 8) (by omega) (by decide)) ?_
    rw [sw_w82, show (20 : Int32) + nI t = nI (20 + t) from nI_add 20 t]
    refine sw_wordB (n := 13 + t) (w := 10 + t) (c := 8) (d := 1 + t) (g := 12) (m := 20 + t) hR hM (by omega) (by omega) (by omega) (by decide) (by decide) (by omega) (by omega) (by omega) (by omega) q1 q2 q3 q4 (fun b16 b17 b18 b19 g1 g2 => br_t (nI_le (a := 1) (by omega) (by omega)) (nm_r (nI_1 t) ?_))
    exact sw_l82 K m (by omega) (t + 1) (by omega) b16 b17 b18 b19 g1 g2
theorem sw_l46 {post : Int32 → Prop} {L kc ks : Nat} {xs : Nat → Int32} {rm nt sk rc nc wc tc mt sd : Int32} {a1 a2 a3 a4 a5 a6 a7 a8 a9 a10 a11 a12 a13 a14 a15 a16 a17 a18 a19 a20 a21 a22 : Nat → Int32} {nty sky tcy mty : Int32} {a8y a20y a21y : Nat → Int32}
    (K : ∀ (a16y a17y a18y a19y : Nat → Int32), sw_TR 22 a16y a18y a19y → sw_TM 22 a17y → ∃ fu, wL_law_134 post L xs kc ks fu 0 rm nt sk rc nc wc tc mt sd a1 a2 a3 a4 a5 a6 a7 a8 a9 a10 a11 a12 a13 a14 a15 a16 a17 a18 a19 a20 a21 a22 rm nty sky rc (nI 22) (nI 19) tcy mty sd a1 a2 a3 a4 a5 a6 a7 a8y a9 a10 a11 a12 a13 a14 a15 a16y a17y a18y a19y a20y a21y a22) : ∀ (m : Nat), m ≤ 3 → ∀ (t : Nat), t + m = 4 → ∀ (a16y a17y a18y a19y : Nat → Int32), sw_TR (8 + t) a16y a18y a19y → sw_TM (8 + t) a17y →
    wL_law_46 post L xs kc ks (m + 1) (nI t) rm nt sk rc nc wc tc mt sd a1 a2 a3 a4 a5 a6 a7 a8 a9 a10 a11 a12 a13 a14 a15 a16 a17 a18 a19 a20 a21 a22 rm nty sky rc (nI (8 + t)) (nI (6 + t)) tcy mty sd a1 a2 a3 a4 a5 a6 a7 a8y a9 a10 a11 a12 a13 a14 a15 a16y a17y a18y a19y a20y a21y a22
  | 0, _, t, ht, a16y, a17y, a18y, a19y, hR, hM => by
    have e : t = 4 := by omega
    subst e
    refine br_t (by decide) (Exists.intro 9 (br_f (by decide) ?_))
    exact sw_wordC (n := 12) (w := 10) (c := 8) (d := 1) (m := 20) hR hM (by decide) (by decide) (by decide) (by decide) (by decide) (by decide) (by decide) (by decide) sw_q82c.1 sw_q82c.2.1 sw_q82c.2.2.1 sw_q82c.2.2.2.1 sw_q82c.2.2.2.2.1 sw_q82c.2.2.2.2.2 (fun b16 b17 b18 b19 g1 g2 => br_t (by decide) (nm_e (sw_l82 K 7 (by decide) 1 (by decide) b16 b17 b18 b19 g1 g2)))
  | m + 1, hm, t, ht, a16y, a17y, a18y, a19y, hR, hM => by
    obtain ⟨q1, q2, q3, q4⟩ := sw_q46 t (by omega) (by omega)
    refine br_f (nI_ge (b := 4) (by omega) (by decide)) ?_
    rw [sw_w46, show (10 : Int32) + nI t = nI (10 + t) from nI_add 10 t]
    refine sw_wordB (n := 8 + t) (w := 6 + t) (c := 7) (d := 1 + t) (g := 7) (m := 10 + t) hR hM (by omega) (by omega) (by omega) (by decide) (by decide) (by omega) (by omega) (by omega) (by omega) q1 q2 q3 q4 (fun b16 b17 b18 b19 g1 g2 => br_t (nI_le (a := 1) (by omega) (by omega)) (nm_r (nI_1 t) ?_))
    exact sw_l46 K m (by omega) (t + 1) (by omega) b16 b17 b18 b19 g1 g2
theorem sw_l18 {post : Int32 → Prop} {L kc ks : Nat} {xs : Nat → Int32} {rm nt sk rc nc wc tc mt sd : Int32} {a1 a2 a3 a4 a5 a6 a7 a8 a9 a10 a11 a12 a13 a14 a15 a16 a17 a18 a19 a20 a21 a22 : Nat → Int32} {nty sky tcy mty : Int32} {a8y a20y a21y : Nat → Int32}
    (K : ∀ (a16y a17y a18y a19y : Nat → Int32), sw_TR 22 a16y a18y a19y → sw_TM 22 a17y → ∃ fu, wL_law_134 post L xs kc ks fu 0 rm nt sk rc nc wc tc mt sd a1 a2 a3 a4 a5 a6 a7 a8 a9 a10 a11 a12 a13 a14 a15 a16 a17 a18 a19 a20 a21 a22 rm nty sky rc (nI 22) (nI 19) tcy mty sd a1 a2 a3 a4 a5 a6 a7 a8y a9 a10 a11 a12 a13 a14 a15 a16y a17y a18y a19y a20y a21y a22) : ∀ (m : Nat), m ≤ 6 → ∀ (t : Nat), t + m = 6 → ∀ (a16y a17y a18y a19y : Nat → Int32), sw_TR (1 + t) a16y a18y a19y → sw_TM (1 + t) a17y →
    wL_law_18 post L xs kc ks (m + 1) (nI t) rm nt sk rc nc wc tc mt sd a1 a2 a3 a4 a5 a6 a7 a8 a9 a10 a11 a12 a13 a14 a15 a16 a17 a18 a19 a20 a21 a22 rm nty sky rc (nI (1 + t)) (nI t) tcy mty sd a1 a2 a3 a4 a5 a6 a7 a8y a9 a10 a11 a12 a13 a14 a15 a16y a17y a18y a19y a20y a21y a22
  | 0, _, t, ht, a16y, a17y, a18y, a19y, hR, hM => by
    have e : t = 6 := by omega
    subst e
    refine br_t (by decide) (Exists.intro 5 (br_f (by decide) ?_))
    exact sw_wordC (n := 7) (w := 6) (c := 7) (d := 1) (m := 10) hR hM (by decide) (by decide) (by decide) (by decide) (by decide) (by decide) (by decide) (by decide) sw_q46c.1 sw_q46c.2.1 sw_q46c.2.2.1 sw_q46c.2.2.2.1 sw_q46c.2.2.2.2.1 sw_q46c.2.2.2.2.2 (fun b16 b17 b18 b19 g1 g2 => br_t (by decide) (nm_e (sw_l46 K 3 (by decide) 1 (by decide) b16 b17 b18 b19 g1 g2)))
  | m + 1, hm, t, ht, a16y, a17y, a18y, a19y, hR, hM => by
    obtain ⟨q1, q2, q3⟩ := sw_q18 t (by omega)
    refine br_f (nI_ge (b := 6) (by omega) (by decide)) ?_
    rw [show (1 : Int32) + nI t = nI (1 + t) from nI_add 1 t]
    refine sw_wordA (n := 1 + t) (w := t) (e := 1 + t) (m := t) hR hM (by omega) (by omega) (by omega) (by omega) (by omega) (by omega) q1 q2 q3 (fun b16 b17 b18 b19 g1 g2 => br_t (nI_le (a := 1) (by omega) (by omega)) (nm_r (nI_1 t) ?_))
    exact sw_l18 K m (by omega) (t + 1) (by omega) b16 b17 b18 b19 g1 g2
end
section
/-! the making of an object -/
theorem sw_i266 : ∀ (m : Nat), m ≤ 6 → ∀ (a13 a14 : Nat → Int32), (∀ j, j < 6 - m → a13 j = -1 ∧ a14 j = -1) → ∃ a13' a14', (∀ j, j < 6 → a13' j = -1 ∧ a14' j = -1) ∧ ∀ {post : St1 → Prop} {mc ms kc ks : Nat} {rm nt sk rc nc wc tc mt sd : Int32} {a1 a2 a3 a4 a5 a6 a7 a8 a9 a10 a11 a12 a15 a16 a17 a18 a19 a20 a21 a22 : Nat → Int32}, post (rm, nt, sk, rc, 1, wc, tc, mt, sd, a1, a2, a3, a4, a5, a6, a7, a8, a9, a10, a11, a12, a13', a14', a15, a16, upd a17 0 (-1), upd a18 0 (-1), a19, a20, a21, a22) → wX_init_266 post mc ms kc ks rm nt sk rc nc wc tc mt sd (m + 1) (nI (6 - m)) a1 a2 a3 a4 a5 a6 a7 a8 a9 a10 a11 a12 a13 a14 a15 a16 a17 a18 a19 a20 a21 a22
  | 0, _, a13, a14, h => ⟨a13, a14, h, fun H => br_t (by decide) (nm_e (nm_e H))⟩
  | m + 1, hm, a13, a14, h => by
    have e : nI (6 - (m + 1)) + 1 = nI (6 - m) := by rw [nI_1]; congr 1; omega
    have hcl : (nI (6 - (m + 1))).toNatClampNeg = 6 - (m + 1) := nI_clamp (by omega)
    obtain ⟨a13', a14', g1, g2⟩ := sw_i266 m (by omega) (upd a13 (6 - (m + 1)) (-1)) (upd a14 (6 - (m + 1)) (-1)) (fun j hj => by
      by_cases c : j = 6 - (m + 1)
      · rw [c, pk_us, pk_us]
        exact ⟨rfl, rfl⟩
      · rw [pk_un c, pk_un c]
        exact h j (by omega))
    refine ⟨a13', a14', g1, fun H => br_f (nI_ge (b := 6) (by omega) (by decide)) ⟨pk_in (6 - (m + 1)) 6 (by omega), nm_r (by rw [hcl]) ⟨pk_in (6 - (m + 1)) 6 (by omega), nm_r (by rw [hcl]) (nm_r e (g2 H))⟩⟩⟩
/-- where everything lies nowhere -/
def sw_Z (s : Nat) (a4 a5 a6 : Nat → Int32) : Prop := (∀ u, s ≤ u → u < 8 → a4 u = 7) ∧ sw_Ch a6 (a5 7) (List.range' s (8 - s)) ∧ (∀ p, p < 16 → p ≠ 7 → a5 p = -1)
theorem sw_i224 : ∀ (s : Nat), s ≤ 8 → ∀ (a4 a5 a6 : Nat → Int32), sw_Z s a4 a5 a6 → ∃ a4' a5' a6', sw_Z 0 a4' a5' a6' ∧ ∀ {post : St1 → Prop} {mc ms kc ks : Nat} {rm nt sk rc nc wc tc mt sd : Int32} {a1 a2 a3 a7 a8 a9 a10 a11 a12 a13 a14 a15 a16 a17 a18 a19 a20 a21 a22 : Nat → Int32}, (∃ fu, wX_init_266 post mc ms kc ks rm nt sk rc nc wc tc mt sd fu 0 a1 a2 a3 a4' a5' a6' a7 a8 a9 a10 a11 a12 a13 a14 a15 a16 a17 a18 a19 a20 a21 a22) → wX_init_224 post mc ms kc ks rm nt sk rc nc wc tc mt sd (s + 1) (if s = 0 then -1 else nI (s - 1)) a1 a2 a3 a4 a5 a6 a7 a8 a9 a10 a11 a12 a13 a14 a15 a16 a17 a18 a19 a20 a21 a22
  | 0, _, a4, a5, a6, h => ⟨a4, a5, a6, h, fun H => br_t (by decide) H⟩
  | s + 1, hs, a4, a5, a6, h => by
    obtain ⟨z1, z2, z3⟩ := h
    have hcl : (nI s).toNatClampNeg = s := nI_clamp (by omega)
    have hv : vp_nar .byte (a5 7) = a5 7 := sw_nar (sw_ch_hd z2 (fun x hx => by
      rw [List.mem_range'_1] at hx
      omega))
    obtain ⟨a4', a5', a6', g1, g2⟩ := sw_i224 s (by omega) (upd a4 s 7) (upd a5 7 (nI s)) (upd a6 s (a5 7)) (by
      refine ⟨?_, ?_, ?_⟩
      · intro u h1 h2
        by_cases c : u = s
        · rw [c, pk_us]
        · rw [pk_un c]
          exact z1 u (by omega) h2
      · rw [show 8 - s = (8 - (s + 1)) + 1 by omega, List.range'_succ, pk_us]
        refine ⟨rfl, ?_⟩
        rw [pk_us]
        refine sw_ch_upd (fun hx => ?_) z2
        rw [List.mem_range'_1] at hx
        omega
      · intro p h1 h2
        rw [pk_un h2]
        exact z3 p h1 h2)
    refine ⟨a4', a5', a6', g1, fun H => ?_⟩
    rw [if_neg (Nat.succ_ne_zero s), Nat.add_sub_cancel]
    refine br_f (nI_pos (by omega)) ⟨pk_in s 8 (by omega), nm_r (e' := upd a4 s 7) (by rw [hcl]) ⟨pk_in s 8 (by omega), nm_r (e' := upd a6 s (a5 7)) (by rw [hcl, hv]) (nm_r (e' := upd a5 7 (nI s)) (by rw [sw_b8 s (by omega)]) (nm_r (e' := if s = 0 then -1 else nI (s - 1)) ?_ (g2 H)))⟩⟩
    by_cases c : s = 0
    · rw [if_pos c, c]
      decide
    · rw [if_neg c]
      exact sb_m1 (by omega)
theorem sw_i202 : ∀ (m : Nat), m ≤ 16 → ∀ (a5 : Nat → Int32), (∀ j, j < 16 - m → a5 j = -1) → ∃ a5', (∀ j, j < 16 → a5' j = -1) ∧ ∀ {post : St1 → Prop} {mc ms kc ks : Nat} {rm nt sk rc nc wc tc mt sd : Int32} {a1 a2 a3 a4 a6 a7 a8 a9 a10 a11 a12 a13 a14 a15 a16 a17 a18 a19 a20 a21 a22 : Nat → Int32}, (∃ fu, wX_init_224 post mc ms kc ks rm nt sk rc nc wc tc mt sd fu 7 a1 a2 a3 a4 a5' a6 a7 a8 a9 a10 a11 a12 a13 a14 a15 a16 a17 a18 a19 a20 a21 a22) → wX_init_202 post mc ms kc ks rm nt sk rc nc wc tc mt sd (m + 1) (nI (16 - m)) a1 a2 a3 a4 a5 a6 a7 a8 a9 a10 a11 a12 a13 a14 a15 a16 a17 a18 a19 a20 a21 a22
  | 0, _, a5, h => ⟨a5, h, fun H => br_t (by decide) H⟩
  | m + 1, hm, a5, h => by
    have e : nI (16 - (m + 1)) + 1 = nI (16 - m) := by rw [nI_1]; congr 1; omega
    have hcl : (nI (16 - (m + 1))).toNatClampNeg = 16 - (m + 1) := nI_clamp (by omega)
    obtain ⟨a5', g1, g2⟩ := sw_i202 m (by omega) (upd a5 (16 - (m + 1)) (-1)) (fun j hj => by
      by_cases c : j = 16 - (m + 1)
      · rw [c, pk_us]
      · rw [pk_un c]
        exact h j (by omega))
    refine ⟨a5', g1, fun H => br_f (nI_ge (b := 16) (by omega) (by decide)) ⟨pk_in (16 - (m + 1)) 16 (by omega), nm_r (by rw [hcl]) (nm_r e (g2 H))⟩⟩
theorem sw_i181 : ∀ (m : Nat), m ≤ 24 → ∀ (a2 : Nat → Int32), (∀ j, j < 24 - m → a2 j = -1) → ∃ a2', (∀ j, j < 24 → a2' j = -1) ∧ ∀ {post : St1 → Prop} {mc ms kc ks : Nat} {rm nt sk rc nc wc tc mt sd : Int32} {a1 a3 a4 a5 a6 a7 a8 a9 a10 a11 a12 a13 a14 a15 a16 a17 a18 a19 a20 a21 a22 : Nat → Int32}, (∃ fu, wX_init_202 post mc ms kc ks rm nt sk rc nc wc tc mt sd fu 0 a1 a2' a3 a4 a5 a6 a7 a8 a9 a10 a11 a12 a13 a14 a15 a16 a17 a18 a19 a20 a21 a22) → wX_init_181 post mc ms kc ks rm nt sk rc nc wc tc mt sd (m + 1) (nI (24 - m)) a1 a2 a3 a4 a5 a6 a7 a8 a9 a10 a11 a12 a13 a14 a15 a16 a17 a18 a19 a20 a21 a22
  | 0, _, a2, h => ⟨a2, h, fun H => br_t (by decide) H⟩
  | m + 1, hm, a2, h => by
    have e : nI (24 - (m + 1)) + 1 = nI (24 - m) := by rw [nI_1]; congr 1; omega
    have hcl : (nI (24 - (m + 1))).toNatClampNeg = 24 - (m + 1) := nI_clamp (by omega)
    obtain ⟨a2', g1, g2⟩ := sw_i181 m (by omega) (upd a2 (24 - (m + 1)) (-1)) (fun j hj => by
      by_cases c : j = 24 - (m + 1)
      · rw [c, pk_us]
      · rw [pk_un c]
        exact h j (by omega))
    refine ⟨a2', g1, fun H => br_f (nI_ge (b := 24) (by omega) (by decide)) ⟨pk_in (24 - (m + 1)) 24 (by omega), nm_r (by rw [hcl]) (nm_r e (g2 H))⟩⟩
theorem sw_zpi {a4 a5 a6 : Nat → Int32} (h : sw_Z 0 a4 a5 a6) : sw_PI a4 a5 a6 := by
  obtain ⟨z1, z2, z3⟩ := h
  refine ⟨fun _ => 7, fun p => if p = 7 then List.range' 0 8 else [], fun t ht => ⟨z1 t (by omega) ht, by show 7 < 16; decide⟩, fun p hp => ?_, fun t ht => ⟨0, by show 7 < 8; decide⟩⟩
  dsimp only
  by_cases c : p = 7
  · rw [if_pos c, c]
    refine ⟨z2, by decide, fun t => ?_⟩
    rw [List.mem_range'_1]
    constructor
    · intro g
      exact ⟨by omega, rfl⟩
    · intro g
      omega
  · rw [if_neg c]
    refine ⟨z3 p hp c, List.nodup_nil, fun t => ?_⟩
    constructor
    · intro g
      cases g
    · intro g
      exact absurd g.2.symm c
theorem sw_init : ∃ a2 a4 a5 a6 a13 a14, sw_I 0 0 0 0 a2 a4 a5 a6 (fun _ => 0) (fun _ => 0) (fun _ => 0) a13 a14 (fun _ => 0) ∧ ∀ {post : St1 → Prop}, post (0, 0, 0, 0, 1, 0, 0, 0, 0, (fun _ => 0), a2, (fun _ => 0), a4, a5, a6, (fun _ => 0), (fun _ => 0), (fun _ => 0), (fun _ => 0), (fun _ => 0), (fun _ => 0), a13, a14, (fun _ => 0), (fun _ => 0), upd (fun _ => 0) 0 (-1), upd (fun _ => 0) 0 (-1), (fun _ => 0), (fun _ => 0), (fun _ => 0), (fun _ => 0)) → wpX_init post 22 676 (0, 0, 0, 0, 0, 0, 0, 0, 0) := by
  obtain ⟨a2, p1, p2⟩ := sw_i181 24 (by omega) (fun _ => 0) (fun j hj => absurd hj (by omega))
  obtain ⟨a5, q1, q2⟩ := sw_i202 16 (by omega) (fun _ => 0) (fun j hj => absurd hj (by omega))
  obtain ⟨a4, a5', a6, r1, r2⟩ := sw_i224 8 (by omega) (fun _ => 0) a5 (fun _ => 0) ⟨fun u h1 h2 => by omega, q1 7 (by decide), fun p hp _ => q1 p hp⟩
  obtain ⟨a13, a14, s1, s2⟩ := sw_i266 6 (by omega) (fun _ => 0) (fun _ => 0) (fun j hj => absurd hj (by omega))
  refine ⟨a2, a4, a5', a6, a13, a14, ⟨⟨⟨0, by decide, rfl⟩, ⟨0, by decide, rfl⟩, sw_zpi r1⟩, fun j hj => Or.inl (p1 j hj), ⟨0, fun _ => 0, by decide, rfl, fun r hr => absurd hr (by omega), fun v hv => ⟨(s1 v hv).1, (s1 v hv).2⟩⟩⟩, fun H => ?_⟩
  refine And.intro (by decide) ⟨by decide, by decide, by decide, by decide, by decide, by decide, by decide, by decide, by decide, by decide, by decide, by decide, by decide, by decide, by decide, by decide, by decide, by decide, by decide, by decide, by decide, by decide, by decide, by decide, by decide, by decide, by decide, by decide, by decide, by decide, by decide, by decide, by decide, by decide, by decide, by decide, by decide, by decide, by decide, by decide, by decide, by decide, by decide, ?_⟩
  exact Exists.intro 25 (p2 (Exists.intro 17 (q2 (Exists.intro 9 (r2 (Exists.intro 7 (s2 H)))))))
theorem i_vc (xs : Nat → Int32) (L : Nat) (hL : L ≤ 260) : wpL_law (fun r => r = 1) L xs := by
  obtain ⟨a2, a4, a5, a6, a13, a14, hI, hi⟩ := sw_init
  refine Exists.intro 22 (Exists.intro 676 ⟨by decide, by decide, hi ⟨by decide, by decide, 22, 676, by decide, by decide, hi ?_⟩⟩)
  refine Exists.intro 7 ?_
  refine sw_l18 (fun b16 b17 b18 b19 hR hM => Exists.intro 66 ?_) 6 (by decide) 0 (by decide) _ _ _ _ ?_ ?_
  · exact sw_l134 hL 65 0 0 (by omega) (by omega) (by omega) _ _ _ _ _ _ _ _ _ _ _ _ _ _ _ _ _ _ hI _ _ _ _ _ _ _ _ _ _ _ _ _ _ _ _ _ _ _ _ _ _ _ _ hR hM
  · intro j hj
    have e : j = 0 := by omega
    subst e
    exact ⟨show sw_Ch _ _ [] from pk_us, fun z => absurd z (by decide)⟩
  · intro j hj
    have e : j = 0 := by omega
    subst e
    exact pk_us
end
