section
/-! the pure picture: bytes, delta programs, chunks, chains -/
/-- one byte -/
def sd_B (x : Int32) : Prop := ∃ t : Nat, t < 256 ∧ x = nI t
/-- one cell q of a program: from place i to place i' of the bytes f (n of them), against the base g (m bytes) -/
def sd_st (q : Int32) (m : Nat) (g : Nat → Int32) (n : Nat) (f : Nat → Int32) (i i' : Nat) : Prop :=
  i' ≤ n ∧ ((i' = i + 1 ∧ ∃ t : Nat, t < 256 ∧ q = nI t ∧ f i = nI t) ∨
    (∃ s l : Nat, s + l + 1 ≤ m ∧ l < 16 ∧ i' = i + (l + 1) ∧ q = nI (256 + (s * 16 + l)) ∧ ∀ j, j < l + 1 → f (i + j) = g (s + j)))
/-- c cells q write the first i bytes of f -/
def sd_pg (q : Nat → Int32) (m : Nat) (g : Nat → Int32) (n : Nat) (f : Nat → Int32) (c i : Nat) : Prop :=
  ∃ pos : Nat → Nat, pos 0 = 0 ∧ pos c = i ∧ ∀ p, p < c → sd_st (q p) m g n f (pos p) (pos (p + 1))
theorem sd_pg_0 {q : Nat → Int32} {m : Nat} {g : Nat → Int32} {n : Nat} {f : Nat → Int32} : sd_pg q m g n f 0 0 :=
  ⟨fun _ => 0, rfl, rfl, fun p hp => absurd hp (Nat.not_lt_zero p)⟩
theorem sd_pg_add {q q' : Nat → Int32} {m : Nat} {g : Nat → Int32} {n : Nat} {f : Nat → Int32} {c i i' : Nat} (h : sd_pg q m g n f c i)
    (hq : ∀ p, p < c → q' p = q p) (hs : sd_st (q' c) m g n f i i') : sd_pg q' m g n f (c + 1) i' := by
  obtain ⟨pos, h0, hc, hp⟩ := h
  refine ⟨fun k => if k = c + 1 then i' else pos k, ?_, ?_, ?_⟩
  · show (if 0 = c + 1 then i' else pos 0) = 0
    rw [if_neg (by omega), h0]
  · show (if c + 1 = c + 1 then i' else pos (c + 1)) = i'
    rw [if_pos rfl]
  · intro p hpc
    show sd_st (q' p) m g n f (if p = c + 1 then i' else pos p) (if p + 1 = c + 1 then i' else pos (p + 1))
    by_cases e : p = c
    · rw [if_neg (by omega), if_pos (by omega), e, hc]
      exact hs
    · rw [if_neg (by omega), if_neg (by omega), hq p (by omega)]
      exact hp p (by omega)
theorem sd_st_congr {q : Int32} {m : Nat} {g g' : Nat → Int32} {n : Nat} {f : Nat → Int32} {i i' : Nat} (hg : ∀ j, j < m → g' j = g j)
    (h : sd_st q m g n f i i') : sd_st q m g' n f i i' := by
  obtain ⟨h1, h2 | ⟨s, l, h3, h4, h5, h6, h7⟩⟩ := h
  · exact ⟨h1, Or.inl h2⟩
  · exact ⟨h1, Or.inr ⟨s, l, h3, h4, h5, h6, fun j hj => by rw [h7 j hj, hg (s + j) (by omega)]⟩⟩
theorem sd_pg_congr {q q' : Nat → Int32} {m : Nat} {g g' : Nat → Int32} {n : Nat} {f : Nat → Int32} {c i : Nat}
    (hq : ∀ p, p < c → q' p = q p) (hg : ∀ j, j < m → g' j = g j) (h : sd_pg q m g n f c i) : sd_pg q' m g' n f c i := by
  obtain ⟨pos, h0, hc, hp⟩ := h
  exact ⟨pos, h0, hc, fun p hpc => by rw [hq p hpc]; exact sd_st_congr hg (hp p hpc)⟩
/-- chunk x lies raw -/
def sd_ra (N : Nat → Nat) (F : Nat → Nat → Int32) (a6 a7 a9 : Nat → Int32) (x : Nat) : Prop :=
  N x ≤ 16 ∧ a6 x = nI (N x) ∧ a7 x = nI 0 ∧ ∀ j, j < N x → a9 (x * 16 + j) = F x j
/-- chunk x lies as a program over chunk b -/
def sd_li (N : Nat → Nat) (F : Nat → Nat → Int32) (a6 a7 a8 a9 : Nat → Int32) (x b : Nat) : Prop :=
  N x ≤ 16 ∧ N b ≤ 16 ∧ a6 x = nI (N x) ∧ a7 x = nI (b + 1) ∧
    ∃ c : Nat, c ≤ 16 ∧ a8 x = nI c ∧ sd_pg (fun p => a9 (x * 16 + p)) (N b) (F b) (N x) (F x) c (N x)
/-- a chain of at most k bases lies below x, all in Z -/
def sd_rp (Z : Nat → Prop) (N : Nat → Nat) (F : Nat → Nat → Int32) (a6 a7 a8 a9 : Nat → Int32) : Nat → Nat → Prop
  | 0 => fun x => x < 96 ∧ Z x ∧ sd_ra N F a6 a7 a9 x
  | k + 1 => fun x => x < 96 ∧ Z x ∧ (sd_ra N F a6 a7 a9 x ∨ ∃ b, sd_li N F a6 a7 a8 a9 x b ∧ sd_rp Z N F a6 a7 a8 a9 k b)
theorem sd_rp_in {Z : Nat → Prop} {N : Nat → Nat} {F : Nat → Nat → Int32} {a6 a7 a8 a9 : Nat → Int32} :
    ∀ {k x : Nat}, sd_rp Z N F a6 a7 a8 a9 k x → x < 96 ∧ Z x ∧ N x ≤ 16 ∧ a6 x = nI (N x)
  | 0, _, h => ⟨h.1, h.2.1, h.2.2.1, h.2.2.2.1⟩
  | k + 1, _, h => by
    obtain ⟨h1, h2, h3 | ⟨b, h3, _⟩⟩ := h
    · exact ⟨h1, h2, h3.1, h3.2.1⟩
    · exact ⟨h1, h2, h3.1, h3.2.2.1⟩
theorem sd_rp_s {Z : Nat → Prop} {N : Nat → Nat} {F : Nat → Nat → Int32} {a6 a7 a8 a9 : Nat → Int32} :
    ∀ {k x : Nat}, sd_rp Z N F a6 a7 a8 a9 k x → sd_rp Z N F a6 a7 a8 a9 (k + 1) x
  | 0, _, h => ⟨h.1, h.2.1, Or.inl h.2.2⟩
  | k + 1, _, h => by
    obtain ⟨h1, h2, h3 | ⟨b, h3, h4⟩⟩ := h
    · exact ⟨h1, h2, Or.inl h3⟩
    · exact ⟨h1, h2, Or.inr ⟨b, h3, sd_rp_s h4⟩⟩
/-- chains move to another state: each record stays or becomes raw -/
theorem sd_rp_mv {Z Z' : Nat → Prop} {N N' : Nat → Nat} {F F' : Nat → Nat → Int32} {a6 a7 a8 a9 c6 c7 c8 c9 : Nat → Int32} {C : Nat → Prop}
    (hr : ∀ x, x < 96 → Z x → C x → Z' x ∧ (sd_ra N F a6 a7 a9 x → sd_ra N' F' c6 c7 c9 x) ∧
      ∀ b, b < 96 → Z b → sd_li N F a6 a7 a8 a9 x b → sd_ra N' F' c6 c7 c9 x ∨ (C b ∧ sd_li N' F' c6 c7 c8 c9 x b)) :
    ∀ (k x : Nat), C x → sd_rp Z N F a6 a7 a8 a9 k x → sd_rp Z' N' F' c6 c7 c8 c9 k x := by
  intro k
  induction k with
  | zero =>
    intro x hC h
    obtain ⟨h1, h2, h3⟩ := h
    obtain ⟨r1, r2, _⟩ := hr x h1 h2 hC
    exact ⟨h1, r1, r2 h3⟩
  | succ k ih =>
    intro x hC h
    obtain ⟨h1, h2, h3 | ⟨b, h3, h4⟩⟩ := h
    · obtain ⟨r1, r2, _⟩ := hr x h1 h2 hC
      exact ⟨h1, r1, Or.inl (r2 h3)⟩
    · obtain ⟨r1, _, r3⟩ := hr x h1 h2 hC
      obtain ⟨i1, i2, _⟩ := sd_rp_in h4
      rcases r3 b i1 i2 h3 with r | ⟨r, r'⟩
      · exact ⟨h1, r1, Or.inl r⟩
      · exact ⟨h1, r1, Or.inr ⟨b, r', ih b r h4⟩⟩
theorem sd_ra_fr {N N' : Nat → Nat} {F F' : Nat → Nat → Int32} {a6 a7 a9 c6 c7 c9 : Nat → Int32} {x : Nat} (hN : N' x = N x) (hF : F' x = F x)
    (h6 : c6 x = a6 x) (h7 : c7 x = a7 x) (h9 : ∀ j, j < 16 → c9 (x * 16 + j) = a9 (x * 16 + j)) (h : sd_ra N F a6 a7 a9 x) : sd_ra N' F' c6 c7 c9 x := by
  obtain ⟨k1, k2, k3, k4⟩ := h
  unfold sd_ra
  rw [hN, hF, h6, h7]
  exact ⟨k1, k2, k3, fun j hj => by rw [h9 j (by omega)]; exact k4 j hj⟩
theorem sd_li_fr {N N' : Nat → Nat} {F F' : Nat → Nat → Int32} {a6 a7 a8 a9 c6 c7 c8 c9 : Nat → Int32} {x b : Nat} (hN : N' x = N x) (hF : F' x = F x)
    (hNb : N' b = N b) (hFb : F' b = F b) (h6 : c6 x = a6 x) (h7 : c7 x = a7 x) (h8 : c8 x = a8 x)
    (h9 : ∀ j, j < 16 → c9 (x * 16 + j) = a9 (x * 16 + j)) (h : sd_li N F a6 a7 a8 a9 x b) : sd_li N' F' c6 c7 c8 c9 x b := by
  obtain ⟨k1, k2, k3, k4, c, k5, k6, k7⟩ := h
  unfold sd_li
  rw [hN, hF, hNb, hFb, h6, h7, h8]
  exact ⟨k1, k2, k3, k4, c, k5, k6, sd_pg_congr (fun p hp => h9 p (by omega)) (fun j _ => rfl) k7⟩
/-- a chain that nothing touched -/
theorem sd_rp_fr {Z Z' : Nat → Prop} {N N' : Nat → Nat} {F F' : Nat → Nat → Int32} {a6 a7 a8 a9 c6 c7 c8 c9 : Nat → Int32}
    (hr : ∀ x, x < 96 → Z x → Z' x ∧ N' x = N x ∧ F' x = F x ∧ c6 x = a6 x ∧ c7 x = a7 x ∧ c8 x = a8 x ∧ ∀ j, j < 16 → c9 (x * 16 + j) = a9 (x * 16 + j))
    {k x : Nat} (h : sd_rp Z N F a6 a7 a8 a9 k x) : sd_rp Z' N' F' c6 c7 c8 c9 k x := by
  refine sd_rp_mv (C := fun _ => True) (fun x hx hz _ => ?_) k x trivial h
  obtain ⟨r1, r2, r3, r4, r5, r6, r7⟩ := hr x hx hz
  refine ⟨r1, sd_ra_fr r2 r3 r4 r5 r7, fun b hb zb hl => Or.inr ⟨trivial, ?_⟩⟩
  obtain ⟨_, s2, s3, _⟩ := hr b hb zb
  exact sd_li_fr r2 r3 s2 s3 r4 r5 r6 r7 hl
/-- the heap of chunks: R uses, N lengths, F bytes; from K on all are free -/
def sd_H (R N : Nat → Nat) (F : Nat → Nat → Int32) (K : Nat) (a5 a6 a7 a8 a9 : Nat → Int32) : Prop :=
  (∀ x, x < 96 → a5 x = nI (R x)) ∧ (∀ x, R x ≤ K) ∧ (∀ x, K ≤ x → R x = 0) ∧
    ∀ x, 0 < R x → sd_rp (fun y => 0 < R y) N F a6 a7 a8 a9 2 x
/-- one use more -/
def sd_inc (R : Nat → Nat) (i : Nat) : Nat → Nat := fun x => R x + if x = i then 1 else 0
/-- how often x stands among the first n of I -/
def sd_occ (I : Nat → Nat) : Nat → Nat → Nat
  | 0 => fun _ => 0
  | n + 1 => fun x => sd_occ I n x + if x = I n then 1 else 0
theorem sd_occ_le {I : Nat → Nat} {x : Nat} : ∀ {n k : Nat}, k ≤ n → sd_occ I k x ≤ sd_occ I n x := by
  intro n
  induction n with
  | zero => intro k hk; have : k = 0 := by omega
            rw [this]; exact Nat.le_refl _
  | succ n ih =>
    intro k hk
    by_cases e : k = n + 1
    · rw [e]; exact Nat.le_refl _
    · have := ih (show k ≤ n by omega)
      show _ ≤ sd_occ I n x + _
      omega
theorem sd_occ_pos {I : Nat → Nat} {n k : Nat} (h : k < n) : 0 < sd_occ I n (I k) := by
  have h1 : sd_occ I (k + 1) (I k) ≤ sd_occ I n (I k) := sd_occ_le (by omega)
  have h2 : sd_occ I (k + 1) (I k) = sd_occ I k (I k) + 1 := by
    show sd_occ I k (I k) + (if I k = I k then 1 else 0) = _
    rw [if_pos rfl]
  omega
theorem sd_occ_congr {I J : Nat → Nat} {x : Nat} : ∀ {n : Nat}, (∀ k, k < n → J k = I k) → sd_occ J n x = sd_occ I n x := by
  intro n
  induction n with
  | zero => intro _; rfl
  | succ n ih =>
    intro h
    show sd_occ J n x + (if x = J n then 1 else 0) = sd_occ I n x + (if x = I n then 1 else 0)
    rw [ih (fun k hk => h k (by omega)), h n (by omega)]
/-- the joined length of the first k parts -/
def sd_sm (N I : Nat → Nat) : Nat → Nat
  | 0 => 0
  | k + 1 => sd_sm N I k + N (I k)
theorem sd_sm_congr {N M I J : Nat → Nat} : ∀ {n : Nat}, (∀ k, k < n → M (J k) = N (I k)) → sd_sm M J n = sd_sm N I n := by
  intro n
  induction n with
  | zero => intro _; rfl
  | succ n ih =>
    intro h
    show sd_sm M J n + M (J n) = sd_sm N I n + N (I n)
    rw [ih (fun k hk => h k (by omega)), h n (by omega)]
theorem sd_sm_le {N I : Nat → Nat} : ∀ {n k : Nat}, k ≤ n → sd_sm N I k ≤ sd_sm N I n := by
  intro n
  induction n with
  | zero => intro k hk; have : k = 0 := by omega
            rw [this]; exact Nat.le_refl _
  | succ n ih =>
    intro k hk
    by_cases e : k = n + 1
    · rw [e]; exact Nat.le_refl _
    · have := ih (show k ≤ n by omega)
      show _ ≤ sd_sm N I n + _
      omega
/-- what the slot's parts hold: P ids I, their bytes joined are f, n of them -/
def sd_C (N : Nat → Nat) (F : Nat → Nat → Int32) (P : Nat) (I : Nat → Nat) (n : Nat) (f : Nat → Int32) : Prop :=
  sd_sm N I P = n ∧ ∀ k, k < P → ∀ j, j < N (I k) → F (I k) j = f (sd_sm N I k + j)
/-- the slot's own cells -/
def sd_L (s P : Nat) (I : Nat → Nat) (a2 a3 a4 : Nat → Int32) : Prop :=
  P ≤ 16 ∧ a2 s = nI 1 ∧ a3 s = nI P ∧ ∀ k, k < P → a4 (s * 16 + k) = nI (I k)
theorem sd_C_mv {N N' : Nat → Nat} {F F' : Nat → Nat → Int32} {P : Nat} {I : Nat → Nat} {n : Nat} {f : Nat → Int32}
    (hr : ∀ k, k < P → N' (I k) = N (I k) ∧ F' (I k) = F (I k)) (h : sd_C N F P I n f) : sd_C N' F' P I n f := by
  obtain ⟨h1, h2⟩ := h
  refine ⟨by rw [sd_sm_congr (fun k hk => (hr k hk).1)]; exact h1, fun k hk j hj => ?_⟩
  rw [(hr k hk).2, sd_sm_congr (N := N) (I := I) (fun i hi => (hr i (by omega)).1)]
  exact h2 k hk j (by rw [← (hr k hk).1]; exact hj)
theorem sd_L_mv {s P : Nat} {I : Nat → Nat} {a2 a3 a4 c2 c3 c4 : Nat → Int32} (h2 : c2 s = a2 s) (h3 : c3 s = a3 s)
    (h4 : ∀ k, k < 16 → c4 (s * 16 + k) = a4 (s * 16 + k)) (h : sd_L s P I a2 a3 a4) : sd_L s P I c2 c3 c4 := by
  obtain ⟨k1, k2, k3, k4⟩ := h
  unfold sd_L
  rw [h2, h3]
  exact ⟨k1, k2, k3, fun k hk => by rw [h4 k (by omega)]; exact k4 k hk⟩
/-- small numbers -/
theorem sd_ix (x p : Nat) : nI x * 16 + nI p = nI (x * 16 + p) := by
  rw [show (16 : Int32) = nI 16 from rfl, pk_mul, nI_add]
theorem sd_u {f : Nat → Int32} {k k' : Nat} {x : Int32} (h : k' = k) : upd f k x k' = x := by rw [h, pk_us]
end
section
/-! copyBytes, runProgram, writeOut -/
theorem sd_copy {post : Int32 → St1 → Prop} {sg pl : Int32} {a1 a2 a3 a4 a5 a6 a7 a8 a9 a10 a11 a12 a13 a14 a15 a16 a17 : Nat → Int32} {p0 p1 p2 : Int32} {f t l : Nat} (e0 : p0 = nI f) (e1 : p1 = nI l) (e2 : p2 = nI t) (hf : f + l ≤ 16) (ht : t + l ≤ 16)
    (H : ∀ o : Nat → Int32, (∀ j, j < t → o j = a14 j) → (∀ j, j < l → o (t + j) = a15 (f + j)) → post (nI (t + l)) (sg, pl, a1, a2, a3, a4, a5, a6, a7, a8, a9, a10, a11, a12, a13, o, a15, a16, a17)) :
    wpX_copyBytes post (sg, pl, a1, a2, a3, a4, a5, a6, a7, a8, a9, a10, a11, a12, a13, a14, a15, a16, a17) p0 p1 p2 := by
  subst e0 e1 e2
  refine pk_loop (fun n i s => wX_copyBytes_6 post (nI f) (nI l) sg pl n (nI (t + i)) (nI i) a1 a2 a3 a4 a5 a6 a7 a8 a9 a10 a11 a12 a13 s a15 a16 a17)
    (fun i s => (∀ j, j < t → s j = a14 j) ∧ ∀ j, j < i → s (t + j) = a15 (f + j)) l 0 a14 (Nat.zero_le _) ⟨fun j _ => rfl, fun j hj => absurd hj (Nat.not_lt_zero j)⟩ ?_ ?_
  · intro n s h
    exact pk_le l l (fun _ => H s h.1 h.2) (fun z => absurd z (by omega))
  · intro n i s hi h hw
    refine pk_le l i (fun z => absurd z (by omega)) (fun _ => ?_)
    refine pk_le 16 (t + i) (fun z => absurd z (by omega)) (fun _ => ?_)
    refine pk_le 16 (f + i) (fun z => absurd z (by omega)) (fun _ => ?_) (hy := nI_add f i)
    refine ⟨pk_in (f + i) 16 (by omega) (nI_add f i), pk_in (t + i) 16 (by omega), nm_r (e' := upd s (t + i) (a15 (f + i))) ?_ (nm_r (nI_1 (t + i)) (nm_r (nI_1 i) (hw _ ?_)))⟩
    · rw [nI_add, nI_clamp (show t + i < 2 ^ 31 by omega), nI_clamp (show f + i < 2 ^ 31 by omega)]
    · refine ⟨fun j hj => ?_, fun j hj => ?_⟩
      · rw [pk_un (by omega)]
        exact h.1 j hj
      · by_cases e : j = i
        · rw [e, pk_us]
        · rw [pk_un (by omega)]
          exact h.2 j (by omega)
theorem sd_run30 {post : St1 → Prop} {sg pl : Int32} {a1 a2 a3 a4 a5 a6 a7 a8 a9 a10 a11 a12 a13 a14 a15 a16 a17 : Nat → Int32} {x c n m : Nat} {g f : Nat → Int32} (hx : x < 96) (hc : c ≤ 16) (hn : n ≤ 16) (hm : m ≤ 16) (h8 : a8 x = nI c)
    (hp : sd_pg (fun p => a9 (x * 16 + p)) m g n f c n) (hg : ∀ j, j < m → a15 j = g j)
    (H : ∀ o : Nat → Int32, (∀ j, j < n → o j = f j) → post (sg, pl, a1, a2, a3, a4, a5, a6, a7, a8, a9, a10, a11, a12, a13, o, a15, a16, a17)) : ∃ fu, wX_runProgram_30 post (nI x) fu 0 0 sg pl a1 a2 a3 a4 a5 a6 a7 a8 a9 a10 a11 a12 a13 a14 a15 a16 a17 := by
  obtain ⟨pos, p0, pc, st⟩ := hp
  have hcl : (nI x).toNatClampNeg = x := nI_clamp (by omega)
  refine pk_loop (σ := Nat × (Nat → Int32)) (fun k p s => wX_runProgram_30 post (nI x) k (nI s.1) (nI p) sg pl a1 a2 a3 a4 a5 a6 a7 a8 a9 a10 a11 a12 a13 s.2 a15 a16 a17)
    (fun p s => s.1 = pos p ∧ ∀ j, j < pos p → s.2 j = f j) c 0 (0, a14) (Nat.zero_le _) ⟨p0.symm, fun j hj => absurd hj (by omega)⟩ ?_ ?_
  · intro k s h
    obtain ⟨s1, s2⟩ := s
    obtain ⟨i1, i2⟩ := h
    dsimp only at i1 i2 ⊢
    exact ⟨pk_in x 96 hx, pk_le c c (fun _ => H s2 (fun j hj => i2 j (by omega))) (fun z => absurd z (by omega)) (hx := by rw [hcl]; exact h8)⟩
  · intro k p s hpc h hw
    obtain ⟨s1, s2⟩ := s
    obtain ⟨i1, i2⟩ := h
    dsimp only at i1 i2 hw ⊢
    have st' : sd_st (a9 (x * 16 + p)) m g n f (pos p) (pos (p + 1)) := st p hpc
    rw [← i1] at st' i2
    refine ⟨pk_in x 96 hx, pk_le c p (fun z => absurd z (by omega)) (fun _ => ?_) (hx := by rw [hcl]; exact h8)⟩
    refine ⟨pk_in (x * 16 + p) 1536 (by omega) (sd_ix x p), nm_r (e' := a9 (x * 16 + p)) (by rw [sd_ix, nI_clamp (show x * 16 + p < 2 ^ 31 by omega)]) ?_⟩
    obtain ⟨hle, ⟨e, t, ht, eq, ef⟩ | ⟨s, l, h1, h2, e, eq, ef⟩⟩ := st'
    · refine pk_le 256 t (fun z => absurd z (by omega)) (fun _ => ?_) (hy := eq)
      refine pk_le 16 s1 (fun z => absurd z (by omega)) (fun _ => ?_)
      refine ⟨pk_in s1 16 (by omega), nm_r (e' := upd s2 s1 (nI t)) (by rw [nI_clamp (show s1 < 2 ^ 31 by omega), eq]) (nm_r (nI_1 s1) (nm_r (nI_1 p) (hw (s1 + 1, upd s2 s1 (nI t)) ⟨e.symm, fun j hj => ?_⟩)))⟩
      rw [e] at hj
      show upd s2 s1 (nI t) j = f j
      by_cases ej : j = s1
      · rw [ej, pk_us, ef]
      · rw [pk_un ej]
        exact i2 j (by omega)
    · have q1 : a9 (x * 16 + p) - 256 = nI (s * 16 + l) := by
        rw [eq, show (256 : Int32) = nI 256 from rfl, pk_sub (by omega)]
        exact congrArg nI (by omega)
      refine pk_le 256 (256 + (s * 16 + l)) (fun _ => ?_) (fun z => absurd z (by omega)) (hy := eq)
      refine sd_copy (f := s) (t := s1) (l := l + 1) ?_ ?_ rfl (by omega) (by omega) (fun o o1 o2 => ?_)
      · rw [q1, pk_shrN (by omega) _ 4 (by decide)]
        exact congrArg nI (by omega)
      · rw [q1, pk_andN (by omega) 4 (by decide), nI_1]
        exact congrArg nI (by omega)
      · refine nm_r (nI_1 p) (hw (s1 + (l + 1), o) ⟨e.symm, fun j hj => ?_⟩)
        rw [e] at hj
        show o j = f j
        by_cases ej : j < s1
        · rw [o1 j ej]
          exact i2 j ej
        · obtain ⟨d, rfl⟩ : ∃ d, j = s1 + d := ⟨j - s1, by omega⟩
          rw [o2 d (by omega), ef d (by omega), hg (s + d) (by omega)]
theorem sd_run {post : St1 → Prop} {sg pl : Int32} {a1 a2 a3 a4 a5 a6 a7 a8 a9 a10 a11 a12 a13 a14 a15 a16 a17 : Nat → Int32} {N : Nat → Nat} {F : Nat → Nat → Int32} {p0 : Int32} {x b : Nat} (e0 : p0 = nI x) (hx : x < 96) (hl : sd_li N F a6 a7 a8 a9 x b)
    (hb : ∀ j, j < N b → a14 j = F b j) (H : ∀ o u : Nat → Int32, (∀ j, j < N x → o j = F x j) → post (sg, pl, a1, a2, a3, a4, a5, a6, a7, a8, a9, a10, a11, a12, a13, o, u, a16, a17)) :
    wpX_runProgram post (sg, pl, a1, a2, a3, a4, a5, a6, a7, a8, a9, a10, a11, a12, a13, a14, a15, a16, a17) p0 := by
  subst e0
  obtain ⟨k1, k2, k3, k4, c, k5, k6, k7⟩ := hl
  refine pk_loop (fun n i s => wX_runProgram_2 post (nI x) sg pl n (nI i) a1 a2 a3 a4 a5 a6 a7 a8 a9 a10 a11 a12 a13 a14 s a16 a17) (fun i s => ∀ j, j < i → s j = a14 j) 16 0 a15 (Nat.zero_le _) (fun j hj => absurd hj (Nat.not_lt_zero j)) ?_ ?_
  · intro n s h
    refine pk_le 16 16 (fun _ => ?_) (fun z => absurd z (by omega))
    exact sd_run30 hx k5 k1 k2 k6 k7 (fun j hj => by rw [h j (by omega)]; exact hb j hj) (fun o ho => H o s ho)
  · intro n i s hi h hw
    refine pk_le 16 i (fun z => absurd z (by omega)) (fun _ => ?_)
    refine ⟨pk_in i 16 hi, pk_in i 16 hi, nm_r (e' := upd s i (a14 i)) (by rw [nI_clamp (show i < 2 ^ 31 by omega)]) (nm_r (nI_1 i) (hw _ (fun j hj => ?_)))⟩
    by_cases e : j = i
    · rw [e, pk_us]
    · rw [pk_un e]
      exact h j (by omega)
theorem sd_wo111 {post : St1 → Prop} {sg pl : Int32} {a1 a2 a3 a4 a5 a6 a7 a8 a9 a10 a11 a12 a13 a16 a17 : Nat → Int32} {N : Nat → Nat} {F : Nat → Nat → Int32} {ch : Nat → Nat} (H : ∀ o u : Nat → Int32, (∀ j, j < N (ch 0) → o j = F (ch 0) j) → post (sg, pl, a1, a2, a3, a4, a5, a6, a7, a8, a9, a10, a11, a12, a13, o, u, a16, a17)) :
    ∀ (k : Nat) (x4 : Int32) (a14 a15 : Nat → Int32), x4 = nI k - 1 → k ≤ 7 → (∀ i, i < k → a17 i = nI (ch i) ∧ ch i < 96 ∧ sd_li N F a6 a7 a8 a9 (ch i) (ch (i + 1))) →
      (∀ j, j < N (ch k) → a14 j = F (ch k) j) → wX_writeOut_111 post (k + 1) x4 sg pl a1 a2 a3 a4 a5 a6 a7 a8 a9 a10 a11 a12 a13 a14 a15 a16 a17 := by
  intro k
  induction k with
  | zero =>
    intro x4 a14 a15 e _ _ ho
    exact br_t (by rw [e]; decide) (H a14 a15 ho)
  | succ k ih =>
    intro x4 a14 a15 e hk hl ho
    rw [nI_pred] at e
    subst e
    obtain ⟨l1, l2, l3⟩ := hl k (by omega)
    refine br_f (nI_pos (by omega)) ⟨pk_in k 8 (by omega), ?_⟩
    refine sd_run (x := ch k) (b := ch (k + 1)) (by rw [nI_clamp (show k < 2 ^ 31 by omega)]; exact l1) l2 l3 ho (fun o u hou => ?_)
    exact nm_r (e' := nI k - 1) (by rw [Int32.sub_eq_add_neg]) (ih _ o u rfl (by omega) (fun i hi => hl i (by omega)) hou)
theorem sd_wo58 {post : St1 → Prop} {sg pl : Int32} {a1 a2 a3 a4 a5 a6 a7 a8 a9 a10 a11 a12 a13 a14 a15 a16 a17 : Nat → Int32} {N : Nat → Nat} {F : Nat → Nat → Int32} {ch : Nat → Nat} {n : Nat} (hn : n ≤ 7)
    (hc : ∀ i, i ≤ n → a17 i = nI (ch i)) (hl : ∀ i, i < n → ch i < 96 ∧ sd_li N F a6 a7 a8 a9 (ch i) (ch (i + 1))) (hx : ch n < 96) (hr : sd_ra N F a6 a7 a9 (ch n))
    (H : ∀ o u : Nat → Int32, (∀ j, j < N (ch 0) → o j = F (ch 0) j) → post (sg, pl, a1, a2, a3, a4, a5, a6, a7, a8, a9, a10, a11, a12, a13, o, u, a16, a17)) : wX_writeOut_58 post (nI (n + 1)) sg pl a1 a2 a3 a4 a5 a6 a7 a8 a9 a10 a11 a12 a13 a14 a15 a16 a17 := by
  obtain ⟨r1, r2, r3, r4⟩ := hr
  have hcl : (nI (ch n)).toNatClampNeg = ch n := nI_clamp (by omega)
  unfold wX_writeOut_58
  refine ⟨pk_in n 8 (by omega) (nI_pred n), nm_r (e' := nI (ch n)) (by rw [nI_pred, nI_clamp (show n < 2 ^ 31 by omega)]; exact hc n (by omega)) ?_⟩
  refine pk_loop (fun k i s => wX_writeOut_70 post (nI (n + 1)) (nI (ch n)) sg pl k (nI i) a1 a2 a3 a4 a5 a6 a7 a8 a9 a10 a11 a12 a13 s a15 a16 a17) (fun i s => ∀ j, j < i → s j = F (ch n) j) (N (ch n)) 0 a14 (Nat.zero_le _) (fun j hj => absurd hj (Nat.not_lt_zero j)) ?_ ?_
  · intro k s h
    refine ⟨pk_in (ch n) 96 hx, pk_le (N (ch n)) (N (ch n)) (fun _ => ?_) (fun z => absurd z (by omega)) (hx := by rw [hcl]; exact r2)⟩
    refine nm_r (e' := nI n - 1) ?_ ⟨n + 1, sd_wo111 H n _ s a15 rfl hn (fun i hi => ⟨hc i (by omega), hl i hi⟩) h⟩
    rw [← nI_1 n]
    grind
  · intro k i s hi h hw
    refine ⟨pk_in (ch n) 96 hx, pk_le (N (ch n)) i (fun z => absurd z (by omega)) (fun _ => ?_) (hx := by rw [hcl]; exact r2)⟩
    refine ⟨pk_in (ch n * 16 + i) 1536 (by omega) (sd_ix _ i), pk_in i 16 (by omega), nm_r (e' := upd s i (F (ch n) i)) ?_ (nm_r (nI_1 i) (hw _ (fun j hj => ?_)))⟩
    · rw [nI_clamp (show i < 2 ^ 31 by omega), sd_ix, nI_clamp (show ch n * 16 + i < 2 ^ 31 by omega), r4 i hi]
    · by_cases e : j = i
      · rw [e, pk_us]
      · rw [pk_un e]
        exact h j (by omega)
theorem sd_wo9 {post : St1 → Prop} {sg pl : Int32} {a1 a2 a3 a4 a5 a6 a7 a8 a9 a10 a11 a12 a13 a14 a15 a16 : Nat → Int32} {Z : Nat → Prop} {N : Nat → Nat} {F : Nat → Nat → Int32} {x : Nat}
    (H : ∀ o u c : Nat → Int32, (∀ j, j < N x → o j = F x j) → post (sg, pl, a1, a2, a3, a4, a5, a6, a7, a8, a9, a10, a11, a12, a13, o, u, a16, c)) :
    ∀ (k n : Nat) (ch : Nat → Nat) (a17 : Nat → Int32), sd_rp Z N F a6 a7 a8 a9 k (ch n) → n + k ≤ 6 → ch 0 = x → (∀ i, i ≤ n → a17 i = nI (ch i)) →
      (∀ i, i < n → ch i < 96 ∧ sd_li N F a6 a7 a8 a9 (ch i) (ch (i + 1))) → wX_writeOut_9 post sg pl (k + 1) (nI (n + 1)) a1 a2 a3 a4 a5 a6 a7 a8 a9 a10 a11 a12 a13 a14 a15 a16 a17 := by
  have fin : ∀ (m n : Nat) (ch : Nat → Nat) (a17 : Nat → Int32), sd_ra N F a6 a7 a9 (ch n) → ch n < 96 → n ≤ 6 → ch 0 = x → (∀ i, i ≤ n → a17 i = nI (ch i)) →
      (∀ i, i < n → ch i < 96 ∧ sd_li N F a6 a7 a8 a9 (ch i) (ch (i + 1))) → wX_writeOut_9 post sg pl (m + 1) (nI (n + 1)) a1 a2 a3 a4 a5 a6 a7 a8 a9 a10 a11 a12 a13 a14 a15 a16 a17 := by
    intro m n ch a17 hr hx hn h0 hc hl
    have e1 : a17 (nI (n + 1) - 1).toNatClampNeg = nI (ch n) := by
      rw [nI_pred, nI_clamp (show n < 2 ^ 31 by omega)]; exact hc n (by omega)
    refine pk_le 8 (n + 1) (fun z => absurd z (by omega)) (fun _ => ?_)
    refine ⟨pk_in n 8 (by omega) (nI_pred n), pk_in (ch n) 96 hx e1, br_t ?_ ?_⟩
    · rw [e1, nI_clamp (show ch n < 2 ^ 31 by omega), hr.2.2.1]
      decide
    · exact sd_wo58 (by omega) hc hl hx hr (fun o u ho => H o u a17 (by rw [← h0]; exact ho))
  intro k
  induction k with
  | zero =>
    intro n ch a17 h hn h0 hc hl
    exact fin 0 n ch a17 h.2.2 h.1 (by omega) h0 hc hl
  | succ k ih =>
    intro n ch a17 h hn h0 hc hl
    obtain ⟨h1, h2, h3 | ⟨b, h3, h4⟩⟩ := h
    · exact fin (k + 1) n ch a17 h3 h1 (by omega) h0 hc hl
    · have e1 : a17 (nI (n + 1) - 1).toNatClampNeg = nI (ch n) := by
        rw [nI_pred, nI_clamp (show n < 2 ^ 31 by omega)]; exact hc n (by omega)
      have hb : b < 96 := (sd_rp_in h4).1
      have e2 : a7 (nI (ch n)).toNatClampNeg = nI (b + 1) := by
        rw [nI_clamp (show ch n < 2 ^ 31 by omega)]; exact h3.2.2.2.1
      refine pk_le 8 (n + 1) (fun z => absurd z (by omega)) (fun _ => ?_)
      refine ⟨pk_in n 8 (by omega) (nI_pred n), pk_in (ch n) 96 h1 e1, br_f ?_ ?_⟩
      · rw [e1, e2]
        exact nI_nle (by omega) (by omega)
      · refine ⟨pk_in n 8 (by omega) (nI_pred n), pk_in (ch n) 96 h1 e1, pk_in (n + 1) 8 (by omega), nm_r (e' := upd a17 (n + 1) (nI b)) ?_ (nm_r (nI_1 (n + 1)) ?_)⟩
        · rw [e1, e2, nI_pred, nI_clamp (show n + 1 < 2 ^ 31 by omega)]
        · refine ih (n + 1) (va_up ch (n + 1) b) (upd a17 (n + 1) (nI b)) ?_ (by omega) ?_ ?_ ?_
          · show sd_rp Z N F a6 a7 a8 a9 k (if n + 1 = n + 1 then b else ch (n + 1))
            rw [if_pos rfl]
            exact h4
          · show (if 0 = n + 1 then b else ch 0) = x
            rw [if_neg (by omega)]
            exact h0
          · intro i hi
            show upd a17 (n + 1) (nI b) i = nI (if i = n + 1 then b else ch i)
            by_cases e : i = n + 1
            · rw [if_pos e, e, pk_us]
            · rw [if_neg e, pk_un e]
              exact hc i (by omega)
          · intro i hi
            show (if i = n + 1 then b else ch i) < 96 ∧ sd_li N F a6 a7 a8 a9 (if i = n + 1 then b else ch i) (if i + 1 = n + 1 then b else ch (i + 1))
            rw [if_neg (by omega)]
            by_cases e : i = n
            · rw [if_pos (by omega), e]
              exact ⟨h1, h3⟩
            · rw [if_neg (by omega)]
              exact hl i (by omega)
theorem sd_wo {post : St1 → Prop} {sg pl : Int32} {a1 a2 a3 a4 a5 a6 a7 a8 a9 a10 a11 a12 a13 a14 a15 a16 a17 : Nat → Int32} {Z : Nat → Prop} {N : Nat → Nat} {F : Nat → Nat → Int32} {p0 : Int32} {k x : Nat} (e0 : p0 = nI x) (hk : k ≤ 6) (h : sd_rp Z N F a6 a7 a8 a9 k x)
    (H : ∀ o u c : Nat → Int32, (∀ j, j < N x → o j = F x j) → post (sg, pl, a1, a2, a3, a4, a5, a6, a7, a8, a9, a10, a11, a12, a13, o, u, a16, c)) : wpX_writeOut post (sg, pl, a1, a2, a3, a4, a5, a6, a7, a8, a9, a10, a11, a12, a13, a14, a15, a16, a17) p0 := by
  subst e0
  refine nm_e ⟨k + 1, sd_wo9 H k 0 (fun _ => x) (upd a17 0 (nI x)) h (by omega) rfl (fun i hi => ?_) (fun i hi => absurd hi (Nat.not_lt_zero i))⟩
  rw [show i = 0 by omega, pk_us]
end
section
/-! outIsFresh, findEqual, leastWindow, basesBelow, findSimilar, matchLength -/
theorem sd_fresh {post : Int32 → Prop} {sg pl : Int32} {a1 a2 a3 a4 a5 a6 a7 a8 a9 a10 a11 a12 a13 a14 a15 a16 a17 : Nat → Int32} {p0 : Int32} {n : Nat} (e0 : p0 = nI n) (hn : n ≤ 16) (H1 : (∀ j, j < n → a14 j = a13 j) → post 1) (H0 : post 0) : wpX_outIsFresh post (sg, pl, a1, a2, a3, a4, a5, a6, a7, a8, a9, a10, a11, a12, a13, a14, a15, a16, a17) p0 := by
  subst e0
  refine pk_loop (σ := Unit) (fun k i _ => wX_outIsFresh_2 post (nI n) sg pl a1 a2 a3 a4 a5 a6 a7 a8 a9 a10 a11 a12 a13 a14 a15 a16 a17 k (nI i)) (fun i _ => ∀ j, j < i → a14 j = a13 j) n 0 () (Nat.zero_le _) (fun j hj => absurd hj (Nat.not_lt_zero j)) ?_ ?_
  · intro k _ h
    exact pk_le n n (fun _ => H1 h) (fun z => absurd z (by omega))
  · intro k i _ hi h hw
    refine pk_le n i (fun z => absurd z (by omega)) (fun _ => ⟨pk_in i 16 (by omega), pk_in i 16 (by omega), ?_⟩)
    rw [nI_clamp (show i < 2 ^ 31 by omega)]
    refine br_c (fun e => nm_r (nI_1 i) (hw () ?_)) (fun _ => H0)
    exact lt_s h e
theorem sd_findEq {post : Int32 → St1 → Prop} {sg pl : Int32} {a1 a2 a3 a4 a5 a6 a7 a8 a9 a10 a11 a12 a13 a14 a15 a16 a17 : Nat → Int32} {R N : Nat → Nat} {F : Nat → Nat → Int32} {K : Nat} {p0 p1 : Int32} {n : Nat} (e1 : p1 = nI n) (hn : n ≤ 16) (hK : K ≤ 96)
    (hH : sd_H R N F K a5 a6 a7 a8 a9)
    (H0 : ∀ o u c : Nat → Int32, post (-1) (sg, pl, a1, a2, a3, a4, a5, a6, a7, a8, a9, a10, a11, a12, a13, o, u, a16, c))
    (H1 : ∀ (x : Nat) (o u c : Nat → Int32), x < 96 → 0 < R x → N x = n → (∀ j, j < n → F x j = a13 j) → post (nI x) (sg, pl, a1, a2, a3, a4, a5, a6, a7, a8, a9, a10, a11, a12, a13, o, u, a16, c)) :
    wpX_findEqual post (sg, pl, a1, a2, a3, a4, a5, a6, a7, a8, a9, a10, a11, a12, a13, a14, a15, a16, a17) p0 p1 := by
  subst e1
  obtain ⟨q1, q2, q3, q4⟩ := hH
  refine pk_loop (σ := (Nat → Int32) × (Nat → Int32) × (Nat → Int32)) (fun k i s => wX_findEqual_2 post p0 (nI n) k (nI i) sg pl a1 a2 a3 a4 a5 a6 a7 a8 a9 a10 a11 a12 a13 s.1 s.2.1 a16 s.2.2) (fun _ _ => True) 96 0 (a14, a15, a17) (Nat.zero_le _) trivial ?_ ?_
  · intro k s _
    exact pk_le 96 96 (fun _ => H0 _ _ _) (fun z => absurd z (by omega))
  · intro k i s hi _ hw
    obtain ⟨o, u, c⟩ := s
    have hcl : (nI i).toNatClampNeg = i := nI_clamp (by omega)
    have hR : R i < 2 ^ 31 := by have := q2 i; omega
    have next : ∀ o u c : Nat → Int32, ∀ x : Int32, x = nI i + 1 → wX_findEqual_2 post p0 (nI n) k x sg pl a1 a2 a3 a4 a5 a6 a7 a8 a9 a10 a11 a12 a13 o u a16 c := fun o u c => nm_r (nI_1 i) (hw (o, u, c) trivial)
    refine pk_le 96 i (fun z => absurd z (by omega)) (fun _ => ⟨pk_in i 96 hi, ?_⟩)
    refine pk_le (R i) 0 (fun _ => next o u c) (fun hlt => ⟨pk_in i 96 hi, br_c (fun _ => ⟨pk_in i 96 hi, br_c (fun hs => ?_) (fun _ => next o u c)⟩) (fun _ => next o u c)⟩) (hx := by rw [hcl]; exact q1 i hi)
    have hrp := q4 i hlt
    obtain ⟨_, _, i3, i4⟩ := sd_rp_in hrp
    have hN : N i = n := by
      rw [hcl, i4] at hs
      exact (nI_eq (by omega) (by omega)).mp hs
    refine sd_wo rfl (by omega) hrp (fun o' u' c' ho => ?_)
    refine sd_fresh rfl hn (fun he => ?_) ?_
    · exact br_f (by decide) (H1 i o' u' c' hi hlt hN (fun j hj => by rw [← he j hj]; exact (ho j (by omega)).symm))
    · exact br_t rfl (next o' u' c')
theorem sd_least {post : Int32 → Prop} {sg pl : Int32} {a1 a2 a3 a4 a5 a6 a7 a8 a9 a10 a11 a12 a13 a14 a15 a16 a17 : Nat → Int32} {p0 p1 p2 : Int32} {n : Nat} (e0 : p0 = nI n) (h1 : 1 ≤ n) (hn : n ≤ 16) (H : ∀ v, post v) : wpX_leastWindow post (sg, pl, a1, a2, a3, a4, a5, a6, a7, a8, a9, a10, a11, a12, a13, a14, a15, a16, a17) p0 p1 p2 := by
  subst e0
  have main : ∀ w : Nat, 1 ≤ w → w ≤ n → ∃ fu, wX_leastWindow_19 post (nI n) p1 p2 (nI w) sg pl a1 a2 a3 a4 a5 a6 a7 a8 a9 a10 a11 a12 a13 a14 a15 a16 a17 fu 2147483647 0 := by
    intro w hw1 hw2
    refine pk_loop (σ := Int32) (fun k i s => wX_leastWindow_19 post (nI n) p1 p2 (nI w) sg pl a1 a2 a3 a4 a5 a6 a7 a8 a9 a10 a11 a12 a13 a14 a15 a16 a17 k s (nI i)) (fun _ _ => True) (n - w + 1) 0 2147483647 (Nat.zero_le _) trivial ?_ ?_
    · intro k s _
      exact pk_lt n (n - w + 1 + w) (fun _ => H s) (fun z => absurd z (by omega)) (hy := nI_add _ _)
    · intro k i s hi _ hw
      refine pk_lt n (i + w) (fun z => absurd z (by omega)) (fun _ => ?_) (hy := nI_add _ _)
      refine pk_loop (σ := Int32) (fun k' j t => wX_leastWindow_34 post (wX_leastWindow_19 post (nI n) p1 p2 (nI w) sg pl a1 a2 a3 a4 a5 a6 a7 a8 a9 a10 a11 a12 a13 a14 a15 a16 a17 k) (nI n) p1 p2 (nI w) s (nI i) sg pl a1 a2 a3 a4 a5 a6 a7 a8 a9 a10 a11 a12 a13 a14 a15 a16 a17 k' t (nI j)) (fun _ _ => True) w 0 p2 (Nat.zero_le _) trivial ?_ ?_
      · intro k' t _
        refine pk_le w w (fun _ => nm_e (nm_e (br_c (fun _ => nm_r (nI_1 i) (hw _ trivial)) (fun _ => nm_r (nI_1 i) (hw _ trivial))))) (fun z => absurd z (by omega))
      · intro k' j t hj _ hw'
        refine pk_le w j (fun z => absurd z (by omega)) (fun _ => ⟨pk_in (i + j) 16 (by omega) (nI_add i j), nm_e (nm_r (nI_1 j) (hw' _ trivial))⟩)
  exact pk_le 4 n (fun z => main 4 (by omega) z) (fun z => main n h1 (Nat.le_refl n))
theorem sd_below4 {post : Int32 → Prop} {sg pl : Int32} {a1 a2 a3 a4 a5 a6 a7 a8 a9 a10 a11 a12 a13 a14 a15 a16 a17 : Nat → Int32} {Z : Nat → Prop} {N : Nat → Nat} {F : Nat → Nat → Int32} :
    ∀ (k n x : Nat), sd_rp Z N F a6 a7 a8 a9 k x → n + k ≤ 6 → (∀ r, r ≤ k → sd_rp Z N F a6 a7 a8 a9 r x → post (nI (n + r))) → wX_basesBelow_4 post sg pl a1 a2 a3 a4 a5 a6 a7 a8 a9 a10 a11 a12 a13 a14 a15 a16 a17 (k + 1) (nI n) (nI x) := by
  have fin : ∀ (m n x : Nat), x < 96 → n ≤ 6 → sd_ra N F a6 a7 a9 x → post (nI n) → wX_basesBelow_4 post sg pl a1 a2 a3 a4 a5 a6 a7 a8 a9 a10 a11 a12 a13 a14 a15 a16 a17 (m + 1) (nI n) (nI x) := by
    intro m n x hx hn hr h
    refine pk_le 7 n (fun z => absurd z (by omega)) (fun _ => ⟨pk_in x 96 hx, br_t ?_ h⟩)
    rw [nI_clamp (show x < 2 ^ 31 by omega), hr.2.2.1]
    decide
  intro k
  induction k with
  | zero =>
    intro n x h hn H
    exact fin 0 n x h.1 (by omega) h.2.2 (H 0 (Nat.le_refl 0) h)
  | succ k ih =>
    intro n x h hn H
    obtain ⟨h1, h2, h3 | ⟨b, h3, h4⟩⟩ := h
    · exact fin (k + 1) n x h1 (by omega) h3 (H 0 (by omega) ⟨h1, h2, h3⟩)
    · have hb : b < 96 := (sd_rp_in h4).1
      have e2 : a7 (nI x).toNatClampNeg = nI (b + 1) := by
        rw [nI_clamp (show x < 2 ^ 31 by omega)]; exact h3.2.2.2.1
      refine pk_le 7 n (fun z => absurd z (by omega)) (fun _ => ⟨pk_in x 96 h1, br_f ?_ ⟨pk_in x 96 h1, nm_r (e' := nI b) ?_ (nm_r (nI_1 n) ?_)⟩⟩)
      · rw [e2]
        exact nI_nle (by omega) (by omega)
      · rw [e2, nI_pred]
      · refine ih (n + 1) b h4 (by omega) (fun r hr hrp => ?_)
        rw [show n + 1 + r = n + (r + 1) by omega]
        exact H (r + 1) (by omega) ⟨h1, h2, Or.inr ⟨b, h3, hrp⟩⟩
theorem sd_below {post : Int32 → Prop} {sg pl : Int32} {a1 a2 a3 a4 a5 a6 a7 a8 a9 a10 a11 a12 a13 a14 a15 a16 a17 : Nat → Int32} {Z : Nat → Prop} {N : Nat → Nat} {F : Nat → Nat → Int32} {p0 : Int32} {x : Nat} (e0 : p0 = nI x) (h : sd_rp Z N F a6 a7 a8 a9 2 x)
    (H : ∀ r, r ≤ 2 → sd_rp Z N F a6 a7 a8 a9 r x → post (nI r)) : wpX_basesBelow post (sg, pl, a1, a2, a3, a4, a5, a6, a7, a8, a9, a10, a11, a12, a13, a14, a15, a16, a17) p0 := by
  subst e0
  exact ⟨3, sd_below4 2 0 x h (by omega) (fun r hr hrp => by rw [Nat.zero_add]; exact H r hr hrp)⟩
theorem sd_findSim {post : Int32 → Prop} {sg pl : Int32} {a1 a2 a3 a4 a5 a6 a7 a8 a9 a10 a11 a12 a13 a14 a15 a16 a17 : Nat → Int32} {R N : Nat → Nat} {F : Nat → Nat → Int32} {K : Nat} {p0 p1 p2 : Int32} {n : Nat} (e2 : p2 = nI n) (hn : n ≤ 16) (hK : K ≤ 96)
    (hH : sd_H R N F K a5 a6 a7 a8 a9)
    (H : ∀ r : Int32, (r = -1 ∨ ∃ l : Nat, r = nI l ∧ sd_rp (fun y => 0 < R y) N F a6 a7 a8 a9 1 l) → post r) : wpX_findSimilar post (sg, pl, a1, a2, a3, a4, a5, a6, a7, a8, a9, a10, a11, a12, a13, a14, a15, a16, a17) p0 p1 p2 := by
  subst e2
  obtain ⟨q1, q2, q3, q4⟩ := hH
  have H0 : post (-1) := H (-1) (Or.inl rfl)
  have H1 : ∀ x : Nat, x < 96 → sd_rp (fun y => 0 < R y) N F a6 a7 a8 a9 1 x → post (nI x) := fun x _ h => H (nI x) (Or.inr ⟨x, rfl, h⟩)
  refine pk_le 6 n (fun _ => ?_) (fun _ => H0)
  refine pk_loop (σ := Unit) (fun k i _ => wX_findSimilar_11 post p0 p1 sg pl a1 a2 a3 a4 a5 a6 a7 a8 a9 a10 a11 a12 a13 a14 a15 a16 a17 k (nI i)) (fun _ _ => True) 96 0 () (Nat.zero_le _) trivial ?_ ?_
  · intro k _ _
    exact pk_le 96 96 (fun _ => H0) (fun z => absurd z (by omega))
  · intro k i _ hi _ hw
    have hcl : (nI i).toNatClampNeg = i := nI_clamp (by omega)
    have hR : R i < 2 ^ 31 := by have := q2 i; omega
    have next : ∀ x : Int32, x = nI i + 1 → wX_findSimilar_11 post p0 p1 sg pl a1 a2 a3 a4 a5 a6 a7 a8 a9 a10 a11 a12 a13 a14 a15 a16 a17 k x := nm_r (nI_1 i) (hw () trivial)
    have look : 0 < R i → wX_findSimilar_50 post (wX_findSimilar_11 post p0 p1 sg pl a1 a2 a3 a4 a5 a6 a7 a8 a9 a10 a11 a12 a13 a14 a15 a16 a17 k) p0 p1 (nI i) sg pl a1 a2 a3 a4 a5 a6 a7 a8 a9 a10 a11 a12 a13 a14 a15 a16 a17 := by
      intro hlt
      refine sd_below (x := i) rfl (q4 i hlt) (fun r hr hrp => ?_)
      refine pk_le 2 r (fun _ => next) (fun z => H1 i hi ?_)
      rcases (show r = 0 ∨ r = 1 by omega) with e | e
      · rw [e] at hrp
        exact sd_rp_s hrp
      · rw [e] at hrp
        exact hrp
    refine pk_le 96 i (fun z => absurd z (by omega)) (fun _ => ⟨pk_in i 96 hi, ?_⟩)
    refine pk_le (R i) 0 (fun _ => next) (fun hlt => ⟨pk_in i 96 hi, br_c (fun _ => look hlt) (fun _ => ⟨pk_in i 96 hi, br_c (fun _ => look hlt) (fun _ => next)⟩)⟩) (hx := by rw [hcl]; exact q1 i hi)
theorem sd_match {post : Int32 → Prop} {sg pl : Int32} {a1 a2 a3 a4 a5 a6 a7 a8 a9 a10 a11 a12 a13 a14 a15 a16 a17 : Nat → Int32} {p0 p1 p2 p3 : Int32} {i n s m : Nat} (e0 : p0 = nI i) (e1 : p1 = nI n) (e2 : p2 = nI s) (e3 : p3 = nI m) (hi : i ≤ n) (hn : n ≤ 16) (hs : s ≤ m) (hm : m ≤ 16)
    (H : ∀ l, i + l ≤ n → s + l ≤ m → (∀ j, j < l → a13 (i + j) = a14 (s + j)) → post (nI l)) : wpX_matchLength post (sg, pl, a1, a2, a3, a4, a5, a6, a7, a8, a9, a10, a11, a12, a13, a14, a15, a16, a17) p0 p1 p2 p3 := by
  subst e0 e1 e2 e3
  refine pk_loop (σ := Unit) (fun k l _ => wX_matchLength_3 post (nI i) (nI n) (nI s) (nI m) sg pl a1 a2 a3 a4 a5 a6 a7 a8 a9 a10 a11 a12 a13 a14 a15 a16 a17 k (nI l)) (fun l _ => s + l ≤ m ∧ ∀ j, j < l → a13 (i + j) = a14 (s + j)) (n - i) 0 () (Nat.zero_le _) ⟨by omega, fun j hj => absurd hj (Nat.not_lt_zero j)⟩ ?_ ?_
  · intro k _ h
    exact pk_le n (i + (n - i)) (fun _ => H (n - i) (by omega) h.1 h.2) (fun z => absurd z (by omega)) (hy := nI_add _ _)
  · intro k l _ hl h hw
    refine pk_le n (i + l) (fun z => absurd z (by omega)) (fun _ => ?_) (hy := nI_add _ _)
    refine pk_le m (s + l) (fun _ => H l (by omega) h.1 h.2) (fun z => ?_) (hy := nI_add _ _)
    refine ⟨pk_in (i + l) 16 (by omega) (nI_add i l), pk_in (s + l) 16 (by omega) (nI_add s l), ?_⟩
    rw [nI_add, nI_add, nI_clamp (show i + l < 2 ^ 31 by omega), nI_clamp (show s + l < 2 ^ 31 by omega)]
    refine br_c (fun e => nm_r (nI_1 l) (hw () ⟨by omega, ?_⟩)) (fun _ => H l (by omega) h.1 h.2)
    exact lt_s h.2 e
end
section
/-! makeProgram, storeAgainst -/
theorem sd_mp7 {post : St1 → Prop} {sg : Int32} {a1 a2 a3 a4 a5 a6 a7 a8 a9 a10 a11 a12 a13 a14 a15 a17 : Nat → Int32} {n m : Nat} (hn : n ≤ 16) (hm : m ≤ 16) (hB : ∀ j, j < n → sd_B (a13 j))
    (H : ∀ (c : Nat) (pr : Nat → Int32), c ≤ 16 → sd_pg pr m a14 n a13 c n → post (sg, (nI c), a1, a2, a3, a4, a5, a6, a7, a8, a9, a10, a11, a12, a13, a14, a15, pr, a17)) :
    ∀ (d i c : Nat) (pr : Nat → Int32), n - i ≤ d → i ≤ n → c ≤ i → sd_pg pr m a14 n a13 c i → wX_makeProgram_7 post (nI n) (nI m) sg (d + 1) (nI i) (nI c) a1 a2 a3 a4 a5 a6 a7 a8 a9 a10 a11 a12 a13 a14 a15 pr a17 := by
  intro d
  induction d with
  | zero =>
    intro i c pr hd hi hc hp
    have e : i = n := by omega
    subst e
    exact pk_le i i (fun _ => H c pr (by omega) hp) (fun z => absurd z (by omega))
  | succ d ih =>
    intro i c pr hd hi hc hp
    refine pk_le n i (fun z => ?_) (fun z => pk_le 16 c (fun z2 => absurd z2 (by omega)) (fun _ => ?_))
    · have e : i = n := by omega
      subst e
      exact H c pr (by omega) hp
    · refine pk_loop (σ := Nat × Nat) (fun k s t => wX_makeProgram_30 post (wX_makeProgram_7 post (nI n) (nI m) sg (d + 1)) (nI n) (nI m) (nI i) sg (nI c) a1 a2 a3 a4 a5 a6 a7 a8 a9 a10 a11 a12 a13 a14 a15 pr a17 k (nI t.1) (nI t.2) (nI s))
        (fun s t => t.1 + t.2 ≤ m ∧ i + t.2 ≤ n ∧ ∀ j, j < t.2 → a13 (i + j) = a14 (t.1 + j)) m 0 (0, 0) (Nat.zero_le _) ⟨by omega, by omega, fun j hj => absurd hj (Nat.not_lt_zero j)⟩ ?_ ?_
      · intro k t h
        obtain ⟨b, l⟩ := t
        obtain ⟨h1, h2, h3⟩ := h
        dsimp only at h1 h2 h3 ⊢
        refine pk_le m m (fun _ => pk_lt l 2 (fun hl => ?_) (fun hl => ?_)) (fun z' => absurd z' (by omega))
        · refine ⟨pk_in i 16 (by omega), pk_in c 16 (by omega), nm_r (e' := upd pr c (a13 i)) (by rw [nI_clamp (show i < 2 ^ 31 by omega), nI_clamp (show c < 2 ^ 31 by omega)]) (nm_r (nI_1 i) (nm_r (nI_1 c) (ih (i + 1) (c + 1) _ (by omega) (by omega) (by omega) (sd_pg_add hp (fun p hpc => pk_un (by omega)) ?_))))⟩
          rw [pk_us]
          obtain ⟨t, ht, et⟩ := hB i z
          exact ⟨by omega, Or.inl ⟨rfl, t, ht, et, et⟩⟩
        · refine ⟨pk_in c 16 (by omega), nm_r (e' := upd pr c (nI (256 + (b * 16 + (l - 1))))) ?_ (nm_r (nI_add i l) (nm_r (nI_1 c) (ih (i + l) (c + 1) _ (by omega) (by omega) (by omega) (sd_pg_add hp (fun p hpc => pk_un (by omega)) ?_))))⟩
          · rw [nI_clamp (show c < 2 ^ 31 by omega), show (256 : Int32) = nI 256 from rfl, show (16 : Int32) = nI 16 from rfl, show (1 : Int32) = nI 1 from rfl, pk_mul, nI_add, nI_add, pk_sub (by omega)]
            exact congrArg (fun v => upd pr c (nI v)) (by omega)
          · rw [pk_us]
            refine ⟨by omega, Or.inr ⟨b, l - 1, by omega, by omega, by omega, rfl, fun j hj => h3 j (by omega)⟩⟩
      · intro k s t hs h hw
        obtain ⟨b, l⟩ := t
        obtain ⟨h1, h2, h3⟩ := h
        dsimp only at h1 h2 h3 hw ⊢
        refine pk_le m s (fun z' => absurd z' (by omega)) (fun _ => ?_)
        refine sd_match (i := i) (n := n) (s := s) (m := m) rfl rfl rfl rfl hi hn (by omega) hm (fun r r1 r2 r3 => ?_)
        refine pk_le r l (fun _ => nm_r (nI_1 s) (hw (b, l) ⟨h1, h2, h3⟩)) (fun _ => nm_r (nI_1 s) (hw (s, r) ⟨r2, r1, r3⟩))
theorem sd_mp {post : St1 → Prop} {sg pl : Int32} {a1 a2 a3 a4 a5 a6 a7 a8 a9 a10 a11 a12 a13 a14 a15 a16 a17 : Nat → Int32} {p0 p1 : Int32} {n m : Nat} (e0 : p0 = nI n) (e1 : p1 = nI m) (hn : n ≤ 16) (hm : m ≤ 16) (hB : ∀ j, j < n → sd_B (a13 j))
    (H : ∀ (c : Nat) (pr : Nat → Int32), c ≤ 16 → sd_pg pr m a14 n a13 c n → post (sg, (nI c), a1, a2, a3, a4, a5, a6, a7, a8, a9, a10, a11, a12, a13, a14, a15, pr, a17)) : wpX_makeProgram post (sg, pl, a1, a2, a3, a4, a5, a6, a7, a8, a9, a10, a11, a12, a13, a14, a15, a16, a17) p0 p1 := by
  subst e0 e1
  exact ⟨n + 1, sd_mp7 hn hm hB H n 0 0 a16 (by omega) (Nat.zero_le _) (Nat.le_refl 0) sd_pg_0⟩
theorem sd_blk {s a9 : Nat → Int32} {x i : Nat} {v : Int32} (hi : i < 16) (h : ∀ y, y ≠ x → ∀ j, j < 16 → s (y * 16 + j) = a9 (y * 16 + j)) :
    ∀ y, y ≠ x → ∀ j, j < 16 → upd s (x * 16 + i) v (y * 16 + j) = a9 (y * 16 + j) := by
  intro y hy j hj
  rw [pk_un (by omega)]
  exact h y hy j hj
theorem sd_blk1 {s g : Nat → Int32} {x i : Nat} {v : Int32} (hv : v = g i) (h : ∀ j, j < i → s (x * 16 + j) = g j) : ∀ j, j < i + 1 → upd s (x * 16 + i) v (x * 16 + j) = g j := by
  intro j hj
  by_cases e : j = i
  · rw [e, pk_us, hv]
  · rw [pk_un (by omega)]
    exact h j (by omega)
theorem sd_st104 {post : St1 → Prop} {sg pl : Int32} {a1 a2 a3 a4 a5 a6 a7 a8 a9 a10 a11 a12 a13 a14 a15 a16 a17 : Nat → Int32} {x n : Nat} (hx : x < 96) (hn : n ≤ 16)
    (H : ∀ q : Nat → Int32, (∀ y, y ≠ x → ∀ j, j < 16 → q (y * 16 + j) = a9 (y * 16 + j)) → (∀ j, j < n → q (x * 16 + j) = a13 j) → post (sg, pl, a1, a2, a3, a4, a5, a6, a7, a8, q, a10, a11, a12, a13, a14, a15, a16, a17)) :
    ∃ fu, wX_storeAgainst_104 post (nI x) (nI n) sg pl fu 0 a1 a2 a3 a4 a5 a6 a7 a8 a9 a10 a11 a12 a13 a14 a15 a16 a17 := by
  refine pk_loop (fun k i s => wX_storeAgainst_104 post (nI x) (nI n) sg pl k (nI i) a1 a2 a3 a4 a5 a6 a7 a8 s a10 a11 a12 a13 a14 a15 a16 a17) (fun i s => (∀ y, y ≠ x → ∀ j, j < 16 → s (y * 16 + j) = a9 (y * 16 + j)) ∧ ∀ j, j < i → s (x * 16 + j) = a13 j) n 0 a9 (Nat.zero_le _) ⟨fun y _ j _ => rfl, fun j hj => absurd hj (Nat.not_lt_zero j)⟩ ?_ ?_
  · intro k s h
    exact pk_le n n (fun _ => H s h.1 h.2) (fun z => absurd z (by omega))
  · intro k i s hi h hw
    refine pk_le n i (fun z => absurd z (by omega)) (fun _ => ⟨pk_in i 16 (by omega), pk_in (x * 16 + i) 1536 (by omega) (sd_ix x i), nm_r (e' := upd s (x * 16 + i) (a13 i)) ?_ (nm_r (nI_1 i) (hw _ ⟨sd_blk (by omega) h.1, sd_blk1 rfl h.2⟩))⟩)
    rw [sd_ix, nI_clamp (show i < 2 ^ 31 by omega), nI_clamp (show x * 16 + i < 2 ^ 31 by omega)]
theorem sd_st59 {post : St1 → Prop} {sg pl : Int32} {a1 a2 a3 a4 a5 a6 a7 a8 a9 a10 a11 a12 a13 a14 a15 a16 a17 : Nat → Int32} {x n : Nat} (hx : x < 96) (hn : n ≤ 16)
    (H : ∀ q : Nat → Int32, (∀ y, y ≠ x → ∀ j, j < 16 → q (y * 16 + j) = a9 (y * 16 + j)) → (∀ j, j < n → q (x * 16 + j) = a16 j) → post (sg, (nI n), a1, a2, a3, a4, a5, a6, a7, a8, q, a10, a11, a12, a13, a14, a15, a16, a17)) :
    ∃ fu, wX_storeAgainst_59 post (nI x) sg (nI n) fu 0 a1 a2 a3 a4 a5 a6 a7 a8 a9 a10 a11 a12 a13 a14 a15 a16 a17 := by
  refine pk_loop (fun k i s => wX_storeAgainst_59 post (nI x) sg (nI n) k (nI i) a1 a2 a3 a4 a5 a6 a7 a8 s a10 a11 a12 a13 a14 a15 a16 a17) (fun i s => (∀ y, y ≠ x → ∀ j, j < 16 → s (y * 16 + j) = a9 (y * 16 + j)) ∧ ∀ j, j < i → s (x * 16 + j) = a16 j) n 0 a9 (Nat.zero_le _) ⟨fun y _ j _ => rfl, fun j hj => absurd hj (Nat.not_lt_zero j)⟩ ?_ ?_
  · intro k s h
    exact pk_le n n (fun _ => H s h.1 h.2) (fun z => absurd z (by omega))
  · intro k i s hi h hw
    refine pk_le n i (fun z => absurd z (by omega)) (fun _ => ⟨pk_in i 16 (by omega), pk_in (x * 16 + i) 1536 (by omega) (sd_ix x i), nm_r (e' := upd s (x * 16 + i) (a16 i)) ?_ (nm_r (nI_1 i) (hw _ ⟨sd_blk (by omega) h.1, sd_blk1 rfl h.2⟩))⟩)
    rw [sd_ix, nI_clamp (show i < 2 ^ 31 by omega), nI_clamp (show x * 16 + i < 2 ^ 31 by omega)]
theorem sd_store {post : St1 → Prop} {sg pl : Int32} {a1 a2 a3 a4 a5 a6 a7 a8 a9 a10 a11 a12 a13 a14 a15 a16 a17 : Nat → Int32} {Z : Nat → Prop} {N : Nat → Nat} {F : Nat → Nat → Int32} {p0 p1 p2 : Int32} {x n : Nat} (e0 : p0 = nI x) (e2 : p2 = nI n) (hx : x < 96) (hn : n ≤ 16)
    (hNx : N x = n) (hFx : F x = a13) (hB : ∀ j, j < n → sd_B (a13 j)) (h6 : a6 x = nI n) (hz : ∀ y, Z y → y ≠ x)
    (hl : p1 = -1 ∨ ∃ l : Nat, p1 = nI l ∧ sd_rp Z N F a6 a7 a8 a9 1 l)
    (H : ∀ (pl' : Int32) (a7' a8' a9' a14' a15' a16' a17' : Nat → Int32), (∀ y, y ≠ x → a7' y = a7 y ∧ a8' y = a8 y ∧ ∀ j, j < 16 → a9' (y * 16 + j) = a9 (y * 16 + j)) →
      (sd_ra N F a6 a7' a9' x ∨ ∃ l : Nat, sd_rp Z N F a6 a7 a8 a9 1 l ∧ sd_li N F a6 a7' a8' a9' x l) → post (sg, pl', a1, a2, a3, a4, a5, a6, a7', a8', a9', a10, a11, a12, a13, a14', a15', a16', a17')) :
    wpX_storeAgainst post (sg, pl, a1, a2, a3, a4, a5, a6, a7, a8, a9, a10, a11, a12, a13, a14, a15, a16, a17) p0 p1 p2 := by
  subst e0 e2
  have hcl : (nI x).toNatClampNeg = x := nI_clamp (by omega)
  refine ⟨pk_in x 96 hx, nm_r (e' := upd a7 x (nI 0)) (by rw [hcl]; rfl) ?_⟩
  have raw : ∀ (pl' : Int32) (a14' a15' a16' a17' : Nat → Int32), ∃ fu, wX_storeAgainst_104 post (nI x) (nI n) sg pl' fu 0 a1 a2 a3 a4 a5 a6 (upd a7 x (nI 0)) (upd a8 x (nI n)) a9 a10 a11 a12 a13 a14' a15' a16' a17' := by
    intro pl' a14' a15' a16' a17'
    refine sd_st104 hx hn (fun q q1 q2 => H pl' _ _ q a14' a15' a16' a17' (fun y hy => ⟨pk_un hy, pk_un hy, q1 y hy⟩) (Or.inl ?_))
    unfold sd_ra
    rw [hNx, hFx]
    exact ⟨hn, h6, pk_us, q2⟩
  rcases hl with e | ⟨l, e, hrp⟩
  · subst e
    exact br_t (by decide) ⟨pk_in x 96 hx, nm_r (e' := upd a8 x (nI n)) (by rw [hcl]) (raw pl a14 a15 a16 a17)⟩
  · subst e
    obtain ⟨l1, l2, l3, l4⟩ := sd_rp_in hrp
    have hcll : (nI l).toNatClampNeg = l := nI_clamp (by omega)
    refine br_f (nI_pos (by omega)) ?_
    refine sd_wo (k := 1) (Z := Z) (N := N) (F := F) rfl (by omega) (sd_rp_fr (fun y hy zy => ⟨zy, rfl, rfl, rfl, pk_un (hz y zy), rfl, fun j _ => rfl⟩) hrp) (fun o u c ho => ?_)
    refine ⟨pk_in l 96 l1, ?_⟩
    refine sd_mp (n := n) (m := N l) rfl (by rw [hcll]; exact l4) hn l3 hB (fun k pr hk hp => ?_)
    refine ⟨by decide, pk_lt (n / 2) k (fun z => ?_) (fun z => ?_) (hx := by rw [show (2 : Int32) = nI 2 from rfl, pk_div (by omega) (by omega) (by omega)])⟩
    · exact ⟨pk_in x 96 hx, nm_r (e' := upd a8 x (nI n)) (by rw [hcl]) (raw (nI k) o u pr c)⟩
    · refine ⟨pk_in x 96 hx, nm_r (e' := upd (upd a7 x (nI 0)) x (nI (l + 1))) (by rw [hcl, nI_1]) ⟨pk_in x 96 hx, nm_r (e' := upd a8 x (nI k)) (by rw [hcl]) ?_⟩⟩
      refine sd_st59 (pl := pl) hx hk (fun q q1 q2 => H (nI k) _ _ q o u pr c (fun y hy => ⟨by rw [pk_un hy, pk_un hy], pk_un hy, q1 y hy⟩) (Or.inr ⟨l, hrp, ?_⟩))
      unfold sd_li
      rw [hNx, hFx]
      exact ⟨hn, l3, h6, pk_us, k, hk, pk_us, sd_pg_congr (fun p hp' => q2 p hp') (fun j hj => (ho j hj).symm) hp⟩
end
section
/-! keepChunk -/
theorem sd_vs {α : Type} {f : Nat → α} {k : Nat} {v : α} : va_up f k v k = v := if_pos rfl
theorem sd_vn {α : Type} {f : Nat → α} {k j : Nat} {v : α} (h : j ≠ k) : va_up f k v j = f j := if_neg h
theorem sd_inc_s {R : Nat → Nat} {i : Nat} : sd_inc R i i = R i + 1 := by
  show R i + (if i = i then 1 else 0) = R i + 1
  rw [if_pos rfl]
theorem sd_inc_n {R : Nat → Nat} {i x : Nat} (h : x ≠ i) : sd_inc R i x = R x := by
  show R x + (if x = i then 1 else 0) = R x
  rw [if_neg h, Nat.add_zero]
/-- the heap with a new chunk -/
theorem sd_H_new {R N : Nat → Nat} {F : Nat → Nat → Int32} {K : Nat} {a5 a6 a7 a8 a9 c7 c8 c9 g : Nat → Int32} {x n : Nat} (hH : sd_H R N F K a5 a6 a7 a8 a9) (hx : x < 96) (hxK : x ≤ K) (hR : R x = 0)
    (h1 : ∀ y, y ≠ x → c7 y = a7 y ∧ c8 y = a8 y ∧ ∀ j, j < 16 → c9 (y * 16 + j) = a9 (y * 16 + j))
    (h2 : sd_ra (va_up N x n) (va_up F x g) (upd a6 x (nI n)) c7 c9 x ∨ ∃ l : Nat, sd_rp (fun y => 0 < R y) (va_up N x n) (va_up F x g) (upd a6 x (nI n)) a7 a8 a9 1 l ∧ sd_li (va_up N x n) (va_up F x g) (upd a6 x (nI n)) c7 c8 c9 x l) :
    sd_H (sd_inc R x) (va_up N x n) (va_up F x g) (K + 1) (upd a5 x (nI 1)) (upd a6 x (nI n)) c7 c8 c9 := by
  obtain ⟨q1, q2, q3, q4⟩ := hH
  have ne : ∀ y, 0 < R y → y ≠ x := fun y hy e => by rw [e] at hy; omega
  have hz : ∀ y, 0 < R y → 0 < sd_inc R x y := fun y hy => by rw [sd_inc_n (ne y hy)]; exact hy
  refine ⟨fun y hy => ?_, fun y => ?_, fun y hy => ?_, fun y hy => ?_⟩
  · by_cases e : y = x
    · rw [e, pk_us, sd_inc_s, hR]
    · rw [pk_un e, sd_inc_n e]
      exact q1 y hy
  · by_cases e : y = x
    · rw [e, sd_inc_s, hR]; omega
    · rw [sd_inc_n e]
      have := q2 y
      omega
  · rw [sd_inc_n (by omega)]
    exact q3 y (by omega)
  · by_cases e : y = x
    · subst e
      rcases h2 with h2 | ⟨l, h2, h3⟩
      · exact ⟨hx, hy, Or.inl h2⟩
      · refine ⟨hx, hy, Or.inr ⟨l, h3, sd_rp_fr (fun z hz' zz => ?_) h2⟩⟩
        obtain ⟨k1, k2, k3⟩ := h1 z (ne z zz)
        exact ⟨hz z zz, rfl, rfl, rfl, k1, k2, k3⟩
    · rw [sd_inc_n e] at hy
      refine sd_rp_fr (fun z hz' zz => ?_) (q4 y hy)
      obtain ⟨k1, k2, k3⟩ := h1 z (ne z zz)
      exact ⟨hz z zz, sd_vn (ne z zz), sd_vn (ne z zz), pk_un (ne z zz), k1, k2, k3⟩
/-- the heap with one use more of a known chunk -/
theorem sd_H_more {R N : Nat → Nat} {F : Nat → Nat → Int32} {K : Nat} {a5 a6 a7 a8 a9 : Nat → Int32} {x : Nat} (hH : sd_H R N F K a5 a6 a7 a8 a9) (hR : 0 < R x) :
    sd_H (sd_inc R x) N F (K + 1) (upd a5 x (nI (R x + 1))) a6 a7 a8 a9 := by
  obtain ⟨q1, q2, q3, q4⟩ := hH
  have hx : x < K := by
    rcases Nat.lt_or_ge x K with z | z
    · exact z
    · have := q3 x z; omega
  have hz : ∀ y, 0 < R y ↔ 0 < sd_inc R x y := fun y => by
    by_cases e : y = x
    · rw [e, sd_inc_s]; omega
    · rw [sd_inc_n e]
  refine ⟨fun y hy => ?_, fun y => ?_, fun y hy => ?_, fun y hy => ?_⟩
  · by_cases e : y = x
    · rw [e, pk_us, sd_inc_s]
    · rw [pk_un e, sd_inc_n e]
      exact q1 y hy
  · have := q2 y
    by_cases e : y = x
    · rw [e, sd_inc_s]; rw [e] at this; omega
    · rw [sd_inc_n e]; omega
  · rw [sd_inc_n (by omega)]
    exact q3 y (by omega)
  · exact sd_rp_fr (fun z _ zz => ⟨(hz z).mp zz, rfl, rfl, rfl, rfl, rfl, fun j _ => rfl⟩) (q4 y ((hz y).mpr hy))
theorem sd_k114 {post : Int32 → St1 → Prop} {sg pl : Int32} {a1 a2 a3 a4 a5 a6 a7 a8 a9 a10 a11 a12 a13 a14 a15 a16 a17 : Nat → Int32} {R N : Nat → Nat} {F : Nat → Nat → Int32} {K : Nat} {p2 p3 p5 : Int32} {x n : Nat} (e2 : p2 = nI n) (e5 : p5 = nI x) (hx : x < 96) (hxK : x ≤ K) (hK : K ≤ 95)
    (hR : R x = 0) (h1 : 1 ≤ n) (hn : n ≤ 16) (hB : ∀ j, j < n → sd_B (a13 j)) (hH : sd_H R N F K a5 a6 a7 a8 a9)
    (H : ∀ (pl' : Int32) (a5' a6' a7' a8' a9' a10' a11' a12' a14' a15' a16' a17' : Nat → Int32), sd_H (sd_inc R x) (va_up N x n) (va_up F x a13) (K + 1) a5' a6' a7' a8' a9' → post (nI x) (sg, pl', a1, a2, a3, a4, a5', a6', a7', a8', a9', a10', a11', a12', a13, a14', a15', a16', a17')) :
    wX_keepChunk_114 post p2 p3 p5 sg pl a1 a2 a3 a4 a5 a6 a7 a8 a9 a10 a11 a12 a13 a14 a15 a16 a17 := by
  subst e2 e5
  have hcl : (nI x).toNatClampNeg = x := nI_clamp (by omega)
  have ne : ∀ y, 0 < R y → y ≠ x := fun y hy e => by rw [e] at hy; omega
  unfold wX_keepChunk_114
  refine sd_least rfl h1 hn (fun v => sd_least rfl h1 hn (fun w => sd_findSim rfl hn (by omega) hH (fun r hr => ?_)))
  refine ⟨pk_in x 96 hx, nm_r (e' := upd a5 x (nI 1)) (by rw [hcl]; rfl) ⟨pk_in x 96 hx, nm_r (e' := upd a6 x (nI n)) (by rw [hcl]) ⟨pk_in x 96 hx, nm_e ⟨pk_in x 96 hx, nm_e ⟨pk_in x 96 hx, nm_e ?_⟩⟩⟩⟩⟩
  refine sd_store (Z := fun y => 0 < R y) (N := va_up N x n) (F := va_up F x a13) (x := x) (n := n) rfl rfl hx hn sd_vs sd_vs hB pk_us ne ?_ (fun pl' a7' a8' a9' a14' a15' a16' a17' k1 k2 => ?_)
  · rcases hr with e | ⟨l, e, hl⟩
    · exact Or.inl e
    · exact Or.inr ⟨l, e, sd_rp_fr (fun z _ zz => ⟨zz, sd_vn (ne z zz), sd_vn (ne z zz), pk_un (ne z zz), rfl, rfl, fun j _ => rfl⟩) hl⟩
  · exact H pl' _ _ a7' a8' a9' _ _ _ a14' a15' a16' a17' (sd_H_new hH hx hxK hR k1 k2)
theorem sd_k91 {post : Int32 → St1 → Prop} {sg pl : Int32} {a1 a2 a3 a4 a5 a6 a7 a8 a9 a10 a11 a12 a13 a14 a15 a16 a17 : Nat → Int32} {R N : Nat → Nat} {F : Nat → Nat → Int32} {K : Nat} {p2 p3 : Int32} {n : Nat} (e2 : p2 = nI n) (hK : K ≤ 94)
    (h1 : 1 ≤ n) (hn : n ≤ 16) (hB : ∀ j, j < n → sd_B (a13 j)) (hH : sd_H R N F K a5 a6 a7 a8 a9)
    (H : ∀ (x : Nat) (pl' : Int32) (a5' a6' a7' a8' a9' a10' a11' a12' a14' a15' a16' a17' : Nat → Int32), x < 96 → R x = 0 → sd_H (sd_inc R x) (va_up N x n) (va_up F x a13) (K + 1) a5' a6' a7' a8' a9' → post (nI x) (sg, pl', a1, a2, a3, a4, a5', a6', a7', a8', a9', a10', a11', a12', a13, a14', a15', a16', a17')) :
    ∃ fu, wX_keepChunk_91 post p2 p3 sg pl a1 a2 a3 a4 a5 a6 a7 a8 a9 a10 a11 a12 a13 a14 a15 a16 a17 fu 0 := by
  have go : ∀ x : Nat, x ≤ K → R x = 0 → wX_keepChunk_114 post p2 p3 (nI x) sg pl a1 a2 a3 a4 a5 a6 a7 a8 a9 a10 a11 a12 a13 a14 a15 a16 a17 := fun x hx hR =>
    sd_k114 e2 rfl (by omega) hx (by omega) hR h1 hn hB hH (fun pl' a5' a6' a7' a8' a9' a10' a11' a12' a14' a15' a16' a17' k => H x pl' a5' a6' a7' a8' a9' a10' a11' a12' a14' a15' a16' a17' (by omega) hR k)
  obtain ⟨q1, q2, q3, q4⟩ := hH
  refine pk_loop (σ := Unit) (fun k i _ => wX_keepChunk_91 post p2 p3 sg pl a1 a2 a3 a4 a5 a6 a7 a8 a9 a10 a11 a12 a13 a14 a15 a16 a17 k (nI i)) (fun _ _ => True) K 0 () (Nat.zero_le _) trivial ?_ ?_
  · intro k _ _
    have hR := q3 K (Nat.le_refl K)
    refine pk_le 95 K (fun z => absurd z (by omega)) (fun _ => ⟨pk_in K 96 (by omega), pk_le (R K) 0 (fun _ => go K (Nat.le_refl K) hR) (fun z => absurd z (by omega)) (hx := by rw [nI_clamp (show K < 2 ^ 31 by omega)]; exact q1 K (by omega))⟩)
  · intro k i _ hi _ hw
    have hR := q2 i
    refine pk_le 95 i (fun z => absurd z (by omega)) (fun _ => ⟨pk_in i 96 (by omega), pk_le (R i) 0 (fun z => go i (by omega) (by omega)) (fun z => nm_r (nI_1 i) (hw () trivial)) (hx := by rw [nI_clamp (show i < 2 ^ 31 by omega)]; exact q1 i (by omega))⟩)
theorem sd_k33 {post : Int32 → St1 → Prop} {sg pl : Int32} {a1 a2 a3 a4 a5 a6 a7 a8 a9 a10 a11 a12 a13 a14 a15 a16 a17 : Nat → Int32} {R N : Nat → Nat} {F : Nat → Nat → Int32} {K : Nat} {p2 : Int32} {n : Nat} (e2 : p2 = nI n) (hK : K ≤ 94)
    (h1 : 1 ≤ n) (hn : n ≤ 16) (hB : ∀ j, j < n → sd_B (a13 j)) (hH : sd_H R N F K a5 a6 a7 a8 a9)
    (H : ∀ (x : Nat) (N' : Nat → Nat) (F' : Nat → Nat → Int32) (pl' : Int32) (a5' a6' a7' a8' a9' a10' a11' a12' a14' a15' a16' a17' : Nat → Int32), x < 96 → sd_H (sd_inc R x) N' F' (K + 1) a5' a6' a7' a8' a9' →
      (∀ y, 0 < R y → N' y = N y ∧ F' y = F y) → N' x = n → (∀ j, j < n → F' x j = a13 j) → post (nI x) (sg, pl', a1, a2, a3, a4, a5', a6', a7', a8', a9', a10', a11', a12', a13, a14', a15', a16', a17')) :
    ∃ fu, wX_keepChunk_33 post p2 sg pl a1 a2 a3 a4 a5 a6 a7 a8 a9 a10 a11 a12 a13 a14 a15 a16 a17 fu 17 0 := by
  subst e2
  refine pk_loop (σ := Int32) (fun k i s => wX_keepChunk_33 post (nI n) sg pl a1 a2 a3 a4 a5 a6 a7 a8 a9 a10 a11 a12 a13 a14 a15 a16 a17 k s (nI i)) (fun _ _ => True) n 0 17 (Nat.zero_le _) trivial ?_ ?_
  · intro k s _
    refine pk_le n n (fun _ => ?_) (fun z => absurd z (by omega))
    refine sd_findEq rfl hn (by omega) hH (fun o u c => ?_) (fun x o u c hx hR hN hF => ?_)
    · refine br_t (by decide) ?_
      refine sd_k91 rfl hK h1 hn hB hH (fun x pl' a5' a6' a7' a8' a9' a10' a11' a12' a14' a15' a16' a17' hx hR k => ?_)
      have ne : ∀ y, 0 < R y → y ≠ x := fun y hy e => by rw [e] at hy; omega
      exact H x _ _ pl' a5' a6' a7' a8' a9' a10' a11' a12' a14' a15' a16' a17' hx k (fun y hy => ⟨sd_vn (ne y hy), sd_vn (ne y hy)⟩) sd_vs (fun j _ => by rw [sd_vs])
    · have hcl : (nI x).toNatClampNeg = x := nI_clamp (by omega)
      refine br_f (nI_pos (by omega)) ⟨pk_in x 96 hx, pk_in x 96 hx, nm_r (e' := upd a5 x (nI (R x + 1))) (by rw [hcl, hH.1 x hx, nI_1]) ?_⟩
      exact H x N F pl _ a6 a7 a8 a9 a10 a11 a12 o u a16 c hx (sd_H_more hH hR) (fun y _ => ⟨rfl, rfl⟩) hN hF
  · intro k i s hi _ hw
    exact pk_le n i (fun z => absurd z (by omega)) (fun _ => ⟨pk_in i 16 (by omega), nm_e (nm_r (nI_1 i) (hw _ trivial))⟩)
theorem sd_keep {post : Int32 → St1 → Prop} {sg pl : Int32} {a1 a2 a3 a4 a5 a6 a7 a8 a9 a10 a11 a12 a13 a14 a15 a16 a17 : Nat → Int32} {R N : Nat → Nat} {F : Nat → Nat → Int32} {K : Nat} {p0 p1 : Int32} {fr n : Nat} (e0 : p0 = nI fr) (e1 : p1 = nI n) (hK : K ≤ 94)
    (h1 : 1 ≤ n) (hn : n ≤ 16) (hf : fr + n ≤ 96) (hB : ∀ j, sd_B (a1 j)) (hH : sd_H R N F K a5 a6 a7 a8 a9)
    (H : ∀ (x : Nat) (N' : Nat → Nat) (F' : Nat → Nat → Int32) (pl' : Int32) (a5' a6' a7' a8' a9' a10' a11' a12' a13' a14' a15' a16' a17' : Nat → Int32), x < 96 → sd_H (sd_inc R x) N' F' (K + 1) a5' a6' a7' a8' a9' →
      (∀ y, 0 < R y → N' y = N y ∧ F' y = F y) → N' x = n → (∀ j, j < n → F' x j = a1 (fr + j)) → post (nI x) (sg, pl', a1, a2, a3, a4, a5', a6', a7', a8', a9', a10', a11', a12', a13', a14', a15', a16', a17')) :
    wpX_keepChunk post (sg, pl, a1, a2, a3, a4, a5, a6, a7, a8, a9, a10, a11, a12, a13, a14, a15, a16, a17) p0 p1 := by
  subst e0 e1
  refine pk_loop (fun k i s => wX_keepChunk_2 post (nI fr) (nI n) sg pl k (nI i) a1 a2 a3 a4 a5 a6 a7 a8 a9 a10 a11 a12 s a14 a15 a16 a17) (fun i s => ∀ j, j < i → s j = a1 (fr + j)) n 0 a13 (Nat.zero_le _) (fun j hj => absurd hj (Nat.not_lt_zero j)) ?_ ?_
  · intro k s h
    refine pk_le n n (fun _ => ?_) (fun z => absurd z (by omega))
    refine sd_k33 rfl hK h1 hn (fun j hj => by rw [h j hj]; exact hB _) hH (fun x N' F' pl' a5' a6' a7' a8' a9' a10' a11' a12' a14' a15' a16' a17' k1 k2 k3 k4 k5 => ?_)
    exact H x N' F' pl' a5' a6' a7' a8' a9' a10' a11' a12' s a14' a15' a16' a17' k1 k2 k3 k4 (fun j hj => by rw [k5 j hj, h j hj])
  · intro k i s hi h hw
    refine pk_le n i (fun z => absurd z (by omega)) (fun _ => ⟨pk_in (fr + i) 96 (by omega) (nI_add fr i), pk_in i 16 (by omega), nm_r (e' := upd s i (a1 (fr + i))) ?_ (nm_r (nI_1 i) (hw _ (fun j hj => ?_)))⟩)
    · rw [nI_add, nI_clamp (show i < 2 ^ 31 by omega), nI_clamp (show fr + i < 2 ^ 31 by omega)]
    · by_cases e : j = i
      · rw [e, pk_us]
      · rw [pk_un e]
        exact h j (by omega)
end
section
/-! boundary, save -/
theorem sd_m1 {i : Nat} (h : 1 ≤ i) : nI i - 1 = nI (i - 1) := by
  rw [show (1 : Int32) = nI 1 from rfl, pk_sub h]
theorem sd_m2 {i : Nat} (h : 2 ≤ i) : nI i - 2 = nI (i - 2) := by
  rw [show (2 : Int32) = nI 2 from rfl, pk_sub h]
theorem sd_bound {post : Int32 → Prop} {sg pl : Int32} {a1 a2 a3 a4 a5 a6 a7 a8 a9 a10 a11 a12 a13 a14 a15 a16 a17 : Nat → Int32} {p0 p1 : Int32} {fr i : Nat} (e0 : p0 = nI fr) (e1 : p1 = nI i) (h : fr ≤ i) (hi : i < 96) (H0 : i + 1 - fr < 16 → post 0) (H1 : 6 ≤ i + 1 - fr → post 1) :
    wpX_boundary post (sg, pl, a1, a2, a3, a4, a5, a6, a7, a8, a9, a10, a11, a12, a13, a14, a15, a16, a17) p0 p1 := by
  subst e0 e1
  refine nm_r (e' := nI (i + 1 - fr)) (by rw [nI_1, pk_sub (by omega)]) ?_
  refine pk_le 6 (i + 1 - fr) (fun z => pk_lt (i + 1 - fr) 16 (fun z2 => ?_) (fun _ => H1 z)) (fun z => H0 (by omega))
  exact ⟨pk_in i 96 hi, pk_in (i - 1) 96 (by omega) (sd_m1 (by omega)), pk_in (i - 2) 96 (by omega) (sd_m2 (by omega)), nm_e (br_c (fun _ => H1 z) (fun _ => H0 z2))⟩
theorem sd_C_add {N N' : Nat → Nat} {F F' : Nat → Nat → Int32} {P : Nat} {I : Nat → Nat} {fr l x : Nat} {f : Nat → Int32} (h : sd_C N F P I fr f)
    (hr : ∀ k, k < P → N' (I k) = N (I k) ∧ F' (I k) = F (I k)) (hN : N' x = l) (hF : ∀ j, j < l → F' x j = f (fr + j)) : sd_C N' F' (P + 1) (va_up I P x) (fr + l) f := by
  have h' := sd_C_mv hr h
  obtain ⟨h1, h2⟩ := h'
  have hI : ∀ k, k < P → va_up I P x k = I k := fun k hk => sd_vn (by omega)
  have hs : ∀ k, k ≤ P → sd_sm N' (va_up I P x) k = sd_sm N' I k := fun k hk => sd_sm_congr (fun i hi => by rw [hI i (by omega)])
  refine ⟨?_, fun k hk j hj => ?_⟩
  · show sd_sm N' (va_up I P x) P + N' (va_up I P x P) = fr + l
    rw [hs P (Nat.le_refl P), sd_vs, h1, hN]
  · rw [hs k (by omega)]
    by_cases e : k = P
    · subst e
      rw [sd_vs] at hj ⊢
      rw [h1]
      exact hF j (by omega)
    · rw [hI k (by omega)] at hj ⊢
      exact h2 k (by omega) j hj
theorem sd_occ_add {I : Nat → Nat} {P x y : Nat} : sd_occ (va_up I P x) (P + 1) y = sd_occ I P y + if y = x then 1 else 0 := by
  show sd_occ (va_up I P x) P y + (if y = va_up I P x P then 1 else 0) = _
  rw [sd_vs, sd_occ_congr (I := I) (fun k hk => sd_vn (by omega))]
theorem sd_save40 {post : Int32 → St1 → Prop} {a1 a2 c3 c4 : Nat → Int32} {n s K : Nat} {Q R0 N0 : Nat → Nat} {F0 : Nat → Nat → Int32} (hn : n ≤ 96) (hs : s < 6) (hK : K ≤ 79) (hB : ∀ j, sd_B (a1 j))
    (H : ∀ (P : Nat) (I R N : Nat → Nat) (F : Nat → Nat → Int32) (pl : Int32) (a3 a4 a5 a6 a7 a8 a9 a10 a11 a12 a13 a14 a15 a16 a17 : Nat → Int32), P ≤ 16 → sd_H R N F (K + P) a5 a6 a7 a8 a9 → (∀ x, Q x + sd_occ I P x ≤ R x) →
      (∀ x, 0 < R0 x → N x = N0 x ∧ F x = F0 x) → sd_C N F P I n a1 → a3 s = nI P → (∀ k, k < P → a4 (s * 16 + k) = nI (I k)) → (∀ t, t ≠ s → a3 t = c3 t ∧ ∀ k, k < 16 → a4 (t * 16 + k) = c4 (t * 16 + k)) →
      post (nI n) ((nI n), pl, a1, a2, a3, a4, a5, a6, a7, a8, a9, a10, a11, a12, a13, a14, a15, a16, a17)) :
    ∀ (d i fr P : Nat) (I R N : Nat → Nat) (F : Nat → Nat → Int32) (pl : Int32) (a3 a4 a5 a6 a7 a8 a9 a10 a11 a12 a13 a14 a15 a16 a17 : Nat → Int32), i + d = n → fr ≤ i → i - fr ≤ 15 → P ≤ 16 → (i = n → fr = n) → (i < n → 6 * P ≤ fr) →
      sd_H R N F (K + P) a5 a6 a7 a8 a9 → (∀ x, Q x + sd_occ I P x ≤ R x) →
      (∀ x, 0 < R0 x → 0 < R x ∧ N x = N0 x ∧ F x = F0 x) → sd_C N F P I fr a1 → a3 s = nI P → (∀ k, k < P → a4 (s * 16 + k) = nI (I k)) → (∀ t, t ≠ s → a3 t = c3 t ∧ ∀ k, k < 16 → a4 (t * 16 + k) = c4 (t * 16 + k)) →
      wX_save_40 post (nI s) (d + 1) (nI fr) (nI i) (nI n) pl a1 a2 a3 a4 a5 a6 a7 a8 a9 a10 a11 a12 a13 a14 a15 a16 a17 := by
  have hcl : (nI s).toNatClampNeg = s := nI_clamp (by omega)
  intro d
  induction d with
  | zero =>
    intro i fr P I R N F pl a3 a4 a5 a6 a7 a8 a9 a10 a11 a12 a13 a14 a15 a16 a17 hd hf hl hP he h6 hH hQ hR hC h3 h4 ho
    have e : i = n := by omega
    rw [he e] at hC
    subst e
    exact pk_le i i (fun _ => H P I R N F pl a3 a4 a5 a6 a7 a8 a9 a10 a11 a12 a13 a14 a15 a16 a17 hP hH hQ (fun x hx => (hR x hx).2) hC h3 h4 ho) (fun z => absurd z (by omega))
  | succ d ih =>
    intro i fr P I R N F pl a3 a4 a5 a6 a7 a8 a9 a10 a11 a12 a13 a14 a15 a16 a17 hd hf hl hP he h6 hH hQ hR hC h3 h4 ho
    have h6' := h6 (by omega)
    have chunk : (i + 1 = n ∨ 6 ≤ i + 1 - fr) → wX_save_67 post (wX_save_40 post (nI s) (d + 1)) (nI s) (nI fr) (nI i) (nI n) pl a1 a2 a3 a4 a5 a6 a7 a8 a9 a10 a11 a12 a13 a14 a15 a16 a17 := by
      intro hc
      unfold wX_save_67
      refine sd_keep (fr := fr) (n := i + 1 - fr) rfl (by rw [nI_1, pk_sub (by omega)]) (by omega) (by omega) (by omega) (by omega) hB hH (fun x N' F' pl' a5' a6' a7' a8' a9' a10' a11' a12' a13' a14' a15' a16' a17' k1 k2 k3 k4 k5 => ?_)
      have hlive : ∀ k, k < P → 0 < R (I k) := fun k hk => by
        have := sd_occ_pos (I := I) hk
        have := hQ (I k)
        omega
      have hC' := sd_C_add hC (fun k hk => k3 (I k) (hlive k hk)) k4 k5
      rw [show fr + (i + 1 - fr) = i + 1 by omega] at hC'
      refine ⟨pk_in s 6 hs, pk_in (s * 16 + P) 96 (by omega) (by rw [hcl, h3, sd_ix]), nm_r (e' := upd a4 (s * 16 + P) (nI x)) (by rw [hcl, h3, sd_ix, nI_clamp (show s * 16 + P < 2 ^ 31 by omega)]) ⟨pk_in s 6 hs, pk_in s 6 hs, nm_r (e' := upd a3 s (nI (P + 1))) (by rw [hcl, h3, nI_1]) (nm_r (nI_1 i) (nm_r (nI_1 i) ?_))⟩⟩
      refine ih (i + 1) (i + 1) (P + 1) (va_up I P x) (sd_inc R x) N' F' pl' _ _ a5' a6' a7' a8' a9' a10' a11' a12' a13' a14' a15' a16' a17' (by omega) (Nat.le_refl _) (by omega) (by omega) (fun e => e) (fun e => by omega) k2 ?_ ?_ hC' pk_us ?_ ?_
      · intro y
        rw [sd_occ_add]
        show _ ≤ R y + (if y = x then 1 else 0)
        have := hQ y
        omega
      · intro y hy
        obtain ⟨r1, r2, r3⟩ := hR y hy
        obtain ⟨r4, r5⟩ := k3 y r1
        refine ⟨?_, by rw [r4, r2], by rw [r5, r3]⟩
        show 0 < R y + (if y = x then 1 else 0)
        omega
      · intro k hk
        by_cases e : k = P
        · rw [e, pk_us, sd_vs]
        · rw [pk_un (by omega), sd_vn e]
          exact h4 k (by omega)
      · intro t ht
        obtain ⟨o1, o2⟩ := ho t ht
        refine ⟨by rw [pk_un ht]; exact o1, fun k hk => ?_⟩
        rw [pk_un (by omega)]
        exact o2 k hk
    refine pk_le n i (fun z => absurd z (by omega)) (fun _ => ?_)
    refine pk_eq i (n - 1) (fun z => chunk (Or.inl (by omega))) (fun z => ?_) (hy := sd_m1 (by omega))
    refine sd_bound (fr := fr) (i := i) rfl rfl hf (by omega) (fun hlt => ?_) (fun hge => ?_)
    · exact br_t rfl (nm_r (nI_1 i) (ih (i + 1) fr P I R N F pl a3 a4 a5 a6 a7 a8 a9 a10 a11 a12 a13 a14 a15 a16 a17 (by omega) (by omega) (by omega) hP (fun e => by omega) (fun _ => h6') hH hQ hR hC h3 h4 ho))
    · exact br_f (by decide) (chunk (Or.inr hge))
theorem sd_bad {post : Int32 → Prop} {p0 : Int32} {s : Nat} (e0 : p0 = nI s) (hs : s < 6) (H : post 0) : wpX_badSlot post () p0 := by
  subst e0
  exact br_f (nI_pos (by omega)) (pk_le s 5 (fun _ => H) (fun z => absurd z (by omega)))
theorem sd_save {post : Int32 → St1 → Prop} {pl : Int32} {a1 a2 a3 a4 a5 a6 a7 a8 a9 a10 a11 a12 a13 a14 a15 a16 a17 : Nat → Int32} {n s K : Nat} {Q R N : Nat → Nat} {F : Nat → Nat → Int32} {p0 : Int32} (e0 : p0 = nI s) (hn : n ≤ 96) (hs : s < 6) (hK : K ≤ 79) (hB : ∀ j, sd_B (a1 j))
    (h2 : a2 s = nI 0) (hH : sd_H R N F K a5 a6 a7 a8 a9) (hQ : ∀ x, Q x ≤ R x)
    (H : ∀ (P : Nat) (I R' N' : Nat → Nat) (F' : Nat → Nat → Int32) (pl' : Int32) (a2' a3' a4' a5' a6' a7' a8' a9' a10' a11' a12' a13' a14' a15' a16' a17' : Nat → Int32), sd_H R' N' F' (K + 16) a5' a6' a7' a8' a9' → (∀ x, Q x + sd_occ I P x ≤ R' x) →
      (∀ x, 0 < R x → N' x = N x ∧ F' x = F x) → sd_C N' F' P I n a1 → sd_L s P I a2' a3' a4' → (∀ t, t ≠ s → a2' t = a2 t ∧ a3' t = a3 t ∧ ∀ k, k < 16 → a4' (t * 16 + k) = a4 (t * 16 + k)) →
      post (nI n) ((nI n), pl', a1, a2', a3', a4', a5', a6', a7', a8', a9', a10', a11', a12', a13', a14', a15', a16', a17')) : wpX_save post ((nI n), pl, a1, a2, a3, a4, a5, a6, a7, a8, a9, a10, a11, a12, a13, a14, a15, a16, a17) p0 := by
  subst e0
  have hcl : (nI s).toNatClampNeg = s := nI_clamp (by omega)
  unfold wpX_save
  refine sd_bad rfl hs ?_
  refine br_t rfl ⟨pk_in s 6 hs, br_t (by rw [hcl]; exact h2) ⟨pk_in s 6 hs, nm_r (e' := upd a2 s (nI 1)) (by rw [hcl]; rfl) ⟨pk_in s 6 hs, nm_r (e' := upd a3 s (nI 0)) (by rw [hcl]; rfl) ⟨n + 1, ?_⟩⟩⟩⟩
  refine sd_save40 (R0 := R) (N0 := N) (F0 := F) (Q := Q) (K := K) (c3 := a3) (c4 := a4) hn hs hK hB (fun P I R' N' F' pl' a3' a4' a5' a6' a7' a8' a9' a10' a11' a12' a13' a14' a15' a16' a17' hP k1 k2 k3 k4 k5 k6 k7 => ?_) n 0 0 0 (fun _ => 0) R N F pl _ a4 a5 a6 a7 a8 a9 a10 a11 a12 a13 a14 a15 a16 a17 (by omega) (Nat.le_refl 0) (by omega) (by omega) (fun e => e) (fun _ => by omega) hH hQ (fun x hx => ⟨hx, rfl, rfl⟩) ⟨rfl, fun k hk => absurd hk (Nat.not_lt_zero k)⟩ pk_us (fun k hk => absurd hk (Nat.not_lt_zero k)) (fun t ht => ⟨pk_un ht, fun k _ => rfl⟩)
  refine H P I R' N' F' pl' _ a3' a4' a5' a6' a7' a8' a9' a10' a11' a12' a13' a14' a15' a16' a17' ?_ k2 k3 k4 ⟨hP, pk_us, k5, k6⟩ (fun t ht => ⟨pk_un ht, (k7 t ht).1, (k7 t ht).2⟩)
  obtain ⟨q1, q2, q3, q4⟩ := k1
  exact ⟨q1, fun x => by have := q2 x; omega, fun x hx => q3 x (by omega), q4⟩
end
section
/-! length, restored, byteAt, sum, stageByte, holds -/
/-- the law's own sum over the first n bytes -/
def sd_hs (f : Nat → Int32) : Nat → Int32
  | 0 => 7
  | n + 1 => sd_hs f n * 131 + f n
/-- all that reading a slot needs: its cells, its chunks, their bytes -/
def sd_V (R N : Nat → Nat) (F : Nat → Nat → Int32) (s P : Nat) (I : Nat → Nat) (n : Nat) (f : Nat → Int32) (a2 a3 a4 a6 a7 a8 a9 : Nat → Int32) : Prop :=
  s < 6 ∧ n ≤ 96 ∧ sd_L s P I a2 a3 a4 ∧ sd_C N F P I n f ∧ ∀ k, k < P → sd_rp (fun y => 0 < R y) N F a6 a7 a8 a9 2 (I k)
theorem sd_V_of {R N : Nat → Nat} {F : Nat → Nat → Int32} {K s P : Nat} {I Q : Nat → Nat} {n : Nat} {f : Nat → Int32} {a2 a3 a4 a5 a6 a7 a8 a9 : Nat → Int32} (hs : s < 6) (hn : n ≤ 96) (hL : sd_L s P I a2 a3 a4) (hC : sd_C N F P I n f)
    (hH : sd_H R N F K a5 a6 a7 a8 a9) (hQ : ∀ x, Q x + sd_occ I P x ≤ R x) : sd_V R N F s P I n f a2 a3 a4 a6 a7 a8 a9 := by
  refine ⟨hs, hn, hL, hC, fun k hk => hH.2.2.2 (I k) ?_⟩
  have := sd_occ_pos (I := I) hk
  have := hQ (I k)
  omega
theorem sd_len {post : Int32 → Prop} {sg pl : Int32} {a1 a2 a3 a4 a5 a6 a7 a8 a9 a10 a11 a12 a13 a14 a15 a16 a17 : Nat → Int32} {R N : Nat → Nat} {F : Nat → Nat → Int32} {s P n : Nat} {I : Nat → Nat} {f : Nat → Int32} {p0 : Int32} (e0 : p0 = nI s) (hV : sd_V R N F s P I n f a2 a3 a4 a6 a7 a8 a9) (H : post (nI n)) : wpX_length post (sg, pl, a1, a2, a3, a4, a5, a6, a7, a8, a9, a10, a11, a12, a13, a14, a15, a16, a17) p0 := by
  subst e0
  obtain ⟨hs, hn, ⟨l1, l2, l3, l4⟩, ⟨c1, c2⟩, hrp⟩ := hV
  have hcl : (nI s).toNatClampNeg = s := nI_clamp (by omega)
  unfold wpX_length
  refine sd_bad rfl hs ?_
  refine br_t rfl ⟨pk_in s 6 hs, br_f (by rw [hcl, l2]; decide) ?_⟩
  refine pk_loop (σ := Unit) (fun m k _ => wX_length_26 post (nI s) sg pl a1 a2 a3 a4 a5 a6 a7 a8 a9 a10 a11 a12 a13 a14 a15 a16 a17 m (nI (sd_sm N I k)) (nI k)) (fun _ _ => True) P 0 () (Nat.zero_le _) trivial ?_ ?_
  · intro m _ _
    refine ⟨pk_in s 6 hs, pk_le P P (fun _ => ?_) (fun z => absurd z (by omega)) (hx := by rw [hcl]; exact l3)⟩
    rw [c1]
    exact H
  · intro m k _ hk _ hw
    obtain ⟨i1, i2, i3, i4⟩ := sd_rp_in (hrp k hk)
    have e4 : a4 (nI s * 16 + nI k).toNatClampNeg = nI (I k) := by
      rw [sd_ix, nI_clamp (show s * 16 + k < 2 ^ 31 by omega)]; exact l4 k hk
    refine ⟨pk_in s 6 hs, pk_le P k (fun z => absurd z (by omega)) (fun _ => ?_) (hx := by rw [hcl]; exact l3)⟩
    refine ⟨pk_in (s * 16 + k) 96 (by omega) (sd_ix s k), pk_in (I k) 96 i1 e4, nm_r (e' := nI (sd_sm N I (k + 1))) ?_ (nm_r (nI_1 k) (hw () trivial))⟩
    rw [e4, nI_clamp (show I k < 2 ^ 31 by omega), i4, nI_add]
    rfl
theorem sd_rest {post : Int32 → St1 → Prop} {sg pl : Int32} {a1 a2 a3 a4 a5 a6 a7 a8 a9 a10 a11 a12 a13 a14 a15 a16 a17 : Nat → Int32} {R N : Nat → Nat} {F : Nat → Nat → Int32} {s P n i : Nat} {I : Nat → Nat} {f : Nat → Int32} {p0 p1 : Int32} (e0 : p0 = nI s) (e1 : p1 = nI i) (hV : sd_V R N F s P I n f a2 a3 a4 a6 a7 a8 a9) (hi : i < n)
    (H : ∀ o u c : Nat → Int32, post (f i) (sg, pl, a1, a2, a3, a4, a5, a6, a7, a8, a9, a10, a11, a12, a13, o, u, a16, c)) : wpX_restored post (sg, pl, a1, a2, a3, a4, a5, a6, a7, a8, a9, a10, a11, a12, a13, a14, a15, a16, a17) p0 p1 := by
  subst e0 e1
  obtain ⟨hs, hn, ⟨l1, l2, l3, l4⟩, ⟨c1, c2⟩, hrp⟩ := hV
  have hcl : (nI s).toNatClampNeg = s := nI_clamp (by omega)
  refine pk_loop (σ := Nat) (fun m k t => wX_restored_5 post (nI s) sg pl a1 a2 a3 a4 a5 a6 a7 a8 a9 a10 a11 a12 a13 a14 a15 a16 a17 m (nI t) (nI k)) (fun k t => sd_sm N I k + t = i) P 0 i (Nat.zero_le _) (Nat.zero_add i) ?_ ?_
  · intro m t h
    omega
  · intro m k t hk h hw
    obtain ⟨i1, i2, i3, i4⟩ := sd_rp_in (hrp k hk)
    have hk1 : (nI (I k)).toNatClampNeg = I k := nI_clamp (by omega)
    refine ⟨pk_in s 6 hs, pk_le P k (fun z => absurd z (by omega)) (fun _ => ?_) (hx := by rw [hcl]; exact l3)⟩
    refine ⟨pk_in (s * 16 + k) 96 (by omega) (sd_ix s k), nm_r (e' := nI (I k)) (by rw [sd_ix, nI_clamp (show s * 16 + k < 2 ^ 31 by omega)]; exact l4 k hk) ⟨pk_in (I k) 96 i1, ?_⟩⟩
    refine pk_le (N (I k)) t (fun z => ⟨pk_in (I k) 96 i1, nm_r (e' := nI (t - N (I k))) (by rw [hk1, i4, pk_sub z]) (nm_r (nI_1 k) (hw (t - N (I k)) ?_))⟩) (fun z => ?_) (hx := by rw [hk1]; exact i4)
    · show sd_sm N I k + N (I k) + (t - N (I k)) = i
      omega
    · refine sd_wo rfl (by omega) (hrp k hk) (fun o u c ho => ⟨pk_in t 16 (by omega), ?_⟩)
      have hv : o (nI t).toNatClampNeg = f i := by
        rw [nI_clamp (show t < 2 ^ 31 by omega), ho t z, c2 k hk t z, h]
      rw [hv]
      exact H o u c
theorem sd_byte {post : Int32 → St1 → Prop} {sg pl : Int32} {a1 a2 a3 a4 a5 a6 a7 a8 a9 a10 a11 a12 a13 a14 a15 a16 a17 : Nat → Int32} {R N : Nat → Nat} {F : Nat → Nat → Int32} {s P n i : Nat} {I : Nat → Nat} {f : Nat → Int32} {p0 p1 : Int32} (e0 : p0 = nI s) (e1 : p1 = nI i) (hV : sd_V R N F s P I n f a2 a3 a4 a6 a7 a8 a9) (hi : i < n)
    (H : ∀ o u c : Nat → Int32, post (f i) (sg, pl, a1, a2, a3, a4, a5, a6, a7, a8, a9, a10, a11, a12, a13, o, u, a16, c)) : wpX_byteAt post (sg, pl, a1, a2, a3, a4, a5, a6, a7, a8, a9, a10, a11, a12, a13, a14, a15, a16, a17) p0 p1 := by
  have hn := hV.2.1
  subst e0 e1
  unfold wpX_byteAt
  refine sd_len rfl hV ?_
  refine br_t (nI_pos' (by omega)) (br_f (nI_pos (by omega)) (br_t (nI_lt hi (by omega)) ?_))
  exact sd_rest rfl rfl hV hi (fun o u c => H o u c)
theorem sd_sum {post : Int32 → St1 → Prop} {sg pl : Int32} {a1 a2 a3 a4 a5 a6 a7 a8 a9 a10 a11 a12 a13 a14 a15 a16 a17 : Nat → Int32} {R N : Nat → Nat} {F : Nat → Nat → Int32} {s P n : Nat} {I : Nat → Nat} {f : Nat → Int32} {p0 : Int32} (e0 : p0 = nI s) (hV : sd_V R N F s P I n f a2 a3 a4 a6 a7 a8 a9)
    (H : ∀ o u c : Nat → Int32, post (sd_hs f n) (sg, pl, a1, a2, a3, a4, a5, a6, a7, a8, a9, a10, a11, a12, a13, o, u, a16, c)) : wpX_sum post (sg, pl, a1, a2, a3, a4, a5, a6, a7, a8, a9, a10, a11, a12, a13, a14, a15, a16, a17) p0 := by
  subst e0
  obtain ⟨hs, hn, ⟨l1, l2, l3, l4⟩, ⟨c1, c2⟩, hrp⟩ := hV
  have hcl : (nI s).toNatClampNeg = s := nI_clamp (by omega)
  unfold wpX_sum
  refine sd_bad rfl hs ?_
  refine br_t rfl ⟨pk_in s 6 hs, br_f (by rw [hcl, l2]; decide) ?_⟩
  refine pk_loop (σ := (Nat → Int32) × (Nat → Int32) × (Nat → Int32)) (fun m k t => wX_sum_23 post (nI s) m (sd_hs f (sd_sm N I k)) (nI k) sg pl a1 a2 a3 a4 a5 a6 a7 a8 a9 a10 a11 a12 a13 t.1 t.2.1 a16 t.2.2) (fun _ _ => True) P 0 (a14, a15, a17) (Nat.zero_le _) trivial ?_ ?_
  · intro m t _
    refine ⟨pk_in s 6 hs, pk_le P P (fun _ => ?_) (fun z => absurd z (by omega)) (hx := by rw [hcl]; exact l3)⟩
    rw [c1]
    exact H _ _ _
  · intro m k t hk _ hw
    obtain ⟨t1, t2, t3⟩ := t
    obtain ⟨i1, i2, i3, i4⟩ := sd_rp_in (hrp k hk)
    have hk1 : (nI (I k)).toNatClampNeg = I k := nI_clamp (by omega)
    refine ⟨pk_in s 6 hs, pk_le P k (fun z => absurd z (by omega)) (fun _ => ?_) (hx := by rw [hcl]; exact l3)⟩
    refine ⟨pk_in (s * 16 + k) 96 (by omega) (sd_ix s k), nm_r (e' := nI (I k)) (by rw [sd_ix, nI_clamp (show s * 16 + k < 2 ^ 31 by omega)]; exact l4 k hk) ?_⟩
    refine sd_wo rfl (by omega) (hrp k hk) (fun o u c ho => ?_)
    refine pk_loop (σ := Unit) (fun m' j _ => wX_sum_55 post (wX_sum_23 post (nI s) m) (nI s) (nI k) (nI (I k)) sg pl a1 a2 a3 a4 a5 a6 a7 a8 a9 a10 a11 a12 a13 o u a16 c m' (sd_hs f (sd_sm N I k + j)) (nI j)) (fun _ _ => True) (N (I k)) 0 () (Nat.zero_le _) trivial ?_ ?_
    · intro m' _ _
      exact ⟨pk_in (I k) 96 i1, pk_le (N (I k)) (N (I k)) (fun _ => nm_r (nI_1 k) (hw (o, u, c) trivial)) (fun z => absurd z (by omega)) (hx := by rw [hk1]; exact i4)⟩
    · intro m' j _ hj _ hw'
      refine ⟨pk_in (I k) 96 i1, pk_le (N (I k)) j (fun z => absurd z (by omega)) (fun _ => ⟨pk_in j 16 (by omega), nm_r (e' := sd_hs f (sd_sm N I k + (j + 1))) ?_ (nm_r (nI_1 j) (hw' () trivial))⟩) (hx := by rw [hk1]; exact i4)⟩
      rw [nI_clamp (show j < 2 ^ 31 by omega), ho j hj, c2 k hk j hj]
      rfl
theorem sd_sbyte {post : Int32 → Prop} {sg pl : Int32} {a1 a2 a3 a4 a5 a6 a7 a8 a9 a10 a11 a12 a13 a14 a15 a16 a17 : Nat → Int32} {p0 : Int32} {i n : Nat} (e0 : p0 = nI i) (eg : sg = nI n) (hi : i < n) (hn : n ≤ 96) (H : post (a1 i)) : wpX_stageByte post (sg, pl, a1, a2, a3, a4, a5, a6, a7, a8, a9, a10, a11, a12, a13, a14, a15, a16, a17) p0 := by
  subst e0 eg
  refine br_f (nI_pos (by omega)) (br_t (nI_lt hi (by omega)) ⟨pk_in i 96 (by omega), ?_⟩)
  rw [nI_clamp (show i < 2 ^ 31 by omega)]
  exact H
theorem sd_holds {post : Int32 → St3 → Prop} {sg pl : Int32} {a1 a2 a3 a4 a5 a6 a7 a8 a9 a10 a11 a12 a13 a14 a15 a16 a17 : Nat → Int32} {pq : Int32} {b1 b2 b3 b4 b5 b6 b7 b8 b9 b10 b11 b12 b13 b14 b15 b16 b17 : Nat → Int32} {R N : Nat → Nat} {F : Nat → Nat → Int32} {s P n : Nat} {I : Nat → Nat} {p1 : Int32} (e1 : p1 = nI s)
    (hV : sd_V R N F s P I n b1 a2 a3 a4 a6 a7 a8 a9)
    (H : ∀ o u c : Nat → Int32, post 1 (sg, pl, a1, a2, a3, a4, a5, a6, a7, a8, a9, a10, a11, a12, a13, o, u, a16, c, (nI n), pq, b1, b2, b3, b4, b5, b6, b7, b8, b9, b10, b11, b12, b13, b14, b15, b16, b17)) : wpL_holds post (sg, pl, a1, a2, a3, a4, a5, a6, a7, a8, a9, a10, a11, a12, a13, a14, a15, a16, a17, (nI n), pq, b1, b2, b3, b4, b5, b6, b7, b8, b9, b10, b11, b12, b13, b14, b15, b16, b17) p1 := by
  subst e1
  have hn := hV.2.1
  unfold wpL_holds wpX_stageLength
  refine sd_len rfl hV ?_
  refine br_t rfl ?_
  refine pk_loop (σ := Int32 × (Nat → Int32) × (Nat → Int32) × (Nat → Int32)) (fun m i t => wL_holds_23 post (nI s) (nI n) m t.1 (nI i) sg pl a1 a2 a3 a4 a5 a6 a7 a8 a9 a10 a11 a12 a13 t.2.1 t.2.2.1 a16 t.2.2.2 (nI n) pq b1 b2 b3 b4 b5 b6 b7 b8 b9 b10 b11 b12 b13 b14 b15 b16 b17) (fun i t => t.1 = sd_hs b1 (min i n)) 96 0 (7, a14, a15, a17) (Nat.zero_le _) ?_ ?_ ?_
  · rw [Nat.zero_min]
    rfl
  · intro m t h
    obtain ⟨x, t1, t2, t3⟩ := t
    dsimp only at h ⊢
    refine pk_le 96 96 (fun _ => ?_) (fun z => absurd z (by omega))
    refine sd_sum rfl hV (fun o u c => ?_)
    refine br_t ?_ (H o u c)
    rw [h, show min 96 n = n by omega]
  · intro m i t hi h hw
    obtain ⟨x, t1, t2, t3⟩ := t
    dsimp only at h hw ⊢
    refine pk_le 96 i (fun z => absurd z (by omega)) (fun _ => ?_)
    refine pk_le n i (fun z => nm_r (nI_1 i) (hw (x, t1, t2, t3) ?_)) (fun z => ?_)
    · show x = _
      rw [h, show min (i + 1) n = min i n by omega]
    · refine sd_sbyte rfl rfl z hn ?_
      refine sd_byte rfl rfl hV z (fun o u c => ?_)
      refine br_t rfl (nm_r (e' := sd_hs b1 (min (i + 1) n)) ?_ (nm_r (nI_1 i) (hw (_, o, u, c) rfl)))
      rw [h, show min (i + 1) n = i + 1 by omega, show min i n = i by omega]
      rfl
end
section
/-! makeRaw, release, drop -/
theorem sd_raw {post : St1 → Prop} {sg pl : Int32} {a1 a2 a3 a4 a5 a6 a7 a8 a9 a10 a11 a12 a13 a14 a15 a16 a17 : Nat → Int32} {Z : Nat → Prop} {N : Nat → Nat} {F : Nat → Nat → Int32} {p0 : Int32} {k x : Nat} (e0 : p0 = nI x) (hk : k ≤ 6) (h : sd_rp Z N F a6 a7 a8 a9 k x)
    (H : ∀ a7' a8' a9' a14' a15' a17' : Nat → Int32, (∀ y, y ≠ x → a7' y = a7 y ∧ a8' y = a8 y ∧ ∀ j, j < 16 → a9' (y * 16 + j) = a9 (y * 16 + j)) → sd_ra N F a6 a7' a9' x → post (sg, pl, a1, a2, a3, a4, a5, a6, a7', a8', a9', a10, a11, a12, a13, a14', a15', a16, a17')) :
    wpX_makeRaw post (sg, pl, a1, a2, a3, a4, a5, a6, a7, a8, a9, a10, a11, a12, a13, a14, a15, a16, a17) p0 := by
  subst e0
  obtain ⟨hx, _, h16, h6⟩ := sd_rp_in h
  have hcl : (nI x).toNatClampNeg = x := nI_clamp (by omega)
  unfold wpX_makeRaw
  refine sd_wo rfl hk h (fun o u c ho => ?_)
  refine ⟨pk_in x 96 hx, nm_r (e' := upd a7 x (nI 0)) (by rw [hcl]; rfl) ⟨pk_in x 96 hx, pk_in x 96 hx, nm_r (e' := upd a8 x (nI (N x))) (by rw [hcl, h6]) ?_⟩⟩
  refine pk_loop (fun m i s => wX_makeRaw_26 post (nI x) sg pl m (nI i) a1 a2 a3 a4 a5 a6 (upd a7 x (nI 0)) (upd a8 x (nI (N x))) s a10 a11 a12 a13 o u a16 c) (fun i s => (∀ y, y ≠ x → ∀ j, j < 16 → s (y * 16 + j) = a9 (y * 16 + j)) ∧ ∀ j, j < i → s (x * 16 + j) = o j) (N x) 0 a9 (Nat.zero_le _) ⟨fun y _ j _ => rfl, fun j hj => absurd hj (Nat.not_lt_zero j)⟩ ?_ ?_
  · intro m s hI
    refine ⟨pk_in x 96 hx, pk_le (N x) (N x) (fun _ => ?_) (fun z => absurd z (by omega)) (hx := by rw [hcl]; exact h6)⟩
    exact H _ _ s o u c (fun y hy => ⟨pk_un hy, pk_un hy, hI.1 y hy⟩) ⟨h16, h6, pk_us, fun j hj => by rw [hI.2 j hj]; exact ho j hj⟩
  · intro m i s hi hI hw
    refine ⟨pk_in x 96 hx, pk_le (N x) i (fun z => absurd z (by omega)) (fun _ => ⟨pk_in i 16 (by omega), pk_in (x * 16 + i) 1536 (by omega) (sd_ix x i), nm_r (e' := upd s (x * 16 + i) (o i)) ?_ (nm_r (nI_1 i) (hw _ ⟨sd_blk (by omega) hI.1, sd_blk1 rfl hI.2⟩))⟩) (hx := by rw [hcl]; exact h6)⟩
    rw [sd_ix, nI_clamp (show i < 2 ^ 31 by omega), nI_clamp (show x * 16 + i < 2 ^ 31 by omega)]
theorem sd_rel22 {post : St1 → Prop} {sg pl : Int32} {a1 a2 a3 a4 a5 a6 a10 a11 a12 a13 a16 : Nat → Int32} {R N : Nat → Nat} {F : Nat → Nat → Int32} {x : Nat} (hx : x < 96) (hR : R x = 0) (h5 : ∀ y, y < 96 → a5 y = nI (R y)) (hb : ∀ y, R y ≤ 96)
    (H : ∀ a7 a8 a9 a14 a15 a17 : Nat → Int32, (∀ y, 0 < R y → sd_rp (fun y => 0 < R y) N F a6 a7 a8 a9 2 y) → post (sg, pl, a1, a2, a3, a4, a5, a6, a7, a8, a9, a10, a11, a12, a13, a14, a15, a16, a17)) :
    ∀ (d i : Nat) (a7 a8 a9 a14 a15 a17 : Nat → Int32), i + d = 96 → (∀ y, 0 < R y → sd_rp (fun y => 0 < R y ∨ y = x) N F a6 a7 a8 a9 2 y) → (∀ y, y < i → 0 < R y → ¬ a7 y = nI (x + 1)) →
      wX_release_22 post (nI x) (d + 1) (nI i) sg pl a1 a2 a3 a4 a5 a6 a7 a8 a9 a10 a11 a12 a13 a14 a15 a16 a17 := by
  have hcl : (nI x).toNatClampNeg = x := nI_clamp (by omega)
  have ne : ∀ y, 0 < R y → y ≠ x := fun y hy e => by rw [e] at hy; omega
  have fin : ∀ (m : Nat) (a7 a8 a9 a14 a15 a17 : Nat → Int32), (∀ y, 0 < R y → sd_rp (fun y => 0 < R y ∨ y = x) N F a6 a7 a8 a9 2 y) → (∀ y, y < 96 → 0 < R y → ¬ a7 y = nI (x + 1)) →
      wX_release_22 post (nI x) (m + 1) (nI 96) sg pl a1 a2 a3 a4 a5 a6 a7 a8 a9 a10 a11 a12 a13 a14 a15 a16 a17 := by
    intro m a7 a8 a9 a14 a15 a17 h1 h2
    refine pk_le 96 96 (fun _ => ⟨pk_in x 96 hx, nm_r (e' := upd a7 x (nI 0)) (by rw [hcl]; rfl) (H _ a8 a9 a14 a15 a17 (fun y hy => ?_))⟩) (fun z => absurd z (by omega))
    refine sd_rp_mv (C := fun y => 0 < R y) (fun z hz zz cz => ⟨cz, fun hr => sd_ra_fr rfl rfl rfl (pk_un (ne z cz)) (fun j _ => rfl) hr, fun b hb' zb hl => Or.inr ⟨?_, sd_li_fr rfl rfl rfl rfl rfl (pk_un (ne z cz)) rfl (fun j _ => rfl) hl⟩⟩) 2 y hy (h1 y hy)
    rcases zb with zb | zb
    · exact zb
    · exact absurd (by rw [hl.2.2.2.1, zb]) (h2 z hz cz)
  intro d
  induction d with
  | zero =>
    intro i a7 a8 a9 a14 a15 a17 hd h1 h2
    have e : i = 96 := by omega
    subst e
    exact fin 0 a7 a8 a9 a14 a15 a17 h1 h2
  | succ d ih =>
    intro i a7 a8 a9 a14 a15 a17 hd h1 h2
    have hcli : (nI i).toNatClampNeg = i := nI_clamp (by omega)
    have hRi := hb i
    refine pk_le 96 i (fun z => absurd z (by omega)) (fun _ => ⟨pk_in i 96 (by omega), ?_⟩)
    refine pk_le (R i) 0 (fun z => ?_) (fun z => ⟨pk_in i 96 (by omega), br_c (fun e => ?_) (fun e => ?_)⟩) (hx := by rw [hcli]; exact h5 i (by omega))
    · refine nm_r (nI_1 i) (ih (i + 1) a7 a8 a9 a14 a15 a17 (by omega) h1 (fun y hy hy2 => h2 y ?_ hy2))
      rcases (show y < i ∨ y = i by omega) with e | e
      · exact e
      · rw [e] at hy2; omega
    · refine sd_raw (x := i) rfl (by omega) (h1 i z) (fun a7' a8' a9' a14' a15' a17' k1 k2 => ?_)
      refine nm_r (nI_1 i) (ih (i + 1) a7' a8' a9' a14' a15' a17' (by omega) (fun y hy => ?_) (fun y hy hy2 => ?_))
      · refine sd_rp_mv (C := fun _ => True) (fun w hw zw _ => ⟨zw, fun hr => ?_, fun b hb' zb hl => ?_⟩) 2 y trivial (h1 y hy)
        · by_cases ew : w = i
          · rw [ew]; exact k2
          · obtain ⟨j1, j2, j3⟩ := k1 w ew
            exact sd_ra_fr rfl rfl rfl j1 j3 hr
        · by_cases ew : w = i
          · rw [ew]; exact Or.inl k2
          · obtain ⟨j1, j2, j3⟩ := k1 w ew
            exact Or.inr ⟨trivial, sd_li_fr rfl rfl rfl rfl rfl j1 j2 j3 hl⟩
      · by_cases ew : y = i
        · rw [ew, k2.2.2.1]
          exact fun e => absurd ((nI_eq (by omega) (by omega)).mp e) (by omega)
        · rw [(k1 y ew).1]
          exact h2 y (by omega) hy2
    · refine nm_r (nI_1 i) (ih (i + 1) a7 a8 a9 a14 a15 a17 (by omega) h1 (fun y hy hy2 => ?_))
      rcases (show y < i ∨ y = i by omega) with e' | e'
      · exact h2 y e' hy2
      · rw [e']
        rw [hcli, nI_1] at e
        exact e
theorem sd_rel {post : St1 → Prop} {sg pl : Int32} {a1 a2 a3 a4 a5 a6 a7 a8 a9 a10 a11 a12 a13 a14 a15 a16 a17 : Nat → Int32} {R N : Nat → Nat} {F : Nat → Nat → Int32} {K x : Nat} {p0 : Int32} (e0 : p0 = nI x) (hR : 0 < R x) (hK : K ≤ 96) (hH : sd_H R N F K a5 a6 a7 a8 a9)
    (H : ∀ a5' a7' a8' a9' a14' a15' a17' : Nat → Int32, sd_H (va_up R x (R x - 1)) N F K a5' a6 a7' a8' a9' → post (sg, pl, a1, a2, a3, a4, a5', a6, a7', a8', a9', a10, a11, a12, a13, a14', a15', a16, a17')) : wpX_release post (sg, pl, a1, a2, a3, a4, a5, a6, a7, a8, a9, a10, a11, a12, a13, a14, a15, a16, a17) p0 := by
  subst e0
  obtain ⟨q1, q2, q3, q4⟩ := hH
  have hx : x < 96 := (sd_rp_in (q4 x hR)).1
  have hcl : (nI x).toNatClampNeg = x := nI_clamp (by omega)
  have hRx := q2 x
  have p1 : ∀ y, y < 96 → upd a5 x (nI (R x - 1)) y = nI (va_up R x (R x - 1) y) := by
    intro y hy
    by_cases e : y = x
    · rw [e, pk_us, sd_vs]
    · rw [pk_un e, sd_vn e]; exact q1 y hy
  have p2 : ∀ y, va_up R x (R x - 1) y ≤ K := by
    intro y
    by_cases e : y = x
    · rw [e, sd_vs]; omega
    · rw [sd_vn e]; exact q2 y
  have p3 : ∀ y, K ≤ y → va_up R x (R x - 1) y = 0 := by
    intro y hy
    by_cases e : y = x
    · rw [e] at hy; have := q3 x hy; omega
    · rw [sd_vn e]; exact q3 y hy
  have p4 : ∀ y, 0 < va_up R x (R x - 1) y → 0 < R y := by
    intro y hy
    by_cases e : y = x
    · rw [e]; exact hR
    · rw [sd_vn e] at hy; exact hy
  refine ⟨pk_in x 96 hx, pk_in x 96 hx, nm_r (e' := upd a5 x (nI (R x - 1))) (by rw [hcl, q1 x hx, sd_m1 (by omega)]) ⟨pk_in x 96 hx, pk_le (R x - 1) 0 (fun z => ?_) (fun z => ?_) (hx := by rw [hcl, pk_us])⟩⟩
  · refine ⟨97, sd_rel22 (R := va_up R x (R x - 1)) (N := N) (F := F) hx (by rw [sd_vs]; omega) p1 (fun y => Nat.le_trans (p2 y) hK) (fun a7' a8' a9' a14' a15' a17' k => ?_) 96 0 a7 a8 a9 a14 a15 a17 rfl (fun y hy => ?_) (fun y hy => absurd hy (Nat.not_lt_zero y))⟩
    · exact H _ a7' a8' a9' a14' a15' a17' ⟨p1, p2, p3, k⟩
    · refine sd_rp_fr (fun w hw zw => ⟨?_, rfl, rfl, rfl, rfl, rfl, fun j _ => rfl⟩) (q4 y (p4 y hy))
      by_cases e : w = x
      · exact Or.inr e
      · exact Or.inl (by rw [sd_vn e]; exact zw)
  · refine H _ a7 a8 a9 a14 a15 a17 ⟨p1, p2, p3, fun y hy => sd_rp_fr (fun w hw zw => ⟨?_, rfl, rfl, rfl, rfl, rfl, fun j _ => rfl⟩) (q4 y (p4 y hy))⟩
    by_cases e : w = x
    · rw [e, sd_vs]; exact z
    · rw [sd_vn e]; exact zw
theorem sd_drop14 {post : Int32 → St1 → Prop} {sg pl : Int32} {a1 a2 a3 a4 a6 a10 a11 a12 a13 a16 : Nat → Int32} {N : Nat → Nat} {F : Nat → Nat → Int32} {K s P n : Nat} {I Q : Nat → Nat} (hs : s < 6) (hK : K ≤ 96) (hL : sd_L s P I a2 a3 a4)
    (H : ∀ (R : Nat → Nat) (a5 a7 a8 a9 a14 a15 a17 : Nat → Int32), sd_H R N F K a5 a6 a7 a8 a9 → (∀ x, Q x ≤ R x) → post (nI n) (sg, pl, a1, (upd a2 s (nI 0)), (upd a3 s (nI 0)), a4, a5, a6, a7, a8, a9, a10, a11, a12, a13, a14, a15, a16, a17)) :
    ∀ (d k : Nat) (R : Nat → Nat) (a5 a7 a8 a9 a14 a15 a17 : Nat → Int32), k + d = P → sd_H R N F K a5 a6 a7 a8 a9 → (∀ x, Q x + sd_occ I P x ≤ R x + sd_occ I k x) →
      wX_drop_14 post (nI s) (nI n) (d + 1) (nI k) sg pl a1 a2 a3 a4 a5 a6 a7 a8 a9 a10 a11 a12 a13 a14 a15 a16 a17 := by
  obtain ⟨l1, l2, l3, l4⟩ := hL
  have hcl : (nI s).toNatClampNeg = s := nI_clamp (by omega)
  intro d
  induction d with
  | zero =>
    intro k R a5 a7 a8 a9 a14 a15 a17 hd hH hQ
    have e : k = P := by omega
    subst e
    exact ⟨pk_in s 6 hs, pk_le k k (fun _ => ⟨pk_in s 6 hs, nm_r (e' := upd a2 s (nI 0)) (by rw [hcl]; rfl) ⟨pk_in s 6 hs, nm_r (e' := upd a3 s (nI 0)) (by rw [hcl]; rfl) (H R a5 a7 a8 a9 a14 a15 a17 hH (fun x => by have := hQ x; omega))⟩⟩) (fun z => absurd z (by omega)) (hx := by rw [hcl]; exact l3)⟩
  | succ d ih =>
    intro k R a5 a7 a8 a9 a14 a15 a17 hd hH hQ
    have hlive : 0 < R (I k) := by
      have h1 := hQ (I k)
      have h2 : sd_occ I (k + 1) (I k) ≤ sd_occ I P (I k) := sd_occ_le (by omega)
      have h3 : sd_occ I (k + 1) (I k) = sd_occ I k (I k) + 1 := by
        show sd_occ I k (I k) + (if I k = I k then 1 else 0) = _
        rw [if_pos rfl]
      omega
    refine ⟨pk_in s 6 hs, pk_le P k (fun z => absurd z (by omega)) (fun _ => ⟨pk_in (s * 16 + k) 96 (by omega) (sd_ix s k), ?_⟩) (hx := by rw [hcl]; exact l3)⟩
    refine sd_rel (x := I k) (by rw [sd_ix, nI_clamp (show s * 16 + k < 2 ^ 31 by omega)]; exact l4 k (by omega)) hlive hK hH (fun a5' a7' a8' a9' a14' a15' a17' hH' => ?_)
    refine nm_r (nI_1 k) (ih (k + 1) _ a5' a7' a8' a9' a14' a15' a17' (by omega) hH' (fun x => ?_))
    have h1 := hQ x
    show _ ≤ va_up R (I k) (R (I k) - 1) x + (sd_occ I k x + if x = I k then 1 else 0)
    by_cases e : x = I k
    · rw [if_pos e, e, sd_vs]
      rw [e] at h1
      omega
    · rw [if_neg e, sd_vn e]
      omega
theorem sd_drop {post : Int32 → St1 → Prop} {sg pl : Int32} {a1 a2 a3 a4 a5 a6 a7 a8 a9 a10 a11 a12 a13 a14 a15 a16 a17 : Nat → Int32} {R N : Nat → Nat} {F : Nat → Nat → Int32} {K s P n : Nat} {I Q : Nat → Nat} {f : Nat → Int32} {p0 : Int32} (e0 : p0 = nI s) (hs : s < 6) (hn : n ≤ 96) (hK : K ≤ 96) (hL : sd_L s P I a2 a3 a4) (hC : sd_C N F P I n f)
    (hH : sd_H R N F K a5 a6 a7 a8 a9) (hQ : ∀ x, Q x + sd_occ I P x ≤ R x)
    (H : ∀ (R' : Nat → Nat) (a2' a3' a5' a7' a8' a9' a14' a15' a17' : Nat → Int32), sd_H R' N F K a5' a6 a7' a8' a9' → (∀ x, Q x ≤ R' x) → a2' s = nI 0 → (∀ t, t ≠ s → a2' t = a2 t ∧ a3' t = a3 t) → post (nI n) (sg, pl, a1, a2', a3', a4, a5', a6, a7', a8', a9', a10, a11, a12, a13, a14', a15', a16, a17')) :
    wpX_drop post (sg, pl, a1, a2, a3, a4, a5, a6, a7, a8, a9, a10, a11, a12, a13, a14, a15, a16, a17) p0 := by
  subst e0
  unfold wpX_drop
  refine sd_len rfl (sd_V_of hs hn hL hC hH hQ) ?_
  refine br_t (nI_pos' (by omega)) ⟨P + 1, ?_⟩
  exact sd_drop14 hs hK hL (fun R' a5' a7' a8' a9' a14' a15' a17' k1 k2 => H R' _ _ a5' a7' a8' a9' a14' a15' a17' k1 k2 pk_us (fun t ht => ⟨pk_un ht, pk_un ht⟩)) P 0 R a5 a7 a8 a9 a14 a15 a17 (by omega) hH (fun x => hQ x)
end
section
/-! the stage's methods: determined by the stage alone -/
def sd_det (n : Nat) (f : Nat → Int32) (W : (Int32 → St1 → Prop) → St1 → Prop) : Prop :=
  ∃ (r : Int32) (n' : Nat) (f' : Nat → Int32), n' ≤ 96 ∧ (∀ j, sd_B (f' j)) ∧ ∀ (post : Int32 → St1 → Prop) (pl : Int32) (a2 a3 a4 a5 a6 a7 a8 a9 a10 a11 a12 a13 a14 a15 a16 a17 : Nat → Int32), post r ((nI n'), pl, f', a2, a3, a4, a5, a6, a7, a8, a9, a10, a11, a12, a13, a14, a15, a16, a17) → W post ((nI n), pl, f, a2, a3, a4, a5, a6, a7, a8, a9, a10, a11, a12, a13, a14, a15, a16, a17)
/-- the same for a call without an answer -/
def sd_det1 (n : Nat) (f : Nat → Int32) (W : (St1 → Prop) → St1 → Prop) (n' : Nat) (f' : Nat → Int32) : Prop :=
  ∀ (post : St1 → Prop) (pl : Int32) (a2 a3 a4 a5 a6 a7 a8 a9 a10 a11 a12 a13 a14 a15 a16 a17 : Nat → Int32), post ((nI n'), pl, f', a2, a3, a4, a5, a6, a7, a8, a9, a10, a11, a12, a13, a14, a15, a16, a17) → W post ((nI n), pl, f, a2, a3, a4, a5, a6, a7, a8, a9, a10, a11, a12, a13, a14, a15, a16, a17)
theorem sd_Bu {f : Nat → Int32} {k : Nat} {x : Int32} (h : ∀ j, sd_B (f j)) (hx : sd_B x) : ∀ j, sd_B (upd f k x j) := by
  intro j
  by_cases e : j = k
  · rw [e, pk_us]; exact hx
  · rw [pk_un e]; exact h j
theorem sd_Ba (x : Int32) : sd_B (x &&& 255) := pk_andE x 8 (by decide)
theorem sd_feed {n : Nat} {f : Nat → Int32} (hn : n ≤ 96) (hB : ∀ j, sd_B (f j)) (x : Int32) : sd_det n f (fun post u => wpX_feed post u x) := by
  by_cases h : n < 96
  · refine ⟨nI (n + 1), n + 1, upd f n (x &&& 255), by omega, sd_Bu hB (sd_Ba x), ?_⟩
    intro post pl a2 a3 a4 a5 a6 a7 a8 a9 a10 a11 a12 a13 a14 a15 a16 a17 hp
    exact pk_lt n 96 (fun _ => ⟨pk_in n 96 h, nm_r (e' := upd f n (x &&& 255)) (by rw [nI_clamp (show n < 2 ^ 31 by omega)]) (nm_r (nI_1 n) hp)⟩) (fun z => absurd z (by omega))
  · refine ⟨-1, n, f, hn, hB, ?_⟩
    intro post pl a2 a3 a4 a5 a6 a7 a8 a9 a10 a11 a12 a13 a14 a15 a16 a17 hp
    exact pk_lt n 96 (fun z => absurd z h) (fun _ => hp)
theorem sd_fr31 {k : Nat} {x2 : Int32} (hk : k < 2 ^ 31) : ∀ (d i n : Nat) (f : Nat → Int32) (x5 : Int32), i + d = k → n ≤ 96 → (∀ j, sd_B (f j)) →
    ∃ (n' : Nat) (f' : Nat → Int32), n' ≤ 96 ∧ (∀ j, sd_B (f' j)) ∧ ∀ (post : Int32 → St1 → Prop) (pl : Int32) (a2 a3 a4 a5 a6 a7 a8 a9 a10 a11 a12 a13 a14 a15 a16 a17 : Nat → Int32), post (nI n') ((nI n'), pl, f', a2, a3, a4, a5, a6, a7, a8, a9, a10, a11, a12, a13, a14, a15, a16, a17) → wX_feedRun_31 post x2 (nI k) (d + 1) x5 (nI i) (nI n) pl f a2 a3 a4 a5 a6 a7 a8 a9 a10 a11 a12 a13 a14 a15 a16 a17 := by
  intro d
  induction d with
  | zero =>
    intro i n f x5 hd hn hB
    refine ⟨n, f, hn, hB, ?_⟩
    intro post pl a2 a3 a4 a5 a6 a7 a8 a9 a10 a11 a12 a13 a14 a15 a16 a17 hp
    exact pk_le k i (fun _ => hp) (fun z => absurd z (by omega))
  | succ d ih =>
    intro i n f x5 hd hn hB
    obtain ⟨r, n1, f1, hn1, hB1, h1⟩ := sd_feed hn hB x5
    obtain ⟨n2, f2, hn2, hB2, h2⟩ := ih (i + 1) n1 f1 (x5 + x2) (by omega) hn1 hB1
    refine ⟨n2, f2, hn2, hB2, ?_⟩
    intro post pl a2 a3 a4 a5 a6 a7 a8 a9 a10 a11 a12 a13 a14 a15 a16 a17 hp
    refine pk_le k i (fun z => absurd z (by omega)) (fun _ => ?_)
    exact h1 _ pl a2 a3 a4 a5 a6 a7 a8 a9 a10 a11 a12 a13 a14 a15 a16 a17 (nm_e (nm_r (nI_1 i) (h2 post pl a2 a3 a4 a5 a6 a7 a8 a9 a10 a11 a12 a13 a14 a15 a16 a17 hp)))
theorem sd_frun {n : Nat} {f : Nat → Int32} (hn : n ≤ 96) (hB : ∀ j, sd_B (f j)) (p0 p1 : Int32) {p2 : Int32} {k : Nat} (e2 : p2 = nI k) (hk : k < 16) : sd_det n f (fun post u => wpX_feedRun post u p0 p1 p2) := by
  subst e2
  by_cases h : k ≤ 96 - n
  · obtain ⟨n2, f2, hn2, hB2, h2⟩ := sd_fr31 (x2 := p1) (show k < 2 ^ 31 by omega) k 0 n f p0 (by omega) hn hB
    refine ⟨nI n2, n2, f2, hn2, hB2, ?_⟩
    intro post pl a2 a3 a4 a5 a6 a7 a8 a9 a10 a11 a12 a13 a14 a15 a16 a17 hp
    refine br_t (nI_pos' (by omega)) ?_
    exact pk_le k (96 - n) (fun _ => ⟨k + 1, h2 post pl a2 a3 a4 a5 a6 a7 a8 a9 a10 a11 a12 a13 a14 a15 a16 a17 hp⟩) (fun z => absurd z (by omega)) (hy := by rw [show (96 : Int32) = nI 96 from rfl, pk_sub hn])
  · refine ⟨-1, n, f, hn, hB, ?_⟩
    intro post pl a2 a3 a4 a5 a6 a7 a8 a9 a10 a11 a12 a13 a14 a15 a16 a17 hp
    refine br_t (nI_pos' (by omega)) ?_
    exact pk_le k (96 - n) (fun z => absurd z h) (fun _ => hp) (hy := by rw [show (96 : Int32) = nI 96 from rfl, pk_sub hn])
theorem sd_type {n : Nat} {f : Nat → Int32} (hn : n ≤ 96) (hB : ∀ j, sd_B (f j)) (p1 p2 p3 : Int32) :
    ∃ (n' : Nat) (f' : Nat → Int32), n' ≤ 96 ∧ (∀ j, sd_B (f' j)) ∧ sd_det1 n f (fun post u => wpL_type post u p1 p2 p3) n' f' := by
  by_cases h : (2 : Int32) ≤ p1
  · obtain ⟨k, hk, ek⟩ := pk_andE p3 (m := 15) 4 (by decide)
    obtain ⟨r, n1, f1, hn1, hB1, h1⟩ := sd_frun hn hB p2 ((p3 >>> ((4 : Int32) &&& 31)) &&& 7) ek hk
    refine ⟨n1, f1, hn1, hB1, ?_⟩
    intro post pl a2 a3 a4 a5 a6 a7 a8 a9 a10 a11 a12 a13 a14 a15 a16 a17 hp
    exact br_t h (h1 _ pl a2 a3 a4 a5 a6 a7 a8 a9 a10 a11 a12 a13 a14 a15 a16 a17 hp)
  · obtain ⟨r, n1, f1, hn1, hB1, h1⟩ := sd_feed hn hB p2
    refine ⟨n1, f1, hn1, hB1, ?_⟩
    intro post pl a2 a3 a4 a5 a6 a7 a8 a9 a10 a11 a12 a13 a14 a15 a16 a17 hp
    exact br_f h (h1 _ pl a2 a3 a4 a5 a6 a7 a8 a9 a10 a11 a12 a13 a14 a15 a16 a17 hp)
theorem sd_poke {n : Nat} {f : Nat → Int32} (hn : n ≤ 96) (hB : ∀ j, sd_B (f j)) {p0 : Int32} {i : Nat} (e0 : p0 = nI i) (hi : i < n) (b : Int32) :
    ∃ (r : Int32) (f' : Nat → Int32), (∀ j, sd_B (f' j)) ∧ ∀ (post : Int32 → St1 → Prop) (pl : Int32) (a2 a3 a4 a5 a6 a7 a8 a9 a10 a11 a12 a13 a14 a15 a16 a17 : Nat → Int32), post r ((nI n), pl, f', a2, a3, a4, a5, a6, a7, a8, a9, a10, a11, a12, a13, a14, a15, a16, a17) → wpX_poke post ((nI n), pl, f, a2, a3, a4, a5, a6, a7, a8, a9, a10, a11, a12, a13, a14, a15, a16, a17) p0 b := by
  subst e0
  refine ⟨f i, upd f i (b &&& 255), sd_Bu hB (sd_Ba b), ?_⟩
  intro post pl a2 a3 a4 a5 a6 a7 a8 a9 a10 a11 a12 a13 a14 a15 a16 a17 hp
  have hcl : (nI i).toNatClampNeg = i := nI_clamp (by omega)
  exact br_f (nI_pos (by omega)) (br_t (nI_lt hi (by omega)) ⟨pk_in i 96 (by omega), nm_r (e' := f i) (by rw [hcl]) ⟨pk_in i 96 (by omega), nm_r (e' := upd f i (b &&& 255)) (by rw [hcl]) hp⟩⟩)
theorem sd_ins31 {n i : Nat} (b : Int32) : ∀ (e : Nat) (f : Nat → Int32), i + e ≤ 95 → (∀ j, sd_B (f j)) →
    ∃ f' : Nat → Int32, (∀ j, sd_B (f' j)) ∧ ∀ (post : Int32 → St1 → Prop) (pl : Int32) (a2 a3 a4 a5 a6 a7 a8 a9 a10 a11 a12 a13 a14 a15 a16 a17 : Nat → Int32), post (nI (n + 1)) ((nI (n + 1)), pl, f', a2, a3, a4, a5, a6, a7, a8, a9, a10, a11, a12, a13, a14, a15, a16, a17) → wX_insert_31 post (nI i) b (nI n) pl (e + 1) (nI (i + e)) f a2 a3 a4 a5 a6 a7 a8 a9 a10 a11 a12 a13 a14 a15 a16 a17 := by
  intro e
  induction e with
  | zero =>
    intro f he hB
    refine ⟨upd f i (b &&& 255), sd_Bu hB (sd_Ba b), ?_⟩
    intro post pl a2 a3 a4 a5 a6 a7 a8 a9 a10 a11 a12 a13 a14 a15 a16 a17 hp
    exact pk_le i i (fun _ => ⟨pk_in i 96 (by omega), nm_r (e' := upd f i (b &&& 255)) (by rw [nI_clamp (show i < 2 ^ 31 by omega)]) (nm_r (nI_1 n) hp)⟩) (fun z => absurd z (by omega))
  | succ e ih =>
    intro f he hB
    obtain ⟨f', hB', h'⟩ := ih (upd f (i + e + 1) (f (i + e))) (by omega) (sd_Bu hB (hB _))
    refine ⟨f', hB', ?_⟩
    intro post pl a2 a3 a4 a5 a6 a7 a8 a9 a10 a11 a12 a13 a14 a15 a16 a17 hp
    refine pk_le (i + e + 1) i (fun z => absurd z (by omega)) (fun _ => ⟨pk_in (i + e) 96 (by omega) (nI_pred (i + e)), pk_in (i + e + 1) 96 (by omega), nm_r (e' := upd f (i + e + 1) (f (i + e))) ?_ (nm_r (pk_m1 (i + e)) (h' post pl a2 a3 a4 a5 a6 a7 a8 a9 a10 a11 a12 a13 a14 a15 a16 a17 hp))⟩)
    show upd f (nI (i + e + 1)).toNatClampNeg (f (nI (i + e + 1) - 1).toNatClampNeg) = _
    rw [nI_pred, nI_clamp (show i + e + 1 < 2 ^ 31 by omega), nI_clamp (show i + e < 2 ^ 31 by omega)]
theorem sd_insert {n : Nat} {f : Nat → Int32} (hn : n ≤ 96) (hB : ∀ j, sd_B (f j)) {p0 : Int32} {i : Nat} (e0 : p0 = nI i) (hi : i ≤ n) (b : Int32) : sd_det n f (fun post u => wpX_insert post u p0 b) := by
  subst e0
  by_cases h : n < 96
  · obtain ⟨f', hB', h'⟩ := sd_ins31 (n := n) (i := i) b (n - i) f (by omega) hB
    rw [show i + (n - i) = n by omega] at h'
    refine ⟨nI (n + 1), n + 1, f', by omega, hB', ?_⟩
    intro post pl a2 a3 a4 a5 a6 a7 a8 a9 a10 a11 a12 a13 a14 a15 a16 a17 hp
    exact br_f (nI_pos (by omega)) (br_t (nI_le hi (by omega)) (br_t (nI_lt (b := 96) h (by decide)) ⟨n - i + 1, h' post pl a2 a3 a4 a5 a6 a7 a8 a9 a10 a11 a12 a13 a14 a15 a16 a17 hp⟩))
  · refine ⟨-1, n, f, hn, hB, ?_⟩
    intro post pl a2 a3 a4 a5 a6 a7 a8 a9 a10 a11 a12 a13 a14 a15 a16 a17 hp
    exact br_f (nI_pos (by omega)) (br_t (nI_le hi (by omega)) (pk_lt n 96 (fun z => absurd z h) (fun _ => hp)))
theorem sd_cut31 {n v : Nat} (hn : n ≤ 96) (hv : v ≤ n) : ∀ (d i : Nat) (f : Nat → Int32), i + d = n - v → (∀ j, sd_B (f j)) →
    ∃ f' : Nat → Int32, (∀ j, sd_B (f' j)) ∧ ∀ (post : Int32 → St1 → Prop) (pl : Int32) (a2 a3 a4 a5 a6 a7 a8 a9 a10 a11 a12 a13 a14 a15 a16 a17 : Nat → Int32), post (nI (n - v)) ((nI (n - v)), pl, f', a2, a3, a4, a5, a6, a7, a8, a9, a10, a11, a12, a13, a14, a15, a16, a17) → wX_cut_31 post (nI v) (nI n) pl (d + 1) (nI i) f a2 a3 a4 a5 a6 a7 a8 a9 a10 a11 a12 a13 a14 a15 a16 a17 := by
  intro d
  induction d with
  | zero =>
    intro i f hd hB
    refine ⟨f, hB, ?_⟩
    intro post pl a2 a3 a4 a5 a6 a7 a8 a9 a10 a11 a12 a13 a14 a15 a16 a17 hp
    exact pk_le (n - v) i (fun _ => nm_r (pk_sub hv) hp) (fun z => absurd z (by omega)) (hx := pk_sub hv)
  | succ d ih =>
    intro i f hd hB
    obtain ⟨f', hB', h'⟩ := ih (i + 1) (upd f i (f (i + v))) (by omega) (sd_Bu hB (hB _))
    refine ⟨f', hB', ?_⟩
    intro post pl a2 a3 a4 a5 a6 a7 a8 a9 a10 a11 a12 a13 a14 a15 a16 a17 hp
    refine pk_le (n - v) i (fun z => absurd z (by omega)) (fun _ => ⟨pk_in (i + v) 96 (by omega) (nI_add i v), pk_in i 96 (by omega), nm_r (e' := upd f i (f (i + v))) ?_ (nm_r (nI_1 i) (h' post pl a2 a3 a4 a5 a6 a7 a8 a9 a10 a11 a12 a13 a14 a15 a16 a17 hp))⟩) (hx := pk_sub hv)
    rw [nI_add, nI_clamp (show i < 2 ^ 31 by omega), nI_clamp (show i + v < 2 ^ 31 by omega)]
theorem sd_cut {n : Nat} {f : Nat → Int32} (hn : n ≤ 96) (hB : ∀ j, sd_B (f j)) {p0 p1 : Int32} {u v : Nat} (e0 : p0 = nI u) (e1 : p1 = nI v) (hu : u < 2 ^ 30) (hv : v < 2 ^ 30) : sd_det n f (fun post w => wpX_cut post w p0 p1) := by
  subst e0 e1
  by_cases h1 : n < u
  · refine ⟨-5, n, f, hn, hB, ?_⟩
    intro post pl a2 a3 a4 a5 a6 a7 a8 a9 a10 a11 a12 a13 a14 a15 a16 a17 hp
    exact br_f (nI_pos (by omega)) (br_f (nI_pos (by omega)) (br_t (nI_lt h1 (by omega)) hp))
  · by_cases h2 : v ≤ n - u
    · obtain ⟨f', hB', h'⟩ := sd_cut31 hn (show v ≤ n by omega) (n - v - u) u f (by omega) hB
      refine ⟨nI (n - v), n - v, f', by omega, hB', ?_⟩
      intro post pl a2 a3 a4 a5 a6 a7 a8 a9 a10 a11 a12 a13 a14 a15 a16 a17 hp
      exact br_f (nI_pos (by omega)) (br_f (nI_pos (by omega)) (br_f (nI_nlt (by omega) (by omega)) (pk_le v (n - u) (fun _ => ⟨n - v - u + 1, h' post pl a2 a3 a4 a5 a6 a7 a8 a9 a10 a11 a12 a13 a14 a15 a16 a17 hp⟩) (fun z => absurd z (by omega)) (hy := pk_sub (by omega)))))
    · refine ⟨-5, n, f, hn, hB, ?_⟩
      intro post pl a2 a3 a4 a5 a6 a7 a8 a9 a10 a11 a12 a13 a14 a15 a16 a17 hp
      exact br_f (nI_pos (by omega)) (br_f (nI_pos (by omega)) (br_f (nI_nlt (by omega) (by omega)) (pk_le v (n - u) (fun z => absurd z h2) (fun _ => hp) (hy := pk_sub (by omega)))))
theorem sd_cell {L : Nat} (hL : L ≤ 260) (xs : Nat → Int32) (k : Nat) (hk : k < 1000) : ∃ v : Int32, ∀ post : Int32 → Prop, post v → wpL_cell post L xs () (nI k) := by
  by_cases h : L ≤ k
  · exact ⟨0, fun post hp => br_t (nI_le h (by omega)) hp⟩
  · refine ⟨xs k, fun post hp => br_f (nI_ge (by omega) (by omega)) ⟨pk_in k L (by omega), ?_⟩⟩
    rw [nI_clamp (show k < 2 ^ 31 by omega)]
    exact hp
theorem sd_edit35 {L : Nat} (hL : L ≤ 260) (xs : Nat → Int32) {n : Nat} {f : Nat → Int32} (hn : n ≤ 96) (hB : ∀ j, sd_B (f j)) :
    ∃ (n' : Nat) (f' : Nat → Int32), n' ≤ 96 ∧ (∀ j, sd_B (f' j)) ∧ ∀ (post : St1 → Prop) (pl : Int32) (a2 a3 a4 a5 a6 a7 a8 a9 a10 a11 a12 a13 a14 a15 a16 a17 : Nat → Int32), post ((nI n'), pl, f', a2, a3, a4, a5, a6, a7, a8, a9, a10, a11, a12, a13, a14, a15, a16, a17) → wL_edit_35 post L xs (nI n) (nI n) pl f a2 a3 a4 a5 a6 a7 a8 a9 a10 a11 a12 a13 a14 a15 a16 a17 := by
  obtain ⟨v2, c2⟩ := sd_cell hL xs 2 (by omega)
  obtain ⟨v3, c3⟩ := sd_cell hL xs 3 (by omega)
  obtain ⟨v4, c4⟩ := sd_cell hL xs 4 (by omega)
  obtain ⟨v5, c5⟩ := sd_cell hL xs 5 (by omega)
  obtain ⟨a, ha, ea⟩ := pk_andE v2 (m := 127) 7 (by decide)
  obtain ⟨u, hu, eu⟩ := pk_andE v4 (m := 63) 6 (by decide)
  obtain ⟨w, hw, ew⟩ := pk_andE v5 (m := 7) 3 (by decide)
  obtain ⟨r1, n1, f1, hn1, hB1, h1⟩ := sd_insert hn hB (p0 := nI a - nI a / (nI n + 1) * (nI n + 1)) (i := a % (n + 1)) (by rw [nI_1, pk_rem (by omega) (by omega) (by omega)]) (by have := Nat.mod_lt a (show n + 1 > 0 by omega); omega) v3
  obtain ⟨r2, n2, f2, hn2, hB2, h2⟩ := sd_cut hn1 hB1 (p0 := nI u) (p1 := nI w) rfl rfl (by omega) (by omega)
  refine ⟨n2, f2, hn2, hB2, ?_⟩
  intro post pl a2 a3 a4 a5 a6 a7 a8 a9 a10 a11 a12 a13 a14 a15 a16 a17 hp
  unfold wL_edit_35
  refine c2 _ (nm_r ea (c3 _ ⟨?_, h1 _ pl a2 a3 a4 a5 a6 a7 a8 a9 a10 a11 a12 a13 a14 a15 a16 a17 (c4 _ (nm_r eu (c5 _ (nm_r ew (h2 _ pl a2 a3 a4 a5 a6 a7 a8 a9 a10 a11 a12 a13 a14 a15 a16 a17 hp)))))⟩))
  rw [nI_1]
  exact nI_ne0 (by omega) (by omega)
theorem sd_edit {L : Nat} (hL : L ≤ 260) (xs : Nat → Int32) {n : Nat} {f : Nat → Int32} (hn : n ≤ 96) (hB : ∀ j, sd_B (f j)) :
    ∃ (n' : Nat) (f' : Nat → Int32), n' ≤ 96 ∧ (∀ j, sd_B (f' j)) ∧ sd_det1 n f (fun post u => wpL_edit post L xs u) n' f' := by
  obtain ⟨v0, c0⟩ := sd_cell hL xs 0 (by omega)
  obtain ⟨v1, c1⟩ := sd_cell hL xs 1 (by omega)
  obtain ⟨a, ha, ea⟩ := pk_andE v0 (m := 127) 7 (by decide)
  by_cases h : n = 0
  · obtain ⟨n2, f2, hn2, hB2, h2⟩ := sd_edit35 hL xs hn hB
    refine ⟨n2, f2, hn2, hB2, ?_⟩
    intro post pl a2 a3 a4 a5 a6 a7 a8 a9 a10 a11 a12 a13 a14 a15 a16 a17 hp
    unfold wpL_edit wpX_stageLength
    refine c0 _ (nm_r ea (c1 _ (pk_le n 0 (fun _ => h2 post pl a2 a3 a4 a5 a6 a7 a8 a9 a10 a11 a12 a13 a14 a15 a16 a17 hp) (fun z => absurd z (by omega)))))
  · obtain ⟨r1, f1, hB1, h1⟩ := sd_poke hn hB (p0 := nI a - nI a / nI n * nI n) (i := a % n) (pk_rem (by omega) (by omega) (by omega)) (Nat.mod_lt a (by omega)) v1
    obtain ⟨n2, f2, hn2, hB2, h2⟩ := sd_edit35 hL xs hn hB1
    refine ⟨n2, f2, hn2, hB2, ?_⟩
    intro post pl a2 a3 a4 a5 a6 a7 a8 a9 a10 a11 a12 a13 a14 a15 a16 a17 hp
    unfold wpL_edit wpX_stageLength
    exact c0 _ (nm_r ea (c1 _ (pk_le n 0 (fun z => absurd z (by omega)) (fun _ => ⟨nI_ne0 (by omega) (by omega), h1 _ pl a2 a3 a4 a5 a6 a7 a8 a9 a10 a11 a12 a13 a14 a15 a16 a17 (h2 post pl a2 a3 a4 a5 a6 a7 a8 a9 a10 a11 a12 a13 a14 a15 a16 a17 hp)⟩))))
end
section
/-! the law's second half: two slots are saved, one goes, one is kept -/
theorem sd_206 {L : Nat} (hL : L ≤ 260) {xs : Nat → Int32} {x5 : Int32} {kc ks : Nat} {sg pl : Int32} {a1 a2 a3 a4 a5 a6 a7 a8 a9 a10 a11 a12 a13 a14 a15 a16 a17 : Nat → Int32} {pq : Int32} {b1 b2 b3 b4 b5 b6 b7 b8 b9 b10 b11 b12 b13 b14 b15 b16 b17 : Nat → Int32}
    {R N : Nat → Nat} {F : Nat → Nat → Int32} {K k g Pk Pg nk ng n1 : Nat} {Ik Ig : Nat → Nat} {fg : Nat → Int32} (eg : sg = nI n1) (hk : k < 6) (hg : g < 6) (hkg : k ≠ g) (hK : K ≤ 63) (hH : sd_H R N F K a5 a6 a7 a8 a9)
    (hLk : sd_L k Pk Ik a2 a3 a4) (hCk : sd_C N F Pk Ik nk b1) (hnk : nk ≤ 96) (hLg : sd_L g Pg Ig a2 a3 a4) (hCg : sd_C N F Pg Ig ng fg) (hng : ng ≤ 96)
    (hQ : ∀ x, sd_occ Ik Pk x + sd_occ Ig Pg x ≤ R x) (hn1 : n1 ≤ 96) (hB1 : ∀ j, sd_B (a1 j))
    (h5 : x5 = 0 ∨ (x5 = 1 ∧ sd_det1 nk b1 (fun post u => wpL_edit post L xs u) n1 a1)) :
    wL_law_206 (fun r => r = 1) L xs x5 (nI g) (nI k) kc ks sg pl a1 a2 a3 a4 a5 a6 a7 a8 a9 a10 a11 a12 a13 a14 a15 a16 a17 (nI nk) pq b1 b2 b3 b4 b5 b6 b7 b8 b9 b10 b11 b12 b13 b14 b15 b16 b17 := by
  subst eg
  obtain ⟨v5, c5⟩ := sd_cell hL xs 5 (by omega)
  obtain ⟨r2, n2, f2, hn2, hB2, h2⟩ := sd_insert hn1 hB1 (p0 := 0) (i := 0) rfl (Nat.zero_le _) v5
  unfold wL_law_206
  refine sd_holds rfl (sd_V_of (Q := sd_occ Ig Pg) hk hnk hLk hCk hH (fun x => by have := hQ x; omega)) (fun o u c => ?_)
  refine br_f (by decide) ?_
  refine sd_drop (I := Ig) (Q := sd_occ Ik Pk) rfl hg hng (by omega) hLg hCg hH hQ (fun R' a2' a3' a5' a7' a8' a9' a14' a15' a17' d1 d2 d3 d4 => ?_)
  have hLk' : sd_L k Pk Ik a2' a3' a4 := sd_L_mv (d4 k hkg).1 (d4 k hkg).2 (fun _ _ => rfl) hLk
  refine sd_holds rfl (sd_V_of (Q := fun _ => 0) hk hnk hLk' hCk d1 (fun x => by have := d2 x; omega)) (fun o1 u1 c1 => ?_)
  refine br_f (by decide) ?_
  refine c5 _ ?_
  refine h2 _ pl a2' a3' a4 a5' a6 a7' a8' a9' a10 a11 a12 a13 o1 u1 a16 c1 ?_
  refine sd_save (Q := sd_occ Ik Pk) rfl hn2 hg (by omega) hB2 d3 d1 d2 (fun P I R'' N' F' pl' a2'' a3'' a4'' a5'' a6'' a7'' a8'' a9'' a10'' a11'' a12'' a13'' a14'' a15'' a16'' a17'' s1 s2 s3 s4 s5 s6 => ?_)
  have hlive : ∀ i, i < Pk → 0 < R' (Ik i) := fun i hi => by
    have := sd_occ_pos (I := Ik) hi
    have := d2 (Ik i)
    omega
  obtain ⟨m1, m2, m3⟩ := s6 k hkg
  have hLk'' : sd_L k Pk Ik a2'' a3'' a4'' := sd_L_mv m1 m2 m3 hLk'
  have hCk'' : sd_C N' F' Pk Ik nk b1 := sd_C_mv (fun i hi => s3 (Ik i) (hlive i hi)) hCk
  refine sd_holds rfl (sd_V_of (Q := sd_occ I P) hk hnk hLk'' hCk'' s1 (fun x => by have := s2 x; omega)) (fun o2 u2 c2 => ?_)
  refine br_f (by decide) ?_
  rcases h5 with e | ⟨e, hdet⟩
  · exact br_t e rfl
  · refine br_f (by rw [e]; decide) ?_
    refine hdet _ pq b2 b3 b4 b5 b6 b7 b8 b9 b10 b11 b12 b13 b14 b15 b16 b17 ?_
    refine h2 _ pq b2 b3 b4 b5 b6 b7 b8 b9 b10 b11 b12 b13 b14 b15 b16 b17 ?_
    exact sd_holds rfl (sd_V_of (Q := sd_occ Ik Pk) hg hn2 s5 s4 s1 s2) (fun o3 u3 c3 => rfl)
end
section
/-! the law -/
def sd_z : Nat → Int32 := fun _ => 0
theorem sd_H0 : sd_H (fun _ => 0) (fun _ => 0) (fun _ _ => 0) 0 (fun _ => 0) (fun _ => 0) (fun _ => 0) (fun _ => 0) (fun _ => 0) :=
  ⟨fun _ _ => rfl, fun _ => Nat.le_refl 0, fun _ _ => rfl, fun _ h => absurd h (Nat.lt_irrefl 0)⟩
theorem sd_end {L : Nat} (hL : L ≤ 260) {xs : Nat → Int32} {kc ks m k n : Nat} {f : Nat → Int32} (hk : k ≤ 300) (hend : L ≤ k + 2) (hn : n ≤ 96) (hB : ∀ j, sd_B (f j)) :
    wL_law_19 (fun r => r = 1) L xs kc ks (m + 1) (nI k) (nI n) 0 f (fun _ => 0) (fun _ => 0) (fun _ => 0) (fun _ => 0) (fun _ => 0) (fun _ => 0) (fun _ => 0) (fun _ => 0) (fun _ => 0) (fun _ => 0) (fun _ => 0) (fun _ => 0) (fun _ => 0) (fun _ => 0) (fun _ => 0) (fun _ => 0) (nI n) 0 f (fun _ => 0) (fun _ => 0) (fun _ => 0) (fun _ => 0) (fun _ => 0) (fun _ => 0) (fun _ => 0) (fun _ => 0) (fun _ => 0) (fun _ => 0) (fun _ => 0) (fun _ => 0) (fun _ => 0) (fun _ => 0) (fun _ => 0) (fun _ => 0) := by
  obtain ⟨v6, c6⟩ := sd_cell hL xs 6 (by omega)
  obtain ⟨v7, c7⟩ := sd_cell hL xs 7 (by omega)
  obtain ⟨q, hq, eq⟩ := pk_andE v6 (m := 2147483647) 31 (by decide)
  obtain ⟨t, ht, et⟩ := pk_andE v7 (m := 3) 2 (by decide)
  obtain ⟨n1, f1, hn1, hB1, hdet⟩ := sd_edit hL xs hn hB
  obtain ⟨A, hA⟩ : ∃ A, A = q % 6 := ⟨_, rfl⟩
  have hA6 : A < 6 := by rw [hA]; exact Nat.mod_lt q (by omega)
  obtain ⟨B, hBe⟩ : ∃ B, B = (A + 1 + t) % 6 := ⟨_, rfl⟩
  have hB6 : B < 6 := by rw [hBe]; exact Nat.mod_lt _ (by omega)
  have hAB : B ≠ A := by omega
  refine br_t ?_ ?_
  · rw [show (2 : Int32) = nI 2 from rfl, nI_add]
    exact nI_le hend (by omega)
  refine c6 _ ⟨by decide, nm_r (e' := nI A) (by rw [eq, show (6 : Int32) = nI 6 from rfl, pk_rem (by omega) (by omega) (by omega), hA]) ?_⟩
  refine c7 _ ⟨by decide, nm_r (e' := nI B) (by rw [et, nI_1, nI_add, show (6 : Int32) = nI 6 from rfl, pk_rem (by omega) (by omega) (by omega), hBe]) ?_⟩
  refine sd_save (Q := fun _ => 0) rfl hn hA6 (by omega) hB rfl sd_H0 (fun x => Nat.le_refl 0) (fun PA IA R1 N1 F1 pl' a2' a3' a4' a5' a6' a7' a8' a9' a10' a11' a12' a13' a14' a15' a16' a17' s1 s2 s3 s4 s5 s6 => ?_)
  refine br_t rfl ?_
  refine sd_holds rfl (sd_V_of (Q := fun _ => 0) hA6 hn s5 s4 s1 s2) (fun o u c => ?_)
  refine br_f (by decide) ?_
  refine hdet _ pl' a2' a3' a4' a5' a6' a7' a8' a9' a10' a11' a12' a13' o u a16' c ?_
  refine sd_save (Q := sd_occ IA PA) rfl hn1 hB6 (by omega) hB1 (by rw [(s6 B hAB).1]; rfl) s1 (fun x => by have := s2 x; omega) (fun PB IB R2 N2 F2 pl'' a2'' a3'' a4'' a5'' a6'' a7'' a8'' a9'' a10'' a11'' a12'' a13'' a14'' a15'' a16'' a17'' w1 w2 w3 w4 w5 w6 => ?_)
  have hlive : ∀ i, i < PA → 0 < R1 (IA i) := fun i hi => by
    have := sd_occ_pos (I := IA) hi
    have := s2 (IA i)
    omega
  obtain ⟨m1, m2, m3⟩ := w6 A (Ne.symm hAB)
  have hLA : sd_L A PA IA a2'' a3'' a4'' := sd_L_mv m1 m2 m3 s5
  have hCA : sd_C N2 F2 PA IA n f := sd_C_mv (fun i hi => w3 (IA i) (hlive i hi)) s4
  refine br_t rfl ?_
  refine sd_holds rfl (sd_V_of (Q := sd_occ IB PB) hA6 hn hLA hCA w1 (fun x => by have := w2 x; omega)) (fun o2 u2 c2 => ?_)
  refine br_f (by decide) ?_
  refine c7 _ (br_c (fun _ => ?_) (fun _ => ?_))
  · unfold wL_law_170
    refine br_f (by decide) ?_
    unfold wL_law_182
    refine br_f (by decide) ?_
    unfold wL_law_193
    refine br_f (by decide) ?_
    exact sd_206 hL rfl hA6 hB6 (Ne.symm hAB) (by omega) w1 hLA hCA hn w5 w4 hn1 w2 hn1 hB1 (Or.inr ⟨rfl, hdet⟩)
  · unfold wL_law_170
    refine br_t rfl ?_
    refine hdet _ 0 (fun _ => 0) (fun _ => 0) (fun _ => 0) (fun _ => 0) (fun _ => 0) (fun _ => 0) (fun _ => 0) (fun _ => 0) (fun _ => 0) (fun _ => 0) (fun _ => 0) (fun _ => 0) (fun _ => 0) (fun _ => 0) (fun _ => 0) (fun _ => 0) ?_
    unfold wL_law_182
    refine br_t rfl ?_
    unfold wL_law_193
    refine br_t rfl ?_
    exact sd_206 hL rfl hB6 hA6 hAB (by omega) w1 w5 w4 hn1 hLA hCA hn (fun x => by have := w2 x; omega) hn1 hB1 (Or.inl rfl)
theorem sd_loop {L : Nat} (hL : L ≤ 260) {xs : Nat → Int32} {kc ks : Nat} : ∀ (d k n : Nat) (f : Nat → Int32), L ≤ k + d → k ≤ 300 → n ≤ 96 → (∀ j, sd_B (f j)) →
    wL_law_19 (fun r => r = 1) L xs kc ks (d + 1) (nI k) (nI n) 0 f (fun _ => 0) (fun _ => 0) (fun _ => 0) (fun _ => 0) (fun _ => 0) (fun _ => 0) (fun _ => 0) (fun _ => 0) (fun _ => 0) (fun _ => 0) (fun _ => 0) (fun _ => 0) (fun _ => 0) (fun _ => 0) (fun _ => 0) (fun _ => 0) (nI n) 0 f (fun _ => 0) (fun _ => 0) (fun _ => 0) (fun _ => 0) (fun _ => 0) (fun _ => 0) (fun _ => 0) (fun _ => 0) (fun _ => 0) (fun _ => 0) (fun _ => 0) (fun _ => 0) (fun _ => 0) (fun _ => 0) (fun _ => 0) (fun _ => 0) := by
  intro d
  induction d with
  | zero =>
    intro k n f hd hk hn hB
    exact sd_end hL hk (by omega) hn hB
  | succ d ih =>
    intro k n f hd hk hn hB
    by_cases h : L ≤ k + 2
    · exact sd_end hL hk h hn hB
    · obtain ⟨n1, f1, hn1, hB1, h1⟩ := sd_type hn hB ((xs (nI k).toNatClampNeg) &&& 3) (xs (nI k + 1).toNatClampNeg) (xs (nI k + 2).toNatClampNeg)
      have e2 : nI k + 2 = nI (k + 2) := by rw [show (2 : Int32) = nI 2 from rfl, nI_add]
      have i0 : vp_in (nI k) L := pk_in k L (by omega)
      have i1 : vp_in (nI k + 1) L := pk_in (k + 1) L (by omega) (nI_1 k)
      have i2 : vp_in (nI k + 2) L := pk_in (k + 2) L (by omega) e2
      refine br_f ?_ ⟨i0, i1, i2, h1 _ 0 (fun _ => 0) (fun _ => 0) (fun _ => 0) (fun _ => 0) (fun _ => 0) (fun _ => 0) (fun _ => 0) (fun _ => 0) (fun _ => 0) (fun _ => 0) (fun _ => 0) (fun _ => 0) (fun _ => 0) (fun _ => 0) (fun _ => 0) (fun _ => 0) ⟨i0, i1, i2, h1 _ 0 (fun _ => 0) (fun _ => 0) (fun _ => 0) (fun _ => 0) (fun _ => 0) (fun _ => 0) (fun _ => 0) (fun _ => 0) (fun _ => 0) (fun _ => 0) (fun _ => 0) (fun _ => 0) (fun _ => 0) (fun _ => 0) (fun _ => 0) (fun _ => 0) (nm_r (e' := nI (k + 3)) (by rw [show (3 : Int32) = nI 3 from rfl, nI_add]) (ih (k + 3) n1 f1 (by omega) (by omega) hn1 hB1))⟩⟩
      rw [e2]
      exact nI_ge (by omega) (by omega)
theorem sd_init {post : St1 → Prop} (H : post (0, 0, (fun _ => 0), (fun _ => 0), (fun _ => 0), (fun _ => 0), (fun _ => 0), (fun _ => 0), (fun _ => 0), (fun _ => 0), (fun _ => 0), (fun _ => 0), (fun _ => 0), (fun _ => 0), (fun _ => 0), (fun _ => 0), (fun _ => 0), (fun _ => 0), (fun _ => 0))) : wpX_init post 17 2484 (0, 0) :=
  ⟨by decide, by decide, by decide, by decide, by decide, by decide, by decide, by decide, by decide, by decide, by decide, by decide, by decide, by decide, by decide, by decide, by decide, by decide, by decide, by decide, by decide, by decide, by decide, by decide, by decide, by decide, by decide, by decide, by decide, by decide, by decide, by decide, by decide, by decide, H⟩
theorem i_vc (xs : Nat → Int32) (L : Nat) (hL : L ≤ 260) : wpL_law (fun r => r = 1) L xs := by
  refine ⟨17, 2484, by omega, by omega, sd_init ⟨by omega, by omega, 17, 2484, by omega, by omega, sd_init ⟨L + 1, ?_⟩⟩⟩
  exact sd_loop hL L 8 0 (fun _ => 0) (by omega) (by omega) (by omega) (fun j => ⟨0, by omega, rfl⟩)
end
