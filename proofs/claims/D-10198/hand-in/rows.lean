section
/-! base: loops, counters, marks -/
theorem nt_loop {σ π : Type} (W : π → Nat → Nat → σ → Prop) (F : π → σ → Prop) (I : Nat → σ → Prop) (e : Nat)
    (hx : ∀ s, I e s → ∀ p n, F p s → W p (n + 1) e s)
    (hs : ∀ i s, i < e → I i s → ∃ s', I (i + 1) s' ∧ ∀ p n, W p n (i + 1) s' → W p (n + 1) i s) :
    ∀ r i s, i + r = e → I i s → ∃ s', I e s' ∧ ∀ p, F p s' → ∃ n, W p n i s := by
  intro r
  induction r with
  | zero =>
    intro i s hi h
    have hi' : i = e := by omega
    rw [hi'] at h ⊢
    exact ⟨s, h, fun p hp => ⟨1, hx s h p 0 hp⟩⟩
  | succ r ih =>
    intro i s hi h
    obtain ⟨s1, h1, hw⟩ := hs i s (by omega) h
    obtain ⟨s2, h2, hp⟩ := ih (i + 1) s1 (by omega) h1
    exact ⟨s2, h2, fun p hf => (hp p hf).elim (fun n hn => ⟨n + 1, hw p n hn⟩)⟩
theorem nt_m4 (v i : Nat) : nI v * 4 + nI i = nI (v * 4 + i) := by
  rw [show (4 : Int32) = nI 4 from rfl, pk_mul, nI_add]
theorem nt_m6 (v i : Nat) : nI v * 6 + nI i = nI (v * 6 + i) := by
  rw [show (6 : Int32) = nI 6 from rfl, pk_mul, nI_add]
theorem nt_m8 (s : Nat) : nI s * 8 = nI (s * 8) := by
  rw [show (8 : Int32) = nI 8 from rfl, pk_mul]
theorem nt_m8p (s : Nat) : nI s * 8 + 8 = nI (s * 8 + 8) := by
  rw [show (8 : Int32) = nI 8 from rfl, pk_mul, nI_add]
theorem nt_ne1 {n : Nat} (h : n < 2 ^ 31) : ¬ nI n = -1 := by
  intro e
  have h1 := congrArg Int32.toInt e
  rw [nI_toInt h] at h1
  have h2 : (-1 : Int32).toInt = -1 := by decide
  omega
theorem nt_and1 {N : Nat} (h : N < 2 ^ 31) : nI N &&& 1 = nI (N % 2) := pk_andN (by omega) 1 (by decide)
theorem nt_ex (x : Int32) : ∃ n, x = nI n := by
  refine ⟨x.toBitVec.toNat, ?_⟩
  apply Int32.toBitVec_inj.mp
  show x.toBitVec = BitVec.ofNat 32 x.toBitVec.toNat
  simp
theorem nt_inj {a b : Nat} (h : nI a = nI b) (ha : a < 2 ^ 31) (hb : b < 2 ^ 31) : a = b := (nI_eq ha hb).mp h
theorem nt_m1lt {n : Nat} (h : n < 2 ^ 30) : nI n + (-1) < nI n := by
  cases n with
  | zero => decide
  | succ n =>
    rw [pk_m1]
    exact nI_lt (by omega) (by omega)
/-- how many places of lo .. lo + n - 1 hold 0 -/
def nt_cz (m : Nat → Int32) (lo : Nat) : Nat → Nat
  | 0 => 0
  | n + 1 => nt_cz m lo n + (if m (lo + n) = 0 then 1 else 0)
theorem nt_cz_off (m : Nat → Int32) (lo k : Nat) (x : Int32) (n : Nat) : lo + n ≤ k → nt_cz (upd m k x) lo n = nt_cz m lo n := by
  induction n with
  | zero => exact fun _ => rfl
  | succ n ih =>
    intro h
    show nt_cz (upd m k x) lo n + (if upd m k x (lo + n) = 0 then 1 else 0) = nt_cz m lo n + (if m (lo + n) = 0 then 1 else 0)
    rw [ih (by omega), pk_un (show lo + n ≠ k by omega)]
theorem nt_cz_upd (m : Nat → Int32) (lo k : Nat) (x : Int32) (n : Nat) : nt_cz m lo n ≤ nt_cz (upd m k x) lo n + 1 := by
  induction n with
  | zero => exact Nat.zero_le _
  | succ n ih =>
    show nt_cz m lo n + (if m (lo + n) = 0 then 1 else 0) ≤ nt_cz (upd m k x) lo n + (if upd m k x (lo + n) = 0 then 1 else 0) + 1
    by_cases e : lo + n = k
    · rw [nt_cz_off m lo k x n (by omega)]
      split <;> split <;> omega
    · rw [pk_un e]
      split <;> omega
theorem nt_cz_all (m : Nat → Int32) (lo n : Nat) : (∀ j, j < n → m (lo + j) = 0) → nt_cz m lo n = n := by
  induction n with
  | zero => exact fun _ => rfl
  | succ n ih =>
    intro h
    show nt_cz m lo n + (if m (lo + n) = 0 then 1 else 0) = n + 1
    rw [ih (fun j hj => h j (by omega)), if_pos (h n (by omega))]
theorem nt_cz_ex (m : Nat → Int32) (lo n : Nat) : 0 < nt_cz m lo n → ∃ j, lo ≤ j ∧ j < lo + n ∧ m j = 0 := by
  induction n with
  | zero => exact fun h => absurd h (Nat.lt_irrefl 0)
  | succ n ih =>
    intro h
    by_cases e : m (lo + n) = 0
    · exact ⟨lo + n, by omega, by omega, e⟩
    · have h' : 0 < nt_cz m lo n + (if m (lo + n) = 0 then 1 else 0) := h
      rw [if_neg e] at h'
      obtain ⟨j, h1, h2, h3⟩ := ih (by omega)
      exact ⟨j, h1, by omega, h3⟩
theorem nt_cz_pos (m : Nat → Int32) (lo n j : Nat) (h1 : lo ≤ j) (h2 : j < lo + n) (h3 : m j = 0) : 0 < nt_cz m lo n := by
  induction n with
  | zero => omega
  | succ n ih =>
    show 0 < nt_cz m lo n + (if m (lo + n) = 0 then 1 else 0)
    by_cases e : j = lo + n
    · rw [← e, if_pos h3]
      omega
    · have := ih (by omega)
      omega
theorem nt_cz_le (m : Nat → Int32) (lo n : Nat) : nt_cz m lo n ≤ n := by
  induction n with
  | zero => exact Nat.le_refl 0
  | succ n ih =>
    show nt_cz m lo n + (if m (lo + n) = 0 then 1 else 0) ≤ n + 1
    split <;> omega
/-- m' holds the marks of m, and at most k more -/
def nt_gr (k : Nat) (m m' : Nat → Int32) : Prop := (∀ j, m j ≠ 0 → m' j ≠ 0) ∧ nt_cz m 0 128 ≤ nt_cz m' 0 128 + k
theorem nt_gr_0 {k : Nat} {m : Nat → Int32} : nt_gr k m m := ⟨fun _ h => h, by omega⟩
theorem nt_gr_u {k : Nat} {m m' : Nat → Int32} (j : Nat) (h : nt_gr k m m') : nt_gr (k + 1) m (upd m' j 1) := by
  refine ⟨fun i hi => ?_, ?_⟩
  · by_cases e : i = j
    · rw [e, pk_us]
      decide
    · rw [pk_un e]
      exact h.1 i hi
  · have h1 := nt_cz_upd m' 0 j 1 128
    have h2 := h.2
    omega
theorem nt_gr_t {k l n : Nat} {m m' m'' : Nat → Int32} (h : nt_gr k m m') (h' : nt_gr l m' m'') (e : k + l ≤ n) : nt_gr n m m'' :=
  ⟨fun i hi => h'.1 i (h.1 i hi), by have h1 := h.2; have h2 := h'.2; omega⟩
/-- a node's block, or none: its size and its words are in range -/
def nt_nd (a3 a4 : Nat → Int32) (x : Int32) : Prop := x = -1 ∨ ∃ v z, v < 128 ∧ z ≤ 4 ∧ x = nI v ∧ a3 v = nI z ∧ ∀ i, i < z → ∃ w, w < 128 ∧ a4 (v * 4 + i) = nI w
/-- the node x uses the block q -/
def nt_us (a3 a4 : Nat → Int32) (x : Int32) (q : Nat) : Prop := ∃ v z, v < 128 ∧ z ≤ 4 ∧ x = nI v ∧ a3 v = nI z ∧ (v = q ∨ ∃ i, i < z ∧ a4 (v * 4 + i) = nI q)
end
section
/-! need, survey -/
theorem nt_need_lp (ch cd nu sg : Int32) (a1 a2 a3 a4 a5 a6 a7 a8 a9 a10 a11 a12 a13 : Nat → Int32) (m0 : Nat → Int32) {v z : Nat} (hv : v < 128) (hz : z ≤ 4) (h3 : a3 v = nI z) (h4 : ∀ i, i < z → ∃ w, w < 128 ∧ a4 (v * 4 + i) = nI w) :
    ∃ m, (nt_gr z m0 m ∧ ∀ j, j < z → m (a4 (v * 4 + j)).toNatClampNeg ≠ 0) ∧ ∀ post : St1 → Prop, post (ch, cd, nu, sg, a1, a2, a3, a4, a5, a6, a7, a8, a9, a10, a11, a12, a13, m) → ∃ n, wX_need_15 post (nI v) ch cd nu sg n (nI 0) a1 a2 a3 a4 a5 a6 a7 a8 a9 a10 a11 a12 a13 m0 := by
  refine nt_loop (fun post n i s => wX_need_15 post (nI v) ch cd nu sg n (nI i) a1 a2 a3 a4 a5 a6 a7 a8 a9 a10 a11 a12 a13 s) (fun post s => post (ch, cd, nu, sg, a1, a2, a3, a4, a5, a6, a7, a8, a9, a10, a11, a12, a13, s))
    (fun i m => nt_gr i m0 m ∧ ∀ j, j < i → m (a4 (v * 4 + j)).toNatClampNeg ≠ 0) z ?_ ?_ z 0 m0 (by omega) ⟨nt_gr_0, fun j hj => absurd hj (by omega)⟩
  · intro s hI p n hp
    refine ⟨pk_in v 128 hv, ?_⟩
    rw [nI_clamp (show v < 2 ^ 31 by omega), h3]
    exact pk_le z z (fun _ => hp) (fun t => absurd t (by omega))
  · intro i s hi hI
    obtain ⟨w, hw, ew⟩ := h4 i hi
    have ec : (nI w).toNatClampNeg = w := nI_clamp (by omega)
    refine ⟨upd s w 1, ⟨nt_gr_u w hI.1, fun j hj => ?_⟩, fun p n hp => ?_⟩
    · by_cases e : (a4 (v * 4 + j)).toNatClampNeg = w
      · rw [e, pk_us]
        decide
      · rw [pk_un e]
        refine hI.2 j ?_
        rcases Nat.lt_or_ge j i with t | t
        · exact t
        · have ej : j = i := by omega
          rw [ej, ew, ec] at e
          exact absurd rfl e
    · refine ⟨pk_in v 128 hv, ?_⟩
      rw [nI_clamp (show v < 2 ^ 31 by omega), h3]
      refine pk_le z i (fun t => absurd t (by omega)) (fun _ => ⟨pk_in (v * 4 + i) 512 (by omega) (nt_m4 v i), ?_⟩)
      rw [nt_m4, nI_clamp (show v * 4 + i < 2 ^ 31 by omega), ew, ec]
      exact ⟨pk_in w 128 hw, nm_e (nm_r (nI_1 i) hp)⟩
theorem nt_need (ch cd nu sg : Int32) (a1 a2 a3 a4 a5 a6 a7 a8 a9 a10 a11 a12 a13 a14 : Nat → Int32) {x : Int32} (h : nt_nd a3 a4 x) :
    ∃ m, (nt_gr 5 a14 m ∧ ∀ q, q < 128 → nt_us a3 a4 x q → m q ≠ 0) ∧ ∀ post : St1 → Prop, post (ch, cd, nu, sg, a1, a2, a3, a4, a5, a6, a7, a8, a9, a10, a11, a12, a13, m) → wpX_need post (ch, cd, nu, sg, a1, a2, a3, a4, a5, a6, a7, a8, a9, a10, a11, a12, a13, a14) x := by
  rcases h with h | ⟨v, z, hv, hz, hx, h3, h4⟩
  · subst h
    refine ⟨a14, ⟨nt_gr_0, fun q hq hu => ?_⟩, fun post hp => br_t rfl hp⟩
    obtain ⟨v, z, hv, _, e, _⟩ := hu
    exact absurd e.symm (nt_ne1 (by omega))
  · subst hx
    obtain ⟨m, ⟨hg, hm⟩, hp⟩ := nt_need_lp ch cd nu sg a1 a2 a3 a4 a5 a6 a7 a8 a9 a10 a11 a12 a13 (upd a14 v 1) hv hz h3 h4
    have hg1 : nt_gr 1 a14 (upd a14 v 1) := nt_gr_u (k := 0) v nt_gr_0
    refine ⟨m, ⟨nt_gr_t hg1 hg (by omega), fun q hq hu => ?_⟩, fun post h => ?_⟩
    · obtain ⟨v', z', hv', hz', e, e3, ho⟩ := hu
      have ev : v = v' := nt_inj e (by omega) (by omega)
      subst ev
      have ez : z = z' := nt_inj (h3.symm.trans e3) (by omega) (by omega)
      subst ez
      rcases ho with ho | ⟨i, hi, hi4⟩
      · subst ho
        exact hg.1 v (by rw [pk_us]; decide)
      · have := hm i hi
        rw [hi4, nI_clamp (show q < 2 ^ 31 by omega)] at this
        exact this
    · refine br_f (nt_ne1 (by omega)) ⟨pk_in v 128 hv, ?_⟩
      rw [nI_clamp (show v < 2 ^ 31 by omega)]
      exact nm_e (hp post h)
theorem nt_walk (ch nu sg : Int32) (a1 a2 a3 a4 a5 a6 a7 a8 a9 a10 a11 a12 a13 : Nat → Int32) (m0 : Nat → Int32) {K : Nat} {b : Nat → Nat} (hK : K ≤ 20) (hb : ∀ j, j < K → b j < 128 ∧ a6 (b j) = nI (b (j + 1))) :
    ∃ m, (nt_gr K m0 m ∧ ∀ j, j < K → m (b j) ≠ 0) ∧ ∀ post : St1 → Prop, post (ch, nI K, nu, sg, a1, a2, a3, a4, a5, a6, a7, a8, a9, a10, a11, a12, a13, m) → ∃ n, wX_survey_108 post ch (nI K) nu sg n (nI (b 0)) (nI 0) a1 a2 a3 a4 a5 a6 a7 a8 a9 a10 a11 a12 a13 m0 := by
  refine nt_loop (fun post n i s => wX_survey_108 post ch (nI K) nu sg n (nI (b i)) (nI i) a1 a2 a3 a4 a5 a6 a7 a8 a9 a10 a11 a12 a13 s) (fun post s => post (ch, nI K, nu, sg, a1, a2, a3, a4, a5, a6, a7, a8, a9, a10, a11, a12, a13, s))
    (fun i m => nt_gr i m0 m ∧ ∀ j, j < i → m (b j) ≠ 0) K ?_ ?_ K 0 m0 (by omega) ⟨nt_gr_0, fun j hj => absurd hj (by omega)⟩
  · intro s hI p n hp
    exact pk_le K K (fun _ => hp) (fun t => absurd t (by omega))
  · intro i s hi hI
    obtain ⟨h1, h2⟩ := hb i hi
    refine ⟨upd s (b i) 1, ⟨nt_gr_u (b i) hI.1, fun j hj => ?_⟩, fun p n hp => ?_⟩
    · by_cases e : b j = b i
      · rw [e, pk_us]
        decide
      · rw [pk_un e]
        refine hI.2 j ?_
        rcases Nat.lt_or_ge j i with t | t
        · exact t
        · have ej : j = i := by omega
          rw [ej] at e
          exact absurd rfl e
    · refine pk_le K i (fun t => absurd t (by omega)) (fun _ => ⟨pk_in (b i) 128 h1, ?_⟩)
      rw [nI_clamp (show b i < 2 ^ 31 by omega), h2]
      exact nm_e ⟨pk_in (b i) 128 h1, nm_e (nm_r (nI_1 i) hp)⟩
/-- what survey takes for granted -/
def nt_sp (N K : Nat) (b : Nat → Nat) (ch : Int32) (a3 a4 a6 a9 a10 a11 a12 : Nat → Int32) : Prop :=
  K ≤ 20 ∧ N < 2 ^ 31 ∧ (ch = -1 ∨ ∃ c, c < 128 ∧ ch = nI c) ∧ (∀ f, f < 6 → nt_nd a3 a4 (a11 f)) ∧ (∀ f, f < 6 → nt_nd a3 a4 (a12 f)) ∧ (∀ f, f < 6 → nt_nd a3 a4 (a9 (N % 2 * 6 + f))) ∧ a10 (N % 2) = nI (b 0) ∧ ∀ j, j < K → b j < 128 ∧ a6 (b j) = nI (b (j + 1))
/-- nothing needs the block q -/
def nt_fq (N K : Nat) (b : Nat → Nat) (ch : Int32) (a3 a4 a9 a11 a12 : Nat → Int32) (q : Nat) : Prop :=
  q < 128 ∧ ch ≠ nI q ∧ (∀ j, j < K → b j ≠ q) ∧ (∀ f, f < 6 → ¬ nt_us a3 a4 (a11 f) q) ∧ (∀ f, f < 6 → ¬ nt_us a3 a4 (a12 f) q) ∧ (∀ f, f < 6 → ¬ nt_us a3 a4 (a9 (N % 2 * 6 + f)) q)
theorem nt_s94 (ch sg : Int32) (a1 a2 a3 a4 a5 a6 a7 a8 a9 a10 a11 a12 a13 : Nat → Int32) (m0 : Nat → Int32) {N K : Nat} {b : Nat → Nat} (h : nt_sp N K b ch a3 a4 a6 a9 a10 a11 a12) :
    ∃ m, (nt_gr K m0 m ∧ ∀ j, j < K → m (b j) ≠ 0) ∧ ∀ post : St1 → Prop, post (ch, nI K, nI N, sg, a1, a2, a3, a4, a5, a6, a7, a8, a9, a10, a11, a12, a13, m) → wX_survey_94 post ch (nI K) (nI N) sg a1 a2 a3 a4 a5 a6 a7 a8 a9 a10 a11 a12 a13 m0 := by
  obtain ⟨hK, hN, _, _, _, _, h10, hb⟩ := h
  obtain ⟨m, hm, hp⟩ := nt_walk ch (nI N) sg a1 a2 a3 a4 a5 a6 a7 a8 a9 a10 a11 a12 a13 m0 hK hb
  refine ⟨m, hm, fun post h => ?_⟩
  unfold wX_survey_94
  rw [nt_and1 hN, nI_clamp (show N % 2 < 2 ^ 31 by omega), h10]
  exact ⟨pk_in (N % 2) 2 (by omega), nm_e (hp post h)⟩
theorem nt_s24x (ch sg : Int32) (a1 a2 a3 a4 a5 a6 a7 a8 a9 a10 a11 a12 a13 : Nat → Int32) (m0 : Nat → Int32) {N K : Nat} {b : Nat → Nat} (h : nt_sp N K b ch a3 a4 a6 a9 a10 a11 a12) :
    ∃ m, (nt_gr (K + 1) m0 m ∧ (∀ j, j < K → m (b j) ≠ 0) ∧ ∀ c, c < 128 → ch = nI c → m c ≠ 0) ∧ ∀ post : St1 → Prop, post (ch, nI K, nI N, sg, a1, a2, a3, a4, a5, a6, a7, a8, a9, a10, a11, a12, a13, m) →
      ((ch = (-1) → (wX_survey_94 post ch (nI K) (nI N) sg a1 a2 a3 a4 a5 a6 a7 a8 a9 a10 a11 a12 a13 m0)) ∧ (¬ ch = (-1) → (vp_in ch 128 ∧ ∀ a14_13 : Nat → Int32, a14_13 = upd m0 ch.toNatClampNeg 1 → (wX_survey_94 post ch (nI K) (nI N) sg a1 a2 a3 a4 a5 a6 a7 a8 a9 a10 a11 a12 a13 a14_13)))) := by
  have h' := h
  obtain ⟨hK, hN, hc, _, _, _, h10, hb⟩ := h
  rcases hc with hc | ⟨c, hc, ec⟩
  · obtain ⟨m, hm, hp⟩ := nt_s94 ch sg a1 a2 a3 a4 a5 a6 a7 a8 a9 a10 a11 a12 a13 m0 h'
    refine ⟨m, ⟨nt_gr_t nt_gr_0 hm.1 (show 0 + K ≤ K + 1 by omega), hm.2, fun c hc1 e => ?_⟩, fun post h => br_t hc (hp post h)⟩
    rw [hc] at e
    exact absurd e.symm (nt_ne1 (by omega))
  · obtain ⟨m, hm, hp⟩ := nt_s94 ch sg a1 a2 a3 a4 a5 a6 a7 a8 a9 a10 a11 a12 a13 (upd m0 c 1) h'
    have hg1 : nt_gr 1 m0 (upd m0 c 1) := nt_gr_u (k := 0) c nt_gr_0
    refine ⟨m, ⟨nt_gr_t hg1 hm.1 (by omega), hm.2, fun c' hc1 e => ?_⟩, fun post h => br_f (by rw [ec]; exact nt_ne1 (by omega)) ⟨pk_in c 128 hc ec, ?_⟩⟩
    · have : c = c' := nt_inj (ec.symm.trans e) (by omega) (by omega)
      subst this
      exact hm.1.1 c (by rw [pk_us]; decide)
    · rw [pk_cl c ec]
      exact nm_e (hp post h)
theorem nt_s24 (ch sg : Int32) (a1 a2 a3 a4 a5 a6 a7 a8 a9 a10 a11 a12 a13 : Nat → Int32) (m0 : Nat → Int32) {N K : Nat} {b : Nat → Nat} (h : nt_sp N K b ch a3 a4 a6 a9 a10 a11 a12) :
    ∃ m, (nt_gr 111 m0 m ∧ ∀ q, q < 128 → m q = 0 → nt_fq N K b ch a3 a4 a9 a11 a12 q) ∧ ∀ post : St1 → Prop, post (ch, nI K, nI N, sg, a1, a2, a3, a4, a5, a6, a7, a8, a9, a10, a11, a12, a13, m) → ∃ n, wX_survey_24 post n (nI 0) ch (nI K) (nI N) sg a1 a2 a3 a4 a5 a6 a7 a8 a9 a10 a11 a12 a13 m0 := by
  have h' := h
  obtain ⟨hK, hN, hc, h11, h12, h9, h10, hb⟩ := h
  obtain ⟨m, hI, hp⟩ := nt_loop (fun (post : St1 → Prop) n i s => wX_survey_24 post n (nI i) ch (nI K) (nI N) sg a1 a2 a3 a4 a5 a6 a7 a8 a9 a10 a11 a12 a13 s)
    (fun post s => ((ch = (-1) → (wX_survey_94 post ch (nI K) (nI N) sg a1 a2 a3 a4 a5 a6 a7 a8 a9 a10 a11 a12 a13 s)) ∧ (¬ ch = (-1) → (vp_in ch 128 ∧ ∀ a14_13 : Nat → Int32, a14_13 = upd s ch.toNatClampNeg 1 → (wX_survey_94 post ch (nI K) (nI N) sg a1 a2 a3 a4 a5 a6 a7 a8 a9 a10 a11 a12 a13 a14_13)))))
    (fun i m => nt_gr (15 * i) m0 m ∧ ∀ f, f < i → ∀ q, q < 128 → nt_us a3 a4 (a11 f) q ∨ nt_us a3 a4 (a12 f) q ∨ nt_us a3 a4 (a9 (N % 2 * 6 + f)) q → m q ≠ 0) 6
    (fun s hI p n hp => pk_le 6 6 (fun _ => hp) (fun t => absurd t (by omega)))
    (by
      intro i s hi hI
      obtain ⟨m1, ⟨g1, u1⟩, p1⟩ := nt_need ch (nI K) (nI N) sg a1 a2 a3 a4 a5 a6 a7 a8 a9 a10 a11 a12 a13 s (h11 i hi)
      obtain ⟨m2, ⟨g2, u2⟩, p2⟩ := nt_need ch (nI K) (nI N) sg a1 a2 a3 a4 a5 a6 a7 a8 a9 a10 a11 a12 a13 m1 (h12 i hi)
      obtain ⟨m3, ⟨g3, u3⟩, p3⟩ := nt_need ch (nI K) (nI N) sg a1 a2 a3 a4 a5 a6 a7 a8 a9 a10 a11 a12 a13 m2 (h9 i hi)
      refine ⟨m3, ⟨nt_gr_t hI.1 (nt_gr_t (nt_gr_t g1 g2 (Nat.le_refl _)) g3 (Nat.le_refl _)) (by omega), fun f hf q hq hu => ?_⟩, fun p n hp => ?_⟩
      · by_cases e : f = i
        · subst e
          rcases hu with hu | hu | hu
          · exact g3.1 q (g2.1 q (u1 q hq hu))
          · exact g3.1 q (u2 q hq hu)
          · exact u3 q hq hu
        · exact g3.1 q (g2.1 q (g1.1 q (hI.2 f (by omega) q hq hu)))
      · have ei : (nI i).toNatClampNeg = i := nI_clamp (by omega)
        refine pk_le 6 i (fun t => absurd t (by omega)) (fun _ => ⟨pk_in i 6 hi, ?_⟩)
        rw [ei]
        refine p1 _ ⟨pk_in i 6 hi, ?_⟩
        refine p2 _ ?_
        have e9 : (nI N &&& 1) * 6 + nI i = nI (N % 2 * 6 + i) := by rw [nt_and1 hN, nt_m6]
        refine And.intro (pk_in (N % 2 * 6 + i) 12 (by omega) e9) ?_
        rw [e9, nI_clamp (show N % 2 * 6 + i < 2 ^ 31 by omega)]
        exact p3 _ (nm_r (nI_1 i) hp))
    6 0 m0 (by omega) ⟨nt_gr_0, fun j hj => absurd hj (by omega)⟩
  obtain ⟨m', hm', hp'⟩ := nt_s24x ch sg a1 a2 a3 a4 a5 a6 a7 a8 a9 a10 a11 a12 a13 m h'
  refine ⟨m', ⟨nt_gr_t hI.1 hm'.1 (by omega), fun q hq hz => ?_⟩, fun post h => hp post (hp' post h)⟩
  refine ⟨hq, fun e => hm'.2.2 q hq e hz, fun j hj e => ?_, fun f hf hu => ?_, fun f hf hu => ?_, fun f hf hu => ?_⟩
  · have := hm'.2.1 j hj
    rw [e] at this
    exact this hz
  · exact hm'.1.1 q (hI.2 f hf q hq (Or.inl hu)) hz
  · exact hm'.1.1 q (hI.2 f hf q hq (Or.inr (Or.inl hu))) hz
  · exact hm'.1.1 q (hI.2 f hf q hq (Or.inr (Or.inr hu))) hz
theorem nt_survey (ch sg : Int32) (a1 a2 a3 a4 a5 a6 a7 a8 a9 a10 a11 a12 a13 a14 : Nat → Int32) {N K : Nat} {b : Nat → Nat} (h : nt_sp N K b ch a3 a4 a6 a9 a10 a11 a12) :
    ∃ m, (17 ≤ nt_cz m 0 128 ∧ ∀ q, q < 128 → m q = 0 → nt_fq N K b ch a3 a4 a9 a11 a12 q) ∧ ∀ post : St1 → Prop, post (ch, nI K, nI N, sg, a1, a2, a3, a4, a5, a6, a7, a8, a9, a10, a11, a12, a13, m) → wpX_survey post (ch, nI K, nI N, sg, a1, a2, a3, a4, a5, a6, a7, a8, a9, a10, a11, a12, a13, a14) := by
  obtain ⟨m0, hI, hp⟩ := nt_loop (fun (post : St1 → Prop) n i s => wX_survey_2 post ch (nI K) (nI N) sg n (nI i) a1 a2 a3 a4 a5 a6 a7 a8 a9 a10 a11 a12 a13 s)
    (fun post s => ∃ n, wX_survey_24 post n (nI 0) ch (nI K) (nI N) sg a1 a2 a3 a4 a5 a6 a7 a8 a9 a10 a11 a12 a13 s)
    (fun i m => ∀ j, j < i → m j = 0) 128
    (fun s hI p n hp => pk_le 128 128 (fun _ => hp) (fun t => absurd t (by omega)))
    (by
      intro i s hi hI
      refine ⟨upd s i 0, fun j hj => ?_, fun p n hp => ?_⟩
      · by_cases e : j = i
        · rw [e, pk_us]
        · rw [pk_un e]
          exact hI j (by omega)
      · refine pk_le 128 i (fun t => absurd t (by omega)) (fun _ => ⟨pk_in i 128 hi, ?_⟩)
        rw [nI_clamp (show i < 2 ^ 31 by omega)]
        exact nm_e (nm_r (nI_1 i) hp))
    128 0 a14 (by omega) (fun j hj => absurd hj (by omega))
  obtain ⟨m, hm, hp'⟩ := nt_s24 ch sg a1 a2 a3 a4 a5 a6 a7 a8 a9 a10 a11 a12 a13 m0 h
  have hz : nt_cz m0 0 128 = 128 := nt_cz_all m0 0 128 (fun j hj => by rw [Nat.zero_add]; exact hI j hj)
  exact ⟨m, ⟨by have := hm.1.2; omega, hm.2⟩, fun post h => hp post (hp' post h)⟩
end
section
/-! freeIn, fresh -/
theorem nt_freeIn (ch cd nu sg : Int32) (a1 a2 a3 a4 a5 a6 a7 a8 a9 a10 a11 a12 a13 a14 : Nat → Int32) {s : Nat} (hs : s < 16) (post : Int32 → Prop) (h : post (nI (nt_cz a14 (s * 8) 8))) : wpX_freeIn post (ch, cd, nu, sg, a1, a2, a3, a4, a5, a6, a7, a8, a9, a10, a11, a12, a13, a14) (nI s) := by
  refine nm_r (nt_m8 s) ?_
  refine pk_loop (σ := Unit) (fun n i _ => wX_freeIn_7 post (nI s) ch cd nu sg a1 a2 a3 a4 a5 a6 a7 a8 a9 a10 a11 a12 a13 a14 n (nI (nt_cz a14 (s * 8) i)) (nI (s * 8 + i))) (fun _ _ => True) 8 0 () (by omega) trivial ?_ ?_
  · intro n _ _
    exact pk_le (s * 8 + 8) (s * 8 + 8) (fun _ => h) (fun t => absurd t (by omega)) (nt_m8p s)
  · intro n i _ hi _ hw
    have hw' := hw () trivial
    refine pk_le (s * 8 + 8) (s * 8 + i) (fun t => absurd t (by omega)) (fun _ => ⟨pk_in (s * 8 + i) 128 (by omega), ?_⟩) (nt_m8p s)
    rw [nI_clamp (show s * 8 + i < 2 ^ 31 by omega)]
    refine br_c (fun h0 => nm_r (e' := nI (nt_cz a14 (s * 8) (i + 1))) ?_ (nm_r (nI_1 _) hw')) (fun h0 => nm_r (nI_1 _) ?_)
    · show nI (nt_cz a14 (s * 8) i) + 1 = nI (nt_cz a14 (s * 8) i + (if a14 (s * 8 + i) = 0 then 1 else 0))
      rw [if_pos h0, nI_1]
    · have e : nt_cz a14 (s * 8) (i + 1) = nt_cz a14 (s * 8) i := by
        show nt_cz a14 (s * 8) i + (if a14 (s * 8 + i) = 0 then 1 else 0) = _
        rw [if_neg h0, Nat.add_zero]
      have hw2 : wX_freeIn_7 post (nI s) ch cd nu sg a1 a2 a3 a4 a5 a6 a7 a8 a9 a10 a11 a12 a13 a14 n (nI (nt_cz a14 (s * 8) (i + 1))) (nI (s * 8 + (i + 1))) := hw'
      rw [e] at hw2
      exact hw2
theorem nt_f54 (ch cd nu : Int32) (a1 a2 a3 a4 a5 a6 a7 a8 a9 a10 a11 a12 a13 a14 : Nat → Int32) {s : Nat} (hs : s < 16) (hz : 0 < nt_cz a14 (s * 8) 8) :
    ∃ q, (q < 128 ∧ a14 q = 0) ∧ ∀ post : Int32 → St1 → Prop, post (nI q) (ch, cd, nu, nI s, a1, a2, a3, a4, upd a5 q (-1), a6, a7, a8, a9, a10, a11, a12, a13, a14) → wX_fresh_54 post ch cd nu (nI s) a1 a2 a3 a4 a5 a6 a7 a8 a9 a10 a11 a12 a13 a14 := by
  obtain ⟨q, hI, hp⟩ := nt_loop (fun (post : Int32 → St1 → Prop) n i (q : Nat) => wX_fresh_75 post ch cd nu (nI s) a1 a2 a3 a4 a5 a6 a7 a8 a9 a10 a11 a12 a13 a14 n (nI q) (nI (s * 8 + (8 - i)) + (-1)))
    (fun post q => post (nI q) (ch, cd, nu, nI s, a1, a2, a3, a4, upd a5 q (-1), a6, a7, a8, a9, a10, a11, a12, a13, a14))
    (fun i q => s * 8 ≤ q ∧ q < s * 8 + 8 ∧ (a14 q = 0 ∨ ∀ j, s * 8 + 8 - i ≤ j → j < s * 8 + 8 → a14 j ≠ 0)) 8
    (by
      intro q hI p n hp
      refine br_t ?_ ⟨pk_in q 128 (by omega), ?_⟩
      · show nI (s * 8 + 0) + (-1) < nI s * 8
        rw [nt_m8, Nat.add_zero]
        exact nt_m1lt (by omega)
      · rw [nI_clamp (show q < 2 ^ 31 by omega)]
        exact nm_e hp)
    (by
      intro i q hi hI
      have ex : nI (s * 8 + (8 - i)) + (-1) = nI (s * 8 + (7 - i)) := by
        rw [show s * 8 + (8 - i) = s * 8 + (7 - i) + 1 by omega]
        exact pk_m1 _
      have ex' : nI (s * 8 + (7 - i)) + (-1) = nI (s * 8 + (8 - (i + 1))) + (-1) := by
        rw [show 8 - (i + 1) = 7 - i by omega]
      by_cases h0 : a14 (s * 8 + (7 - i)) = 0
      · refine ⟨s * 8 + (7 - i), ⟨by omega, by omega, Or.inl h0⟩, fun p n hp => ?_⟩
        show wX_fresh_75 p ch cd nu (nI s) a1 a2 a3 a4 a5 a6 a7 a8 a9 a10 a11 a12 a13 a14 (n + 1) (nI q) (nI (s * 8 + (8 - i)) + (-1))
        rw [ex]
        refine br_f ?_ ⟨pk_in (s * 8 + (7 - i)) 128 (by omega), ?_⟩
        · rw [nt_m8]
          exact nI_nlt (by omega) (by omega)
        · rw [nI_clamp (show s * 8 + (7 - i) < 2 ^ 31 by omega)]
          exact br_t h0 (nm_r ex' hp)
      · refine ⟨q, ⟨hI.1, hI.2.1, ?_⟩, fun p n hp => ?_⟩
        · rcases hI.2.2 with t | t
          · exact Or.inl t
          · refine Or.inr (fun j h1 h2 => ?_)
            by_cases e : j = s * 8 + (7 - i)
            · rw [e]
              exact h0
            · exact t j (by omega) h2
        · show wX_fresh_75 p ch cd nu (nI s) a1 a2 a3 a4 a5 a6 a7 a8 a9 a10 a11 a12 a13 a14 (n + 1) (nI q) (nI (s * 8 + (8 - i)) + (-1))
          rw [ex]
          refine br_f ?_ ⟨pk_in (s * 8 + (7 - i)) 128 (by omega), ?_⟩
          · rw [nt_m8]
            exact nI_nlt (by omega) (by omega)
          · rw [nI_clamp (show s * 8 + (7 - i) < 2 ^ 31 by omega)]
            exact br_f h0 (nm_r ex' hp))
    8 0 (s * 8) (by omega) ⟨by omega, by omega, Or.inr (fun j h1 h2 => absurd h2 (by omega))⟩
  refine ⟨q, ⟨by omega, ?_⟩, fun post h => ?_⟩
  · rcases hI.2.2 with t | t
    · exact t
    · obtain ⟨j, h1, h2, h3⟩ := nt_cz_ex a14 (s * 8) 8 hz
      exact absurd h3 (t j (by omega) h2)
  · refine nm_r (nt_m8 s) (nm_r (e' := nI (s * 8 + (8 - 0)) + (-1)) ?_ (hp post h))
    rw [nt_m8p, nI_pred (s * 8 + 7)]
    exact (pk_m1 (s * 8 + 7)).symm
theorem nt_f21 (ch cd nu : Int32) (a1 a2 a3 a4 a5 a6 a7 a8 a9 a10 a11 a12 a13 a14 : Nat → Int32) {s : Nat} (hs : s < 16) (hz : 0 < nt_cz a14 0 128) :
    ∃ t, (t < 16 ∧ 0 < nt_cz a14 (t * 8) 8) ∧ ∀ post : Int32 → St1 → Prop, wX_fresh_54 post ch cd nu (nI t) a1 a2 a3 a4 a5 a6 a7 a8 a9 a10 a11 a12 a13 a14 → ∃ n, wX_fresh_21 post ch cd nu a1 a2 a3 a4 a5 a6 a7 a8 a9 a10 a11 a12 a13 a14 n (nI 0) (nI 0) (nI s) := by
  obtain ⟨kt, hI, hp⟩ := nt_loop (fun (post : Int32 → St1 → Prop) n i (kt : Nat × Nat) => wX_fresh_21 post ch cd nu a1 a2 a3 a4 a5 a6 a7 a8 a9 a10 a11 a12 a13 a14 n (nI kt.1) (nI i) (nI kt.2))
    (fun post kt => wX_fresh_54 post ch cd nu (nI kt.2) a1 a2 a3 a4 a5 a6 a7 a8 a9 a10 a11 a12 a13 a14)
    (fun i kt => kt.2 < 16 ∧ kt.1 ≤ 8 ∧ (0 < kt.1 → kt.1 = nt_cz a14 (kt.2 * 8) 8) ∧ ∀ t, t < i → nt_cz a14 (t * 8) 8 ≤ kt.1) 16
    (fun kt hI p n hp => pk_le 16 16 (fun _ => hp) (fun t => absurd t (by omega)))
    (by
      intro i kt hi hI
      obtain ⟨k, t⟩ := kt
      obtain ⟨i1, i2, i3, i4⟩ := hI
      dsimp only at i1 i2 i3 i4
      have hle := nt_cz_le a14 (i * 8) 8
      by_cases hc : nt_cz a14 (i * 8) 8 ≤ k
      · refine ⟨(k, t), ⟨i1, i2, i3, fun t' ht' => ?_⟩, fun p n hp => ?_⟩
        · by_cases e : t' = i
          · rw [e]
            exact hc
          · exact i4 t' (by omega)
        · refine pk_le 16 i (fun t => absurd t (by omega)) (fun _ => ?_)
          exact nt_freeIn ch cd nu (nI t) a1 a2 a3 a4 a5 a6 a7 a8 a9 a10 a11 a12 a13 a14 hi _ (pk_le (nt_cz a14 (i * 8) 8) k (fun _ => nm_r (nI_1 i) hp) (fun z => absurd z (by omega)))
      · refine ⟨(nt_cz a14 (i * 8) 8, i), ⟨hi, hle, fun _ => rfl, fun t' ht' => ?_⟩, fun p n hp => ?_⟩
        · show nt_cz a14 (t' * 8) 8 ≤ nt_cz a14 (i * 8) 8
          by_cases e : t' = i
          · rw [e]
            exact Nat.le_refl _
          · have := i4 t' (by omega)
            omega
        · refine pk_le 16 i (fun t => absurd t (by omega)) (fun _ => ?_)
          exact nt_freeIn ch cd nu (nI t) a1 a2 a3 a4 a5 a6 a7 a8 a9 a10 a11 a12 a13 a14 hi _ (pk_le (nt_cz a14 (i * 8) 8) k (fun z => absurd z hc) (fun _ => nm_r (nI_1 i) hp)))
    16 0 (0, s) (by omega) ⟨hs, Nat.zero_le _, fun h => absurd h (Nat.lt_irrefl 0), fun t ht => absurd ht (by omega)⟩
  obtain ⟨k, t⟩ := kt
  obtain ⟨i1, i2, i3, i4⟩ := hI
  dsimp only at i1 i2 i3 i4
  refine ⟨t, ⟨i1, ?_⟩, hp⟩
  obtain ⟨j, h1, h2, h3⟩ := nt_cz_ex a14 0 128 hz
  have h4 := nt_cz_pos a14 (j / 8 * 8) 8 j (by omega) (by omega) h3
  have h5 := i4 (j / 8) (by omega)
  have h6 := i3 (by omega)
  omega
theorem nt_fresh (ch : Int32) (a1 a2 a3 a4 a5 a6 a7 a8 a9 a10 a11 a12 a13 a14 : Nat → Int32) {N K s : Nat} {b : Nat → Nat} (h : nt_sp N K b ch a3 a4 a6 a9 a10 a11 a12) (hs : s < 16) :
    ∃ q t m, (nt_fq N K b ch a3 a4 a9 a11 a12 q ∧ t < 16) ∧ ∀ post : Int32 → St1 → Prop, post (nI q) (ch, nI K, nI N, nI t, a1, a2, a3, a4, upd a5 q (-1), a6, a7, a8, a9, a10, a11, a12, a13, m) → wpX_fresh post (ch, nI K, nI N, nI s, a1, a2, a3, a4, a5, a6, a7, a8, a9, a10, a11, a12, a13, a14) := by
  obtain ⟨m, ⟨h17, hq⟩, hp⟩ := nt_survey ch (nI s) a1 a2 a3 a4 a5 a6 a7 a8 a9 a10 a11 a12 a13 a14 h
  by_cases hc : nt_cz m (s * 8) 8 = 0
  · obtain ⟨t, ⟨ht, hz⟩, hp2⟩ := nt_f21 ch (nI K) (nI N) a1 a2 a3 a4 a5 a6 a7 a8 a9 a10 a11 a12 a13 m hs (by omega)
    obtain ⟨q, ⟨hq1, hq2⟩, hp3⟩ := nt_f54 ch (nI K) (nI N) a1 a2 a3 a4 a5 a6 a7 a8 a9 a10 a11 a12 a13 m ht hz
    refine ⟨q, t, m, ⟨hq q hq1 hq2, ht⟩, fun post h => ?_⟩
    refine hp _ (nt_freeIn ch (nI K) (nI N) (nI s) a1 a2 a3 a4 a5 a6 a7 a8 a9 a10 a11 a12 a13 m hs _ (br_t ?_ (hp2 post (hp3 post h))))
    rw [hc, nI_0]
  · obtain ⟨q, ⟨hq1, hq2⟩, hp3⟩ := nt_f54 ch (nI K) (nI N) a1 a2 a3 a4 a5 a6 a7 a8 a9 a10 a11 a12 a13 m hs (Nat.pos_of_ne_zero hc)
    have hle := nt_cz_le m (s * 8) 8
    refine ⟨q, s, m, ⟨hq q hq1 hq2, hs⟩, fun post h => ?_⟩
    exact hp _ (nt_freeIn ch (nI K) (nI N) (nI s) a1 a2 a3 a4 a5 a6 a7 a8 a9 a10 a11 a12 a13 m hs _ (br_f (nI_ne0 (Nat.pos_of_ne_zero hc) (by omega)) (hp3 post h)))
end
section
/-! the invariant, and what keeps it -/
def nt_roll (a2 : Nat → Int32) (b : Nat → Nat) (g : Nat → Int32) : Nat → Nat → Int32
  | 0 => g
  | k + 1 => upd (nt_roll a2 b g k) (a2 (b k)).toNatClampNeg (nI (b k))
theorem nt_roll_a2 {a2 a2' : Nat → Int32} {b b' : Nat → Nat} (g : Nat → Int32) (K : Nat) : (∀ j, j < K → a2' (b' j) = a2 (b j) ∧ b' j = b j) → nt_roll a2' b' g K = nt_roll a2 b g K := by
  induction K with
  | zero => exact fun _ => rfl
  | succ K ih =>
    intro h
    show upd (nt_roll a2' b' g K) (a2' (b' K)).toNatClampNeg (nI (b' K)) = upd (nt_roll a2 b g K) (a2 (b K)).toNatClampNeg (nI (b K))
    rw [ih (fun j hj => h j (by omega)), (h K (by omega)).1, (h K (by omega)).2]
theorem nt_upd_c {g g' : Nat → Int32} {n : Nat} (k : Nat) (x : Int32) (h : ∀ f, f < n → g f = g' f) : ∀ f, f < n → upd g k x f = upd g' k x f := by
  intro f hf
  by_cases e : f = k
  · rw [e, pk_us, pk_us]
  · rw [pk_un e, pk_un e]
    exact h f hf
theorem nt_roll_g {a2 : Nat → Int32} {b : Nat → Nat} {g g' : Nat → Int32} (n K : Nat) (h : ∀ f, f < n → g f = g' f) : ∀ f, f < n → nt_roll a2 b g K f = nt_roll a2 b g' K f := by
  induction K with
  | zero => exact h
  | succ K ih => exact nt_upd_c _ _ ih
/-- N: the number; c: the chain's next block; b: the chain's blocks, K of them; s: the segment -/
def nt_iv (N c K s : Nat) (b : Nat → Nat) (a2 a3 a4 a5 a6 a7 a8 a9 a10 a11 a12 : Nat → Int32) : Prop :=
  (1 ≤ N ∧ c < 128 ∧ K ≤ 20 ∧ s < 16) ∧
  (a7 (N % 2) = nI N ∧ a8 (N % 2) = nI N ∧ ∃ M, M < N ∧ a7 (1 - N % 2) = nI M ∧ a8 (1 - N % 2) = nI M) ∧
  ((∀ f, f < 6 → nt_nd a3 a4 (a11 f)) ∧ (∀ f, f < 6 → nt_nd a3 a4 (a12 f)) ∧ (∀ f, f < 6 → nt_nd a3 a4 (a9 (N % 2 * 6 + f)))) ∧
  ((∀ f, f < 6 → a11 f ≠ nI c) ∧ (∀ f, f < 6 → a12 f ≠ nI c) ∧ (∀ f, f < 6 → a9 (N % 2 * 6 + f) ≠ nI c)) ∧
  (a10 (N % 2) = nI (b 0) ∧ b K = c ∧ a5 c = -1 ∧ ∀ j, j < K → b j < 128 ∧ b j ≠ c ∧ a5 (b j) = nI N ∧ a6 (b j) = nI (b (j + 1)) ∧ ∃ g, g < 6 ∧ a2 (b j) = nI g) ∧
  (∀ f, f < 6 → a12 f = nt_roll a2 b (fun f => a9 (N % 2 * 6 + f)) K f)
theorem nt_iv_sp {N c K s : Nat} {b : Nat → Nat} {a2 a3 a4 a5 a6 a7 a8 a9 a10 a11 a12 : Nat → Int32} (h : nt_iv N c K s b a2 a3 a4 a5 a6 a7 a8 a9 a10 a11 a12) (hN : N < 2 ^ 31) : nt_sp N K b (nI c) a3 a4 a6 a9 a10 a11 a12 := by
  obtain ⟨⟨_, hc, hK, _⟩, _, ⟨n1, n2, n3⟩, _, ⟨e10, _, _, hb⟩, _⟩ := h
  exact ⟨hK, hN, Or.inr ⟨c, hc, rfl⟩, n1, n2, n3, e10, fun j hj => ⟨(hb j hj).1, (hb j hj).2.2.2.1⟩⟩
theorem nt_nd_fr {a3 a4 a3' a4' : Nat → Int32} {x : Int32} (h : nt_nd a3 a4 x) (hf : ∀ v, v < 128 → x = nI v → a3' v = a3 v ∧ ∀ i, i < 4 → a4' (v * 4 + i) = a4 (v * 4 + i)) : nt_nd a3' a4' x := by
  rcases h with h | ⟨v, z, hv, hz, hx, h3, h4⟩
  · exact Or.inl h
  · obtain ⟨f3, f4⟩ := hf v hv hx
    refine Or.inr ⟨v, z, hv, hz, hx, f3.trans h3, fun i hi => ?_⟩
    rw [f4 i (by omega)]
    exact h4 i hi
theorem nt_nus {a3 a4 : Nat → Int32} {x : Int32} {q v : Nat} (h : nt_nd a3 a4 x) (hu : ¬ nt_us a3 a4 x q) (hv : v < 2 ^ 31) (hx : x = nI v) : v ≠ q := by
  intro e
  rcases h with h | ⟨w, z, hw, hz, hx', h3, h4⟩
  · exact absurd (hx.symm.trans h) (nt_ne1 hv)
  · have : w = v := nt_inj (hx'.symm.trans hx) (by omega) hv
    exact hu ⟨w, z, hw, hz, hx', h3, Or.inl (this.trans e)⟩
theorem nt_iv_put {N c K s s' : Nat} {b : Nat → Nat} {a2 a3 a4 a5 a6 a7 a8 a9 a10 a11 a12 a2' a3' a4' a5' : Nat → Int32} {q : Nat} (f : Nat) (h : nt_iv N c K s b a2 a3 a4 a5 a6 a7 a8 a9 a10 a11 a12) (hq : nt_fq N K b (nI c) a3 a4 a9 a11 a12 q)
    (h2 : ∀ v, v ≠ q → a2' v = a2 v) (h3 : ∀ v, v ≠ q → a3' v = a3 v) (h4 : ∀ v i, v ≠ q → i < 4 → a4' (v * 4 + i) = a4 (v * 4 + i)) (h5c : a5' c = a5 c) (h5 : ∀ j, j < K → a5' (b j) = a5 (b j)) (hnd : nt_nd a3' a4' (nI q)) (hs' : s' < 16) :
    nt_iv N c K s' b a2' a3' a4' a5' a6 a7 a8 a9 a10 (upd a11 f (nI q)) a12 := by
  obtain ⟨⟨hN1, hc, hK, _⟩, hpk, ⟨n1, n2, n3⟩, ⟨c1, c2, c3⟩, ⟨e10, eK, e5, hb⟩, hr⟩ := h
  obtain ⟨hq1, hqc, hqb, u1, u2, u3⟩ := hq
  have fr : ∀ x, nt_nd a3 a4 x → ¬ nt_us a3 a4 x q → nt_nd a3' a4' x := fun x hx hu => nt_nd_fr hx (fun v hv ex => ⟨h3 v (nt_nus hx hu (by omega) ex), fun i hi => h4 v i (nt_nus hx hu (by omega) ex) hi⟩)
  refine ⟨⟨hN1, hc, hK, hs'⟩, hpk, ⟨fun g hg => ?_, fun g hg => fr _ (n2 g hg) (u2 g hg), fun g hg => fr _ (n3 g hg) (u3 g hg)⟩, ⟨fun g hg => ?_, c2, c3⟩, ⟨e10, eK, h5c.trans e5, fun j hj => ?_⟩, fun g hg => ?_⟩
  · by_cases e : g = f
    · rw [e, pk_us]
      exact hnd
    · rw [pk_un e]
      exact fr _ (n1 g hg) (u1 g hg)
  · by_cases e : g = f
    · rw [e, pk_us]
      exact fun t => hqc t.symm
    · rw [pk_un e]
      exact c1 g hg
  · obtain ⟨b1, b2, b3, b4, b5⟩ := hb j hj
    refine ⟨b1, b2, (h5 j hj).trans b3, b4, ?_⟩
    rw [h2 _ (hqb j hj)]
    exact b5
  · rw [hr g hg, nt_roll_a2 (a2 := a2) (a2' := a2') (b := b) (b' := b) _ K (fun j hj => ⟨h2 _ (hqb j hj), rfl⟩)]
theorem nt_iv_rm {N c K s : Nat} {b : Nat → Nat} {a2 a3 a4 a5 a6 a7 a8 a9 a10 a11 a12 : Nat → Int32} (f : Nat) (h : nt_iv N c K s b a2 a3 a4 a5 a6 a7 a8 a9 a10 a11 a12) : nt_iv N c K s b a2 a3 a4 a5 a6 a7 a8 a9 a10 (upd a11 f (-1)) a12 := by
  obtain ⟨⟨hN1, hc, hK, hs⟩, hpk, ⟨n1, n2, n3⟩, ⟨c1, c2, c3⟩, hch, hr⟩ := h
  refine ⟨⟨hN1, hc, hK, hs⟩, hpk, ⟨fun g hg => ?_, n2, n3⟩, ⟨fun g hg => ?_, c2, c3⟩, hch, hr⟩
  · by_cases e : g = f
    · rw [e, pk_us]
      exact Or.inl rfl
    · rw [pk_un e]
      exact n1 g hg
  · by_cases e : g = f
    · rw [e, pk_us]
      exact fun t => nt_ne1 (by omega) t.symm
    · rw [pk_un e]
      exact c1 g hg
theorem nt_iv_mt {N c K s : Nat} {b : Nat → Nat} {a2 a3 a4 a5 a6 a7 a8 a9 a10 a11 a12 a11' a12' : Nat → Int32} (h : nt_iv N c K s b a2 a3 a4 a5 a6 a7 a8 a9 a10 a11 a12) (h1 : ∀ f, f < 6 → a11' f = a12 f) (h2 : ∀ f, f < 6 → a12' f = a12 f) : nt_iv N c K s b a2 a3 a4 a5 a6 a7 a8 a9 a10 a11' a12' := by
  obtain ⟨hd, hpk, ⟨n1, n2, n3⟩, ⟨c1, c2, c3⟩, hch, hr⟩ := h
  refine ⟨hd, hpk, ⟨fun g hg => ?_, fun g hg => ?_, n3⟩, ⟨fun g hg => ?_, fun g hg => ?_, c3⟩, hch, fun g hg => ?_⟩
  · rw [h1 g hg]; exact n2 g hg
  · rw [h2 g hg]; exact n2 g hg
  · rw [h1 g hg]; exact c2 g hg
  · rw [h2 g hg]; exact c2 g hg
  · rw [h2 g hg]; exact hr g hg
theorem nt_iv_wp {N q s : Nat} {b0 : Nat → Nat} (a2 a5 a6 a7 a8 a10 : Nat → Int32) {a3 a4 a9 a11 a12 : Nat → Int32} (n1 : ∀ f, f < 6 → nt_nd a3 a4 (a11 f)) (n2 : ∀ f, f < 6 → nt_nd a3 a4 (a12 f)) (h7 : a7 (N % 2) = nI N) (h8 : a8 (N % 2) = nI N)
    (h9 : ∀ f, f < 6 → a9 ((N + 1) % 2 * 6 + f) = a12 f) (hq : nt_fq (N + 1) 0 b0 (-1) a3 a4 a9 a11 a12 q) (hs : s < 16) :
    nt_iv (N + 1) q 0 s (fun _ => q) a2 a3 a4 (upd a5 q (-1)) a6 (upd a7 ((N + 1) % 2) (nI (N + 1))) (upd a8 ((N + 1) % 2) (nI (N + 1))) a9 (upd a10 ((N + 1) % 2) (nI q)) a11 a12 := by
  obtain ⟨hq1, hqc, hqb, u1, u2, u3⟩ := hq
  have ne : ∀ x, nt_nd a3 a4 x → ¬ nt_us a3 a4 x q → x ≠ nI q := fun x hx hu e => nt_nus hx hu (by omega) e rfl
  have e1 : 1 - (N + 1) % 2 = N % 2 := by omega
  refine ⟨⟨by omega, hq1, by omega, hs⟩, ⟨pk_us, pk_us, N, by omega, ?_, ?_⟩, ⟨n1, n2, fun f hf => ?_⟩, ⟨fun f hf => ne _ (n1 f hf) (u1 f hf), fun f hf => ne _ (n2 f hf) (u2 f hf), fun f hf => ?_⟩, ⟨pk_us, rfl, pk_us, fun j hj => absurd hj (by omega)⟩, fun f hf => ?_⟩
  · rw [e1, pk_un (by omega)]; exact h7
  · rw [e1, pk_un (by omega)]; exact h8
  · rw [h9 f hf]; exact n2 f hf
  · rw [h9 f hf]; exact ne _ (n2 f hf) (u2 f hf)
  · exact (h9 f hf).symm
/-- what a reader sees of a node: is it there, its size, its words -/
def nt_v (a1 a3 a4 : Nat → Int32) (x : Int32) : Nat → Int32
  | 0 => if x = -1 then 0 else 1
  | 1 => if x = -1 then -3 else a3 x.toNatClampNeg
  | i + 2 => if x = -1 then 0 else if nI i < a3 x.toNatClampNeg then a1 (a4 (x.toNatClampNeg * 4 + i)).toNatClampNeg else 0
/-- fsync writes the node v of file f anew, into the chain's block c -/
theorem nt_fs_nd {a3 a4 a4' : Nat → Int32} {c v : Nat} (h4 : ∀ w i, w ≠ c → i < 4 → a4' (w * 4 + i) = a4 (w * 4 + i)) {x : Int32} (hx : nt_nd a3 a4 x) (hxc : x ≠ nI c) : nt_nd (upd a3 c (a3 v)) a4' x :=
  nt_nd_fr hx (fun w _ ew => by
    have hw : w ≠ c := fun e => hxc (by rw [ew, e])
    exact ⟨pk_un hw, fun i hi => h4 w i hw hi⟩)
theorem nt_fs_new {a3 a4 a4' : Nat → Int32} {c v : Nat} (hc : c < 128) (hv : v < 128) (h4c : ∀ i, i < 4 → a4' (c * 4 + i) = a4 (v * 4 + i)) (hx : nt_nd a3 a4 (nI v)) : nt_nd (upd a3 c (a3 v)) a4' (nI c) := by
  rcases hx with h | ⟨w, z, hw, hz, hx, h3, h4⟩
  · exact absurd h (nt_ne1 (by omega))
  · have e : v = w := nt_inj hx (by omega) (by omega)
    subst e
    refine Or.inr ⟨c, z, hc, hz, rfl, by rw [pk_us]; exact h3, fun i hi => ?_⟩
    rw [h4c i (by omega)]
    exact h4 i hi
theorem nt_fs_sp {N c K s f v : Nat} {b : Nat → Nat} {a2 a3 a4 a5 a6 a7 a8 a9 a10 a11 a12 a4' : Nat → Int32} (h : nt_iv N c K s b a2 a3 a4 a5 a6 a7 a8 a9 a10 a11 a12) (hN : N < 2 ^ 31) (hf : f < 6) (hv : v < 128) (ev : a11 f = nI v)
    (h4 : ∀ w i, w ≠ c → i < 4 → a4' (w * 4 + i) = a4 (w * 4 + i)) (h4c : ∀ i, i < 4 → a4' (c * 4 + i) = a4 (v * 4 + i)) :
    nt_sp N K b (nI c) (upd a3 c (a3 v)) a4' a6 a9 a10 (upd a11 f (nI c)) (upd a12 f (nI c)) := by
  obtain ⟨⟨hN1, hc, hK, _⟩, hpk, ⟨n1, n2, n3⟩, ⟨c1, c2, c3⟩, ⟨e10, eK, e5, hb⟩, hr⟩ := h
  have nw : nt_nd (upd a3 c (a3 v)) a4' (nI c) := nt_fs_new hc hv h4c (by rw [← ev]; exact n1 f hf)
  refine ⟨hK, hN, Or.inr ⟨c, hc, rfl⟩, fun g hg => ?_, fun g hg => ?_, fun g hg => nt_fs_nd h4 (n3 g hg) (c3 g hg), e10, fun j hj => ⟨(hb j hj).1, (hb j hj).2.2.2.1⟩⟩
  · by_cases e : g = f
    · rw [e, pk_us]
      exact nw
    · rw [pk_un e]
      exact nt_fs_nd h4 (n1 g hg) (c1 g hg)
  · by_cases e : g = f
    · rw [e, pk_us]
      exact nw
    · rw [pk_un e]
      exact nt_fs_nd h4 (n2 g hg) (c2 g hg)
theorem nt_iv_fs {N c K s s' f v q : Nat} {b : Nat → Nat} {a2 a3 a4 a5 a6 a7 a8 a9 a10 a11 a12 a4' : Nat → Int32} (h : nt_iv N c K s b a2 a3 a4 a5 a6 a7 a8 a9 a10 a11 a12) (hN : N < 2 ^ 31) (hK20 : K < 20) (hf : f < 6) (hv : v < 128) (ev : a11 f = nI v)
    (h4 : ∀ w i, w ≠ c → i < 4 → a4' (w * 4 + i) = a4 (w * 4 + i)) (h4c : ∀ i, i < 4 → a4' (c * 4 + i) = a4 (v * 4 + i))
    (hq : nt_fq N K b (nI c) (upd a3 c (a3 v)) a4' a9 (upd a11 f (nI c)) (upd a12 f (nI c)) q) (hs' : s' < 16) :
    nt_iv N q (K + 1) s' (fun j => if j ≤ K then b j else q) (upd a2 c (nI f)) (upd a3 c (a3 v)) a4' (upd (upd a5 q (-1)) c (nI N)) (upd a6 c (nI q)) a7 a8 a9 a10 (upd a11 f (nI c)) (upd a12 f (nI c)) := by
  have sp := nt_fs_sp h hN hf hv ev h4 h4c
  obtain ⟨_, _, _, m1, m2, m3, _, _⟩ := sp
  obtain ⟨⟨hN1, hc, hK, _⟩, hpk, ⟨n1, n2, n3⟩, ⟨c1, c2, c3⟩, ⟨e10, eK, e5, hb⟩, hr⟩ := h
  obtain ⟨hq1, hqc, hqb, u1, u2, u3⟩ := hq
  have hcq : c ≠ q := fun e => hqc (by rw [e])
  have ne : ∀ x, nt_nd (upd a3 c (a3 v)) a4' x → ¬ nt_us (upd a3 c (a3 v)) a4' x q → x ≠ nI q := fun x hx hu e => nt_nus hx hu (by omega) e rfl
  refine ⟨⟨hN1, hq1, by omega, hs'⟩, hpk, ⟨m1, m2, m3⟩, ⟨fun g hg => ne _ (m1 g hg) (u1 g hg), fun g hg => ne _ (m2 g hg) (u2 g hg), fun g hg => ne _ (m3 g hg) (u3 g hg)⟩, ⟨?_, ?_, ?_, fun j hj => ?_⟩, fun g hg => ?_⟩
  · show a10 (N % 2) = nI (if 0 ≤ K then b 0 else q)
    rw [if_pos (Nat.zero_le K)]
    exact e10
  · show (if K + 1 ≤ K then b (K + 1) else q) = q
    rw [if_neg (by omega)]
  · rw [pk_un (Ne.symm hcq), pk_us]
  · show (if j ≤ K then b j else q) < 128 ∧ (if j ≤ K then b j else q) ≠ q ∧ upd (upd a5 q (-1)) c (nI N) (if j ≤ K then b j else q) = nI N ∧ upd a6 c (nI q) (if j ≤ K then b j else q) = nI (if j + 1 ≤ K then b (j + 1) else q) ∧ ∃ g, g < 6 ∧ upd a2 c (nI f) (if j ≤ K then b j else q) = nI g
    rw [if_pos (show j ≤ K by omega)]
    by_cases e : j = K
    · rw [e, eK, if_neg (show ¬ K + 1 ≤ K by omega), pk_us, pk_us, pk_us]
      exact ⟨hc, hcq, rfl, rfl, f, hf, rfl⟩
    · obtain ⟨b1, b2, b3, b4, b5⟩ := hb j (by omega)
      rw [if_pos (show j + 1 ≤ K by omega), pk_un b2, pk_un b2, pk_un b2, pk_un (hqb j (by omega))]
      exact ⟨b1, hqb j (by omega), b3, b4, b5⟩
  · have e1 : nt_roll (upd a2 c (nI f)) (fun j => if j ≤ K then b j else q) (fun f => a9 (N % 2 * 6 + f)) K = nt_roll a2 b (fun f => a9 (N % 2 * 6 + f)) K := by
      refine nt_roll_a2 _ K (fun j hj => ?_)
      show upd a2 c (nI f) (if j ≤ K then b j else q) = a2 (b j) ∧ (if j ≤ K then b j else q) = b j
      rw [if_pos (show j ≤ K by omega), pk_un (hb j hj).2.1]
      exact ⟨rfl, rfl⟩
    show upd a12 f (nI c) g = upd (nt_roll (upd a2 c (nI f)) (fun j => if j ≤ K then b j else q) (fun f => a9 (N % 2 * 6 + f)) K) (upd a2 c (nI f) (if K ≤ K then b K else q)).toNatClampNeg (nI (if K ≤ K then b K else q)) g
    rw [e1, if_pos (Nat.le_refl K), eK, pk_us, nI_clamp (show f < 2 ^ 31 by omega)]
    exact nt_upd_c f (nI c) hr g hg
theorem nt_fs_v {a1 a3 a4 a4' : Nat → Int32} {c v z : Nat} (hc : c < 128) (hv : v < 128) (hz : z ≤ 4) (h3 : a3 v = nI z) (h4c : ∀ i, i < 4 → a4' (c * 4 + i) = a4 (v * 4 + i)) : ∀ i, i < 6 → nt_v a1 (upd a3 c (a3 v)) a4' (nI c) i = nt_v a1 a3 a4 (nI v) i := by
  have ec : (nI c).toNatClampNeg = c := nI_clamp (by omega)
  have ev : (nI v).toNatClampNeg = v := nI_clamp (by omega)
  intro i hi
  match i, hi with
  | 0, _ =>
    show (if nI c = -1 then (0 : Int32) else 1) = (if nI v = -1 then (0 : Int32) else 1)
    rw [if_neg (nt_ne1 (by omega)), if_neg (nt_ne1 (by omega))]
  | 1, _ =>
    show (if nI c = -1 then (-3 : Int32) else upd a3 c (a3 v) (nI c).toNatClampNeg) = (if nI v = -1 then (-3 : Int32) else a3 (nI v).toNatClampNeg)
    rw [if_neg (nt_ne1 (by omega)), if_neg (nt_ne1 (by omega)), ec, ev, pk_us]
  | i + 2, hi =>
    show (if nI c = -1 then (0 : Int32) else if nI i < upd a3 c (a3 v) (nI c).toNatClampNeg then a1 (a4' ((nI c).toNatClampNeg * 4 + i)).toNatClampNeg else 0) = (if nI v = -1 then (0 : Int32) else if nI i < a3 (nI v).toNatClampNeg then a1 (a4 ((nI v).toNatClampNeg * 4 + i)).toNatClampNeg else 0)
    rw [if_neg (nt_ne1 (by omega)), if_neg (nt_ne1 (by omega)), ec, ev, pk_us, h4c i (by omega)]
end
section
/-! making things last: writePack, checkpoint, mount, count, sync, crash, the constructor -/
theorem nt_writePack (ch cd : Int32) (a1 a2 a3 a4 a5 a6 a7 a8 a9 a10 a11 a12 a13 a14 : Nat → Int32) {N s : Nat} (hN : N < 1000) (hs : s < 16) (n1 : ∀ f, f < 6 → nt_nd a3 a4 (a11 f)) (n2 : ∀ f, f < 6 → nt_nd a3 a4 (a12 f)) (h7 : a7 (N % 2) = nI N) (h8 : a8 (N % 2) = nI N) :
    ∃ c t a5' a7' a8' a9' a10' m, nt_iv (N + 1) c 0 t (fun _ => c) a2 a3 a4 a5' a6 a7' a8' a9' a10' a11 a12 ∧ ∀ post : St1 → Prop, post (nI c, nI 0, nI (N + 1), nI t, a1, a2, a3, a4, a5', a6, a7', a8', a9', a10', a11, a12, a13, m) → wpX_writePack post (ch, cd, nI N, nI s, a1, a2, a3, a4, a5, a6, a7, a8, a9, a10, a11, a12, a13, a14) := by
  have e1 : nI N + 1 = nI (N + 1) := nI_1 N
  have e2 : nI (N + 1) &&& 1 = nI ((N + 1) % 2) := nt_and1 (by omega)
  have ep : (nI ((N + 1) % 2)).toNatClampNeg = (N + 1) % 2 := nI_clamp (by omega)
  obtain ⟨b0, hb0⟩ := nt_ex (a10 ((N + 1) % 2))
  obtain ⟨g, hI, hp⟩ := nt_loop (fun (post : St1 → Prop) n i (s' : Nat → Int32) => wX_writePack_29 post (nI ((N + 1) % 2)) ch cd (nI (N + 1)) (nI s) n (nI i) a1 a2 a3 a4 a5 a6 (upd a7 ((N + 1) % 2) (nI (N + 1))) a8 s' a10 a11 a12 a13 a14)
    (fun post s' => ∀ n, wX_writePack_29 post (nI ((N + 1) % 2)) ch cd (nI (N + 1)) (nI s) (n + 1) (nI 6) a1 a2 a3 a4 a5 a6 (upd a7 ((N + 1) % 2) (nI (N + 1))) a8 s' a10 a11 a12 a13 a14)
    (fun i s' => ∀ f, f < i → s' ((N + 1) % 2 * 6 + f) = a12 f) 6
    (fun s' hI p n hp => hp n)
    (by
      intro i s' hi hI
      refine ⟨upd s' ((N + 1) % 2 * 6 + i) (a12 i), fun f hf => ?_, fun p n hp => ?_⟩
      · by_cases e : f = i
        · rw [e, pk_us]
        · rw [pk_un (by omega)]
          exact hI f (by omega)
      · refine pk_le 6 i (fun t => absurd t (by omega)) (fun _ => ⟨pk_in i 6 hi, pk_in ((N + 1) % 2 * 6 + i) 12 (by omega) (nt_m6 _ i), ?_⟩)
        rw [nt_m6, nI_clamp (show (N + 1) % 2 * 6 + i < 2 ^ 31 by omega), nI_clamp (show i < 2 ^ 31 by omega)]
        exact nm_e (nm_r (nI_1 i) hp))
    6 0 a9 (by omega) (fun f hf => absurd hf (by omega))
  have sp : nt_sp (N + 1) 0 (fun _ => b0) (-1) a3 a4 a6 g a10 a11 a12 := ⟨by omega, by omega, Or.inl rfl, n1, n2, fun f hf => by rw [hI f hf]; exact n2 f hf, hb0, fun j hj => absurd hj (by omega)⟩
  obtain ⟨q, t, m, ⟨hq, ht⟩, hp2⟩ := nt_fresh (-1) a1 a2 a3 a4 a5 a6 (upd a7 ((N + 1) % 2) (nI (N + 1))) a8 g a10 a11 a12 a13 a14 sp hs
  refine ⟨q, t, _, _, _, g, _, m, nt_iv_wp a2 a5 a6 a7 a8 a10 n1 n2 h7 h8 hI hq ht, fun post h => ?_⟩
  refine nm_r e1 (nm_r e2 ⟨pk_in ((N + 1) % 2) 2 (by omega), nm_r (by rw [ep]) (hp post (fun n => ?_))⟩)
  refine pk_le 6 6 (fun _ => hp2 _ ?_) (fun t => absurd t (by omega))
  exact ⟨pk_in ((N + 1) % 2) 2 (by omega), nm_r (by rw [ep]) ⟨pk_in ((N + 1) % 2) 2 (by omega), nm_r (by rw [ep]) h⟩⟩
theorem nt_checkpoint (ch cd : Int32) (a1 a2 a3 a4 a5 a6 a7 a8 a9 a10 a11 a12 a13 a14 : Nat → Int32) {N s : Nat} (hN : N < 1000) (hs : s < 16) (n1 : ∀ f, f < 6 → nt_nd a3 a4 (a11 f)) (h7 : a7 (N % 2) = nI N) (h8 : a8 (N % 2) = nI N) :
    ∃ c t a5' a7' a8' a9' a10' a12' a13' m, (∀ f, f < 6 → a12' f = a11 f) ∧ nt_iv (N + 1) c 0 t (fun _ => c) a2 a3 a4 a5' a6 a7' a8' a9' a10' a11 a12' ∧ ∀ post : St1 → Prop, post (nI c, nI 0, nI (N + 1), nI t, a1, a2, a3, a4, a5', a6, a7', a8', a9', a10', a11, a12', a13', m) → wpX_checkpoint post (ch, cd, nI N, nI s, a1, a2, a3, a4, a5, a6, a7, a8, a9, a10, a11, a12, a13, a14) := by
  obtain ⟨g, hI, hp⟩ := nt_loop (fun (post : St1 → Prop) n i (s' : (Nat → Int32) × (Nat → Int32)) => wX_checkpoint_2 post ch cd (nI N) (nI s) n (nI i) a1 a2 a3 a4 a5 a6 a7 a8 a9 a10 a11 s'.1 s'.2 a14)
    (fun post s' => ∀ n, wX_checkpoint_2 post ch cd (nI N) (nI s) (n + 1) (nI 6) a1 a2 a3 a4 a5 a6 a7 a8 a9 a10 a11 s'.1 s'.2 a14)
    (fun i s' => ∀ f, f < i → s'.1 f = a11 f) 6
    (fun s' hI p n hp => hp n)
    (by
      intro i s' hi hI
      refine ⟨(upd s'.1 i (a11 i), upd s'.2 i 0), fun f hf => ?_, fun p n hp => ?_⟩
      · show upd s'.1 i (a11 i) f = a11 f
        by_cases e : f = i
        · rw [e, pk_us]
        · rw [pk_un e]
          exact hI f (by omega)
      · refine pk_le 6 i (fun t => absurd t (by omega)) (fun _ => ⟨pk_in i 6 hi, pk_in i 6 hi, ?_⟩)
        rw [nI_clamp (show i < 2 ^ 31 by omega)]
        exact nm_e ⟨pk_in i 6 hi, nm_e (nm_r (nI_1 i) hp)⟩)
    6 0 (a12, a13) (by omega) (fun f hf => absurd hf (by omega))
  obtain ⟨g, y⟩ := g
  have hI' : ∀ f, f < 6 → g f = a11 f := hI
  obtain ⟨c, t, a5', a7', a8', a9', a10', m, hiv, hp2⟩ := nt_writePack ch cd a1 a2 a3 a4 a5 a6 a7 a8 a9 a10 a11 g y a14 hN hs n1 (fun f hf => by rw [hI' f hf]; exact n1 f hf) h7 h8
  refine ⟨c, t, a5', a7', a8', a9', a10', g, y, m, hI', hiv, fun post h => hp post (fun n => ?_)⟩
  exact pk_le 6 6 (fun _ => hp2 _ h) (fun t => absurd t (by omega))
theorem nt_m185 (ch cd nu sg : Int32) (a1 a2 a3 a4 a5 a6 a7 a8 a9 a10 a11 a13 a14 : Nat → Int32) (g0 : Nat → Int32) :
    ∃ g, (∀ f, f < 6 → g f = a11 f) ∧ ∀ post : St1 → Prop, post (ch, cd, nu, sg, a1, a2, a3, a4, a5, a6, a7, a8, a9, a10, a11, g, a13, a14) → ∃ n, wX_mount_185 post ch cd nu sg n (nI 0) a1 a2 a3 a4 a5 a6 a7 a8 a9 a10 a11 g0 a13 a14 :=
  nt_loop (fun (post : St1 → Prop) n i (s' : Nat → Int32) => wX_mount_185 post ch cd nu sg n (nI i) a1 a2 a3 a4 a5 a6 a7 a8 a9 a10 a11 s' a13 a14) (fun post s' => post (ch, cd, nu, sg, a1, a2, a3, a4, a5, a6, a7, a8, a9, a10, a11, s', a13, a14)) (fun i s' => ∀ f, f < i → s' f = a11 f) 6
    (fun s' hI p n hp => pk_le 6 6 (fun _ => hp) (fun t => absurd t (by omega)))
    (by
      intro i s' hi hI
      refine ⟨upd s' i (a11 i), fun f hf => ?_, fun p n hp => ?_⟩
      · by_cases e : f = i
        · rw [e, pk_us]
        · rw [pk_un e]
          exact hI f (by omega)
      · refine pk_le 6 i (fun t => absurd t (by omega)) (fun _ => ⟨pk_in i 6 hi, pk_in i 6 hi, ?_⟩)
        rw [nI_clamp (show i < 2 ^ 31 by omega)]
        exact nm_e (nm_r (nI_1 i) hp))
    6 0 g0 (by omega) (fun f hf => absurd hf (by omega))
theorem nt_m114 (a1 a2 a3 a4 a5 a6 a7 a8 a9 a10 a12 a13 a14 : Nat → Int32) (h0 : Nat → Int32) {N c K s : Nat} {b : Nat → Nat} (hN : N < 1000) (hc : c < 128) (hK : K ≤ 20) (eK : b K = c) (e5 : a5 c = -1) (hb : ∀ j, j < K → b j < 128 ∧ b j ≠ c ∧ a5 (b j) = nI N ∧ a6 (b j) = nI (b (j + 1)) ∧ ∃ g, g < 6 ∧ a2 (b j) = nI g) (post : St1 → Prop)
    (h : ∃ n, wX_mount_185 post (nI c) (nI K) (nI N) (nI s) n (nI 0) a1 a2 a3 a4 a5 a6 a7 a8 a9 a10 (nt_roll a2 b h0 K) a12 a13 a14) : ∃ n, wX_mount_114 post (nI N) (nI s) n (nI 0) (nI (b 0)) (nI 0) a1 a2 a3 a4 a5 a6 a7 a8 a9 a10 h0 a12 a13 a14 := by
  refine pk_loop (fun n i (h' : Nat → Int32) => wX_mount_114 post (nI N) (nI s) n (nI i) (nI (b i)) (nI i) a1 a2 a3 a4 a5 a6 a7 a8 a9 a10 h' a12 a13 a14) (fun i h' => h' = nt_roll a2 b h0 i) K 0 h0 (by omega) rfl ?_ ?_
  · intro n h' e
    subst e
    show wX_mount_114 post (nI N) (nI s) (n + 1) (nI K) (nI (b K)) (nI K) a1 a2 a3 a4 a5 a6 a7 a8 a9 a10 (nt_roll a2 b h0 K) a12 a13 a14
    rw [eK]
    refine pk_le 20 K (fun _ => h) (fun _ => ⟨pk_in c 128 hc, ?_⟩)
    rw [nI_clamp (show c < 2 ^ 31 by omega), e5]
    exact br_f (fun e => nt_ne1 (by omega) e.symm) h
  · intro n i h' hi e hw
    subst e
    obtain ⟨b1, b2, b3, b4, g, hg, b5⟩ := hb i hi
    refine pk_le 20 i (fun t => absurd t (by omega)) (fun _ => ⟨pk_in (b i) 128 b1, ?_⟩)
    rw [nI_clamp (show b i < 2 ^ 31 by omega), b3, b4, b5]
    refine br_t rfl ⟨pk_in (b i) 128 b1, pk_in g 6 hg, nm_e ⟨pk_in (b i) 128 b1, nm_e (nm_r (nI_1 i) (nm_r (nI_1 i) (hw _ ?_)))⟩⟩
    show _ = upd (nt_roll a2 b h0 i) (a2 (b i)).toNatClampNeg (nI (b i))
    rw [b5]
theorem nt_m49 (a1 a2 a3 a4 a5 a6 a7 a8 a9 a10 a11 a12 a13 a14 : Nat → Int32) (ch cd nu : Int32) {N c K s : Nat} {b : Nat → Nat} (hN : N < 1000) (h : nt_iv N c K s b a2 a3 a4 a5 a6 a7 a8 a9 a10 a11 a12) :
    ∃ a11' a12' a13', ((∀ f, f < 6 → a11' f = a12 f) ∧ (∀ f, f < 6 → a12' f = a12 f)) ∧ ∀ post : St1 → Prop, post (nI c, nI K, nI N, nI s, a1, a2, a3, a4, a5, a6, a7, a8, a9, a10, a11', a12', a13', a14) → wX_mount_49 post (nI (N % 2)) ch cd nu (nI s) a1 a2 a3 a4 a5 a6 a7 a8 a9 a10 a11 a12 a13 a14 := by
  obtain ⟨⟨hN1, hc, hK, hs⟩, ⟨h7, h8, _⟩, _, _, ⟨e10, eK, e5, hb⟩, hr⟩ := h
  have ep : (nI (N % 2)).toNatClampNeg = N % 2 := nI_clamp (by omega)
  obtain ⟨hy, hI, hp⟩ := nt_loop (fun (post : St1 → Prop) n i (s' : (Nat → Int32) × (Nat → Int32)) => wX_mount_61 post (nI (N % 2)) ch cd (nI N) (nI s) n (nI i) a1 a2 a3 a4 a5 a6 a7 a8 a9 a10 s'.1 a12 s'.2 a14)
    (fun post s' => ∀ n, wX_mount_61 post (nI (N % 2)) ch cd (nI N) (nI s) (n + 1) (nI 6) a1 a2 a3 a4 a5 a6 a7 a8 a9 a10 s'.1 a12 s'.2 a14)
    (fun i s' => ∀ f, f < i → s'.1 f = a9 (N % 2 * 6 + f)) 6
    (fun s' hI p n hp => hp n)
    (by
      intro i s' hi hI
      refine ⟨(upd s'.1 i (a9 (N % 2 * 6 + i)), upd s'.2 i 0), fun f hf => ?_, fun p n hp => ?_⟩
      · show upd s'.1 i (a9 (N % 2 * 6 + i)) f = a9 (N % 2 * 6 + f)
        by_cases e : f = i
        · rw [e, pk_us]
        · rw [pk_un e]
          exact hI f (by omega)
      · refine pk_le 6 i (fun t => absurd t (by omega)) (fun _ => ⟨pk_in (N % 2 * 6 + i) 12 (by omega) (nt_m6 _ i), pk_in i 6 hi, ?_⟩)
        rw [nt_m6, nI_clamp (show N % 2 * 6 + i < 2 ^ 31 by omega), nI_clamp (show i < 2 ^ 31 by omega)]
        exact nm_e ⟨pk_in i 6 hi, nm_e (nm_r (nI_1 i) hp)⟩)
    6 0 (a11, a13) (by omega) (fun f hf => absurd hf (by omega))
  obtain ⟨h0, y⟩ := hy
  have hI' : ∀ f, f < 6 → h0 f = a9 (N % 2 * 6 + f) := hI
  obtain ⟨g, hg, hp3⟩ := nt_m185 (nI c) (nI K) (nI N) (nI s) a1 a2 a3 a4 a5 a6 a7 a8 a9 a10 (nt_roll a2 b h0 K) y a14 a12
  have er : ∀ f, f < 6 → nt_roll a2 b h0 K f = a12 f := fun f hf => (nt_roll_g 6 K hI' f hf).trans (hr f hf).symm
  refine ⟨_, g, y, ⟨er, fun f hf => (hg f hf).trans (er f hf)⟩, fun post h => ?_⟩
  unfold wX_mount_49
  rw [ep, h8]
  refine ⟨pk_in (N % 2) 2 (by omega), nm_e (hp post (fun n => ?_))⟩
  refine pk_le 6 6 (fun _ => ⟨pk_in (N % 2) 2 (by omega), ?_⟩) (fun t => absurd t (by omega))
  rw [ep, e10]
  exact nm_e (nt_m114 a1 a2 a3 a4 a5 a6 a7 a8 a9 a10 a12 y a14 h0 hN hc hK eK e5 hb post (hp3 post h))
theorem nt_mount (a1 a2 a3 a4 a5 a6 a7 a8 a9 a10 a11 a12 a13 a14 : Nat → Int32) (ch cd nu : Int32) {N c K s : Nat} {b : Nat → Nat} (hN : N < 1000) (h : nt_iv N c K s b a2 a3 a4 a5 a6 a7 a8 a9 a10 a11 a12) :
    ∃ a11' a12' a13', ((∀ f, f < 6 → a11' f = a12 f) ∧ (∀ f, f < 6 → a12' f = a12 f)) ∧ ∀ post : St1 → Prop, post (nI c, nI K, nI N, nI s, a1, a2, a3, a4, a5, a6, a7, a8, a9, a10, a11', a12', a13', a14) → wpX_mount post (ch, cd, nu, nI s, a1, a2, a3, a4, a5, a6, a7, a8, a9, a10, a11, a12, a13, a14) := by
  obtain ⟨a11', a12', a13', hh, hp⟩ := nt_m49 a1 a2 a3 a4 a5 a6 a7 a8 a9 a10 a11 a12 a13 a14 ch cd nu hN h
  refine ⟨a11', a12', a13', hh, fun post hpost => ?_⟩
  have hp' := hp post hpost
  obtain ⟨_, ⟨h7, h8, M, hM, k7, k8⟩, _⟩ := h
  rcases Nat.mod_two_eq_zero_or_one N with e | e
  · rw [e] at h7 h8 k7 k8 hp'
    refine br_t (k7.trans k8.symm) (br_t (h7.trans h8.symm) (br_t ?_ hp'))
    rw [k8, h8]
    exact nI_le (by omega) (by omega)
  · rw [e] at h7 h8 k7 k8 hp'
    refine br_t (h7.trans h8.symm) (br_t (k7.trans k8.symm) (br_f ?_ hp'))
    rw [k8, h8]
    exact nI_ge hM (by omega)
def nt_ct (a : Nat → Int32) : Nat → Nat
  | 0 => 0
  | n + 1 => nt_ct a n + (if a n = -1 then 0 else 1)
theorem nt_ct_c {a a' : Nat → Int32} (n : Nat) : (∀ f, f < n → a f = a' f) → nt_ct a n = nt_ct a' n := by
  induction n with
  | zero => exact fun _ => rfl
  | succ n ih =>
    intro h
    show nt_ct a n + (if a n = -1 then 0 else 1) = nt_ct a' n + (if a' n = -1 then 0 else 1)
    rw [ih (fun f hf => h f (by omega)), h n (by omega)]
theorem nt_count (ch cd nu sg : Int32) (a1 a2 a3 a4 a5 a6 a7 a8 a9 a10 a11 a12 a13 a14 : Nat → Int32) (post : Int32 → Prop) (h : post (nI (nt_ct a11 6))) : wpX_count post (ch, cd, nu, sg, a1, a2, a3, a4, a5, a6, a7, a8, a9, a10, a11, a12, a13, a14) := by
  refine pk_loop (σ := Unit) (fun n i _ => wX_count_4 post ch cd nu sg a1 a2 a3 a4 a5 a6 a7 a8 a9 a10 a11 a12 a13 a14 n (nI (nt_ct a11 i)) (nI i)) (fun _ _ => True) 6 0 () (by omega) trivial ?_ ?_
  · intro n _ _
    exact pk_le 6 6 (fun _ => h) (fun t => absurd t (by omega))
  · intro n i _ hi _ hw
    have hw' : wX_count_4 post ch cd nu sg a1 a2 a3 a4 a5 a6 a7 a8 a9 a10 a11 a12 a13 a14 n (nI (nt_ct a11 i + (if a11 i = -1 then 0 else 1))) (nI (i + 1)) := hw () trivial
    refine pk_le 6 i (fun t => absurd t (by omega)) (fun _ => ⟨pk_in i 6 hi, ?_⟩)
    rw [nI_clamp (show i < 2 ^ 31 by omega)]
    refine br_c (fun e => nm_r (nI_1 i) ?_) (fun e => nm_r (nI_1 _) (nm_r (nI_1 i) ?_))
    · rw [if_pos e] at hw'
      exact hw'
    · rw [if_neg e] at hw'
      exact hw'
theorem nt_crash (a1 a2 a3 a4 a5 a6 a7 a8 a9 a10 a11 a12 a13 a14 : Nat → Int32) {N c K s : Nat} {b : Nat → Nat} (hN : N < 1000) (h : nt_iv N c K s b a2 a3 a4 a5 a6 a7 a8 a9 a10 a11 a12) :
    ∃ a11' a12' a13', ((∀ f, f < 6 → a11' f = a12 f) ∧ (∀ f, f < 6 → a12' f = a12 f)) ∧ ∀ post : Int32 → St1 → Prop, post (nI (nt_ct a12 6)) (nI c, nI K, nI N, nI s, a1, a2, a3, a4, a5, a6, a7, a8, a9, a10, a11', a12', a13', a14) → wpX_crash post (nI c, nI K, nI N, nI s, a1, a2, a3, a4, a5, a6, a7, a8, a9, a10, a11, a12, a13, a14) := by
  obtain ⟨a11', a12', a13', hh, hp⟩ := nt_mount a1 a2 a3 a4 a5 a6 a7 a8 a9 a10 a11 a12 a13 a14 (nI c) (nI K) (nI N) hN h
  refine ⟨a11', a12', a13', hh, fun post hpost => hp _ (nt_count (nI c) (nI K) (nI N) (nI s) a1 a2 a3 a4 a5 a6 a7 a8 a9 a10 a11' a12' a13' a14 _ ?_)⟩
  rw [nt_ct_c 6 hh.1]
  exact hpost
theorem nt_sync (ch cd : Int32) (a1 a2 a3 a4 a5 a6 a7 a8 a9 a10 a11 a12 a13 a14 : Nat → Int32) {N s : Nat} (hN : N < 1000) (hs : s < 16) (n1 : ∀ f, f < 6 → nt_nd a3 a4 (a11 f)) (h7 : a7 (N % 2) = nI N) (h8 : a8 (N % 2) = nI N) :
    ∃ c t a5' a7' a8' a9' a10' a12' a13' m, (∀ f, f < 6 → a12' f = a11 f) ∧ nt_iv (N + 1) c 0 t (fun _ => c) a2 a3 a4 a5' a6 a7' a8' a9' a10' a11 a12' ∧ ∀ post : Int32 → St1 → Prop, post (nI (nt_ct a11 6)) (nI c, nI 0, nI (N + 1), nI t, a1, a2, a3, a4, a5', a6, a7', a8', a9', a10', a11, a12', a13', m) → wpX_sync post (ch, cd, nI N, nI s, a1, a2, a3, a4, a5, a6, a7, a8, a9, a10, a11, a12, a13, a14) := by
  obtain ⟨c, t, a5', a7', a8', a9', a10', a12', a13', m, hh, hiv, hp⟩ := nt_checkpoint ch cd a1 a2 a3 a4 a5 a6 a7 a8 a9 a10 a11 a12 a13 a14 hN hs n1 h7 h8
  exact ⟨c, t, a5', a7', a8', a9', a10', a12', a13', m, hh, hiv, fun post hpost => hp _ (nt_count (nI c) (nI 0) (nI (N + 1)) (nI t) a1 a2 a3 a4 a5' a6 a7' a8' a9' a10' a11 a12' a13' m _ hpost)⟩
/-- the state holds the invariant, its number is N -/
def nt_J (N : Nat) (u : St1) : Prop := ∃ (c K s : Nat) (b : Nat → Nat) (a1 a2 a3 a4 a5 a6 a7 a8 a9 a10 a11 a12 a13 a14 : Nat → Int32), u = (nI c, nI K, nI N, nI s, a1, a2, a3, a4, a5, a6, a7, a8, a9, a10, a11, a12, a13, a14) ∧ nt_iv N c K s b a2 a3 a4 a5 a6 a7 a8 a9 a10 a11 a12
theorem nt_init : ∃ u, nt_J 1 u ∧ ∀ post : St1 → Prop, post u → wpX_init post 14 1316 (0, 0, 0, 0) := by
  obtain ⟨g5, _, hp1⟩ := nt_loop (fun (post : St1 → Prop) n i (s' : Nat → Int32) => wX_init_122 post 14 1316 14 1316 0 0 0 0 n (nI i) (fun _ => 0) (fun _ => 0) (fun _ => 0) (fun _ => 0) s' (fun _ => 0) (fun _ => 0) (fun _ => 0) (fun _ => 0) (fun _ => 0) (fun _ => 0) (fun _ => 0) (fun _ => 0) (fun _ => 0))
    (fun post s' => ∃ n, wX_init_144 post 14 1316 14 1316 0 0 0 0 n (nI 0) (fun _ => 0) (fun _ => 0) (fun _ => 0) (fun _ => 0) s' (fun _ => 0) (fun _ => 0) (fun _ => 0) (fun _ => 0) (fun _ => 0) (fun _ => 0) (fun _ => 0) (fun _ => 0) (fun _ => 0))
    (fun i s' => True) 128
    (fun s' hI p n hp => pk_le 128 128 (fun _ => hp) (fun t => absurd t (by omega)))
    (fun i s' hi hI => ⟨_, trivial, fun p n hp => pk_le 128 i (fun t => absurd t (by omega)) (fun _ => ⟨pk_in i 128 hi, nm_e (nm_r (nI_1 i) hp)⟩)⟩)
    128 0 (fun _ => 0) (by omega) trivial
  obtain ⟨gh, hI, hp2⟩ := nt_loop (fun (post : St1 → Prop) n i (s' : (Nat → Int32) × (Nat → Int32)) => wX_init_144 post 14 1316 14 1316 0 0 0 0 n (nI i) (fun _ => 0) (fun _ => 0) (fun _ => 0) (fun _ => 0) g5 (fun _ => 0) (fun _ => 0) (fun _ => 0) (fun _ => 0) (fun _ => 0) s'.1 s'.2 (fun _ => 0) (fun _ => 0))
    (fun post s' => ∀ n, wX_init_144 post 14 1316 14 1316 0 0 0 0 (n + 1) (nI 6) (fun _ => 0) (fun _ => 0) (fun _ => 0) (fun _ => 0) g5 (fun _ => 0) (fun _ => 0) (fun _ => 0) (fun _ => 0) (fun _ => 0) s'.1 s'.2 (fun _ => 0) (fun _ => 0))
    (fun i s' => ∀ f, f < i → s'.1 f = -1) 6
    (fun s' hI p n hp => hp n)
    (by
      intro i s' hi hI
      refine ⟨(upd s'.1 i (-1), upd s'.2 i (-1)), fun f hf => ?_, fun p n hp => ?_⟩
      · show upd s'.1 i (-1) f = -1
        by_cases e : f = i
        · rw [e, pk_us]
        · rw [pk_un e]
          exact hI f (by omega)
      · refine pk_le 6 i (fun t => absurd t (by omega)) (fun _ => ⟨pk_in i 6 hi, ?_⟩)
        rw [nI_clamp (show i < 2 ^ 31 by omega)]
        exact nm_e ⟨pk_in i 6 hi, nm_e (nm_r (nI_1 i) hp)⟩)
    6 0 (fun _ => 0, fun _ => 0) (by omega) (fun f hf => absurd hf (by omega))
  obtain ⟨g, y⟩ := gh
  have hI' : ∀ f, f < 6 → g f = -1 := hI
  obtain ⟨c, t, a5', a7', a8', a9', a10', a12', a13', m, _, hiv, hp3⟩ := nt_checkpoint (-1) 0 (fun _ => 0) (fun _ => 0) (fun _ => 0) (fun _ => 0) g5 (fun _ => 0) (fun _ => 0) (fun _ => 0) (fun _ => 0) (fun _ => 0) g y (fun _ => 0) (fun _ => 0) (N := 0) (s := 0) (by omega) (by omega) (fun f hf => Or.inl (hI' f hf)) rfl rfl
  refine ⟨_, ⟨c, 0, t, fun _ => c, fun _ => 0, fun _ => 0, fun _ => 0, fun _ => 0, a5', fun _ => 0, a7', a8', a9', a10', g, a12', a13', m, rfl, hiv⟩, fun post h => ?_⟩
  have h1 : ∀ n, wX_init_144 post 14 1316 14 1316 0 0 0 0 (n + 1) (nI 6) (fun _ => 0) (fun _ => 0) (fun _ => 0) (fun _ => 0) g5 (fun _ => 0) (fun _ => 0) (fun _ => 0) (fun _ => 0) (fun _ => 0) g y (fun _ => 0) (fun _ => 0) :=
    fun n => pk_le 6 6 (fun _ => hp3 _ h) (fun t => absurd t (by omega))
  have h2 := hp1 post (hp2 post h1)
  unfold wpX_init
  exact ⟨by omega, by omega, by omega, by omega, by omega, by omega, by omega, by omega, by omega, by omega, by omega, by omega, by omega, by omega, by omega, by omega, by omega, by omega, by omega, by omega, by omega, by omega, by omega, by omega, by omega, by omega, by omega, by omega, h2⟩
end
section
/-! the calls that write -/
theorem nt_bad (ch cd nu sg : Int32) (a1 a2 a3 a4 a5 a6 a7 a8 a9 a10 a11 a12 a13 a14 : Nat → Int32) {f : Nat} (hf : f < 6) (post : Int32 → Prop) (h : post 0) : wpX_bad post (ch, cd, nu, sg, a1, a2, a3, a4, a5, a6, a7, a8, a9, a10, a11, a12, a13, a14) (nI f) :=
  br_f (nI_pos (by omega)) (br_t (nI_lt (b := 6) hf (by decide)) h)
theorem nt_w62 (ch cd nu sg : Int32) (a1 a2 a3 a4 a5 a6 a7 a8 a9 a10 a11 a12 a13 a14 : Nat → Int32) (post : St1 → Prop) (J : Int32 → (Nat → Int32) → (Nat → Int32) → (Nat → Int32) → (Nat → Int32) → (Nat → Int32) → (Nat → Int32) → (Nat → Int32) → (Nat → Int32) → (Nat → Int32) → (Nat → Int32) → (Nat → Int32) → (Nat → Int32) → (Nat → Int32) → (Nat → Int32) → Prop) (x1 x3 x5 z0 : Int32) {q k : Nat} (hq : q < 128) (hk : k < 4)
    (h : J (nI (k + 1)) a1 a2 a3 (upd a4 (q * 4 + k) z0) a5 a6 a7 a8 a9 a10 a11 a12 a13 a14) : wX_writeNode_62 post J x1 x3 (-1) x5 (nI q) (nI k) z0 ch cd nu sg a1 a2 a3 a4 a5 a6 a7 a8 a9 a10 a11 a12 a13 a14 := by
  refine br_f (nt_ne1 (by omega)) ⟨pk_in (q * 4 + k) 512 (by omega) (nt_m4 q k), ?_⟩
  rw [nt_m4, nI_clamp (show q * 4 + k < 2 ^ 31 by omega)]
  exact nm_e (nm_r (nI_1 k) h)
theorem nt_w25 (ch cd nu sg : Int32) (a1 a2 a3 a4 a5 a6 a7 a8 a9 a10 a11 a12 a13 a14 : Nat → Int32) {f q v z : Nat} {x : Int32} (hf : f < 6) (hq : q < 128) (hx : (x = -1 ∧ z = 0) ∨ (x = nI v ∧ v < 128 ∧ v ≠ q ∧ a3 v = nI z ∧ z ≤ 4)) :
    ∃ s', ((∀ w i, w ≠ q → i < 4 → s' (w * 4 + i) = a4 (w * 4 + i)) ∧ ∀ i, i < 4 → i < z → s' (q * 4 + i) = a4 (v * 4 + i)) ∧ ∀ post : St1 → Prop, post (ch, cd, nu, sg, a1, a2, a3, s', a5, a6, a7, a8, a9, a10, upd a11 f (nI q), a12, a13, a14) → ∃ n, wX_writeNode_25 post (nI f) x (-1) (-1) (nI q) ch cd nu sg n (nI 0) a1 a2 a3 a4 a5 a6 a7 a8 a9 a10 a11 a12 a13 a14 := by
  refine nt_loop (fun (post : St1 → Prop) n i (s' : Nat → Int32) => wX_writeNode_25 post (nI f) x (-1) (-1) (nI q) ch cd nu sg n (nI i) a1 a2 a3 s' a5 a6 a7 a8 a9 a10 a11 a12 a13 a14) (fun post s' => post (ch, cd, nu, sg, a1, a2, a3, s', a5, a6, a7, a8, a9, a10, upd a11 f (nI q), a12, a13, a14))
    (fun k s' => (∀ w i, w ≠ q → i < 4 → s' (w * 4 + i) = a4 (w * 4 + i)) ∧ ∀ i, i < k → i < z → s' (q * 4 + i) = a4 (v * 4 + i)) 4 ?_ ?_ 4 0 a4 (by omega) ⟨fun _ _ _ _ => rfl, fun i hi => absurd hi (by omega)⟩
  · intro s' hI p n hp
    refine pk_le 4 4 (fun _ => ⟨pk_in f 6 hf, ?_⟩) (fun t => absurd t (by omega))
    rw [nI_clamp (show f < 2 ^ 31 by omega)]
    exact nm_e hp
  · intro k s' hk hI
    have keep : ∀ y, (k < z → y = a4 (v * 4 + k)) → (∀ w i, w ≠ q → i < 4 → upd s' (q * 4 + k) y (w * 4 + i) = a4 (w * 4 + i)) ∧ ∀ i, i < k + 1 → i < z → upd s' (q * 4 + k) y (q * 4 + i) = a4 (v * 4 + i) := by
      intro y hy
      refine ⟨fun w i hw hi => ?_, fun i hi hz => ?_⟩
      · rw [pk_un (by omega)]
        exact hI.1 w i hw hi
      · by_cases e : i = k
        · rw [e, pk_us]
          exact hy (by omega)
        · rw [pk_un (by omega)]
          exact hI.2 i (by omega) hz
    rcases hx with ⟨ex, ez⟩ | ⟨ex, hv, hvq, h3, hz⟩
    · refine ⟨upd s' (q * 4 + k) (-1), keep _ (fun t => absurd t (by omega)), fun p n hp => ?_⟩
      refine pk_le 4 k (fun t => absurd t (by omega)) (fun _ => br_t ex ?_)
      exact nt_w62 ch cd nu sg a1 a2 a3 s' a5 a6 a7 a8 a9 a10 a11 a12 a13 a14 p _ (nI f) x (-1) (-1) hq hk hp
    · by_cases hkz : k < z
      · refine ⟨upd s' (q * 4 + k) (a4 (v * 4 + k)), keep _ (fun _ => rfl), fun p n hp => ?_⟩
        refine pk_le 4 k (fun t => absurd t (by omega)) (fun _ => br_f (by rw [ex]; exact nt_ne1 (by omega)) ⟨pk_in v 128 hv ex, ?_⟩)
        rw [ex, nI_clamp (show v < 2 ^ 31 by omega), h3]
        refine pk_lt k z (fun _ => ⟨pk_in (v * 4 + k) 512 (by omega) (nt_m4 v k), ?_⟩) (fun t => absurd t (by omega))
        rw [nt_m4, nI_clamp (show v * 4 + k < 2 ^ 31 by omega), hI.1 v k hvq hk]
        rw [ex] at hp
        exact nt_w62 ch cd nu sg a1 a2 a3 s' a5 a6 a7 a8 a9 a10 a11 a12 a13 a14 p _ (nI f) (nI v) (-1) (a4 (v * 4 + k)) hq hk hp
      · refine ⟨upd s' (q * 4 + k) (-1), keep _ (fun t => absurd t hkz), fun p n hp => ?_⟩
        refine pk_le 4 k (fun t => absurd t (by omega)) (fun _ => br_f (by rw [ex]; exact nt_ne1 (by omega)) ⟨pk_in v 128 hv ex, ?_⟩)
        rw [ex, nI_clamp (show v < 2 ^ 31 by omega), h3]
        refine pk_lt k z (fun t => absurd t hkz) (fun _ => ?_)
        rw [ex] at hp
        exact nt_w62 ch cd nu sg a1 a2 a3 s' a5 a6 a7 a8 a9 a10 a11 a12 a13 a14 p _ (nI f) (nI v) (-1) (-1) hq hk hp
theorem nt_writeNode (a1 a2 a3 a4 a5 a6 a7 a8 a9 a10 a11 a12 a13 a14 : Nat → Int32) {N c K s : Nat} {b : Nat → Nat} (hN : N < 1000) (h : nt_iv N c K s b a2 a3 a4 a5 a6 a7 a8 a9 a10 a11 a12) {f v z : Nat} {x : Int32} (y : Int32) (hf : f < 6) (hx : (x = -1 ∧ z = 0) ∨ (x = nI v ∧ v < 128 ∧ a11 f = nI v ∧ a3 v = nI z ∧ z ≤ 4)) :
    ∃ q t m a4', (nt_fq N K b (nI c) a3 a4 a9 a11 a12 q ∧ t < 16 ∧ (∀ w i, w ≠ q → i < 4 → a4' (w * 4 + i) = a4 (w * 4 + i)) ∧ ∀ i, i < 4 → i < z → a4' (q * 4 + i) = a4 (v * 4 + i)) ∧
      ∀ post : St1 → Prop, post (nI c, nI K, nI N, nI t, a1, upd a2 q (nI f), upd a3 q y, a4', upd a5 q (-1), a6, a7, a8, a9, a10, upd a11 f (nI q), a12, a13, m) → wpX_writeNode post (nI c, nI K, nI N, nI s, a1, a2, a3, a4, a5, a6, a7, a8, a9, a10, a11, a12, a13, a14) (nI f) y x (-1) (-1) := by
  obtain ⟨q, t, m, ⟨hq, ht⟩, hp⟩ := nt_fresh (nI c) a1 a2 a3 a4 a5 a6 a7 a8 a9 a10 a11 a12 a13 a14 (nt_iv_sp h (by omega)) h.1.2.2.2
  have hq1 : q < 128 := hq.1
  have hx' : (x = -1 ∧ z = 0) ∨ (x = nI v ∧ v < 128 ∧ v ≠ q ∧ upd a3 q y v = nI z ∧ z ≤ 4) := by
    rcases hx with hx | ⟨ex, hv, ef, h3, hz⟩
    · exact Or.inl hx
    · have hvq : v ≠ q := nt_nus (h.2.2.1.1 f hf) (hq.2.2.2.1 f hf) (by omega) ef
      exact Or.inr ⟨ex, hv, hvq, by rw [pk_un hvq]; exact h3, hz⟩
  obtain ⟨a4', hh, hp2⟩ := nt_w25 (nI c) (nI K) (nI N) (nI t) a1 (upd a2 q (nI f)) (upd a3 q y) a4 (upd a5 q (-1)) a6 a7 a8 a9 a10 a11 a12 a13 m hf hq1 hx'
  refine ⟨q, t, m, a4', ⟨hq, ht, hh.1, hh.2⟩, fun post hpost => hp _ ?_⟩
  refine And.intro (pk_in q 128 hq1) ?_
  rw [nI_clamp (show q < 2 ^ 31 by omega)]
  exact nm_e ⟨pk_in q 128 hq1, nm_e (hp2 post hpost)⟩
theorem nt_create (a1 a2 a3 a4 a5 a6 a7 a8 a9 a10 a11 a12 a13 a14 : Nat → Int32) {N c K s : Nat} {b : Nat → Nat} (hN : N < 1000) (h : nt_iv N c K s b a2 a3 a4 a5 a6 a7 a8 a9 a10 a11 a12) {f : Nat} (hf : f < 6) :
    ∃ r u, (∃ N', N' ≤ N + 1 ∧ nt_J N' u) ∧ ∀ post : Int32 → St1 → Prop, post r u → wpX_create post (nI c, nI K, nI N, nI s, a1, a2, a3, a4, a5, a6, a7, a8, a9, a10, a11, a12, a13, a14) (nI f) := by
  have ef : (nI f).toNatClampNeg = f := nI_clamp (by omega)
  by_cases e : a11 f = -1
  · obtain ⟨q, t, m, a4', ⟨hq, ht, k1, k2⟩, hp⟩ := nt_writeNode a1 a2 a3 a4 a5 a6 a7 a8 a9 a10 a11 a12 a13 a14 hN h (f := f) (v := 0) (z := 0) (x := -1) 0 hf (Or.inl ⟨rfl, rfl⟩)
    refine ⟨0, _, ⟨N, by omega, c, K, t, b, a1, upd a2 q (nI f), upd a3 q 0, a4', upd a5 q (-1), a6, a7, a8, a9, a10, upd a11 f (nI q), a12, upd a13 f 1, m, rfl, ?_⟩, fun post hpost => ?_⟩
    · exact nt_iv_put f h hq (fun v hv => pk_un hv) (fun v hv => pk_un hv) k1 (pk_un (fun e => hq.2.1 (by rw [e]))) (fun j hj => pk_un (hq.2.2.1 j hj)) (Or.inr ⟨q, 0, hq.1, by omega, rfl, pk_us, fun i hi => absurd hi (by omega)⟩) ht
    · unfold wpX_create
      refine nt_bad (nI c) (nI K) (nI N) (nI s) a1 a2 a3 a4 a5 a6 a7 a8 a9 a10 a11 a12 a13 a14 hf _ ?_
      refine br_t rfl ⟨pk_in f 6 hf, ?_⟩
      rw [ef]
      exact br_t e (hp _ ⟨pk_in f 6 hf, nm_e hpost⟩)
  · refine ⟨-3, _, ⟨N, by omega, c, K, s, b, a1, a2, a3, a4, a5, a6, a7, a8, a9, a10, a11, a12, a13, a14, rfl, h⟩, fun post hpost => ?_⟩
    unfold wpX_create
    refine nt_bad (nI c) (nI K) (nI N) (nI s) a1 a2 a3 a4 a5 a6 a7 a8 a9 a10 a11 a12 a13 a14 hf _ ?_
    refine br_t rfl ⟨pk_in f 6 hf, ?_⟩
    rw [ef]
    exact br_f e hpost
theorem nt_node {a3 a4 : Nat → Int32} {x : Int32} (h : nt_nd a3 a4 x) (e : ¬ x = -1) : ∃ v z, v < 128 ∧ z ≤ 4 ∧ x = nI v ∧ a3 v = nI z ∧ ∀ i, i < z → ∃ w, w < 128 ∧ a4 (v * 4 + i) = nI w := by
  rcases h with h | h
  · exact absurd h e
  · exact h
theorem nt_remove (a1 a2 a3 a4 a5 a6 a7 a8 a9 a10 a11 a12 a13 a14 : Nat → Int32) {N c K s : Nat} {b : Nat → Nat} (hN : N < 1000) (h : nt_iv N c K s b a2 a3 a4 a5 a6 a7 a8 a9 a10 a11 a12) {f : Nat} (hf : f < 6) :
    ∃ r u, (∃ N', N' ≤ N + 1 ∧ nt_J N' u) ∧ ∀ post : Int32 → St1 → Prop, post r u → wpX_remove post (nI c, nI K, nI N, nI s, a1, a2, a3, a4, a5, a6, a7, a8, a9, a10, a11, a12, a13, a14) (nI f) := by
  have ef : (nI f).toNatClampNeg = f := nI_clamp (by omega)
  by_cases e : a11 f = -1
  · refine ⟨-3, _, ⟨N, by omega, c, K, s, b, a1, a2, a3, a4, a5, a6, a7, a8, a9, a10, a11, a12, a13, a14, rfl, h⟩, fun post hpost => ?_⟩
    unfold wpX_remove
    refine nt_bad (nI c) (nI K) (nI N) (nI s) a1 a2 a3 a4 a5 a6 a7 a8 a9 a10 a11 a12 a13 a14 hf _ ?_
    refine br_t rfl ⟨pk_in f 6 hf, ?_⟩
    rw [ef]
    exact br_t e hpost
  · obtain ⟨v, z, hv, hz, ex, h3, h4⟩ := nt_node (h.2.2.1.1 f hf) e
    refine ⟨nI z, _, ⟨N, by omega, c, K, s, b, a1, a2, a3, a4, a5, a6, a7, a8, a9, a10, upd a11 f (-1), a12, upd a13 f 0, a14, rfl, nt_iv_rm f h⟩, fun post hpost => ?_⟩
    unfold wpX_remove
    refine nt_bad (nI c) (nI K) (nI N) (nI s) a1 a2 a3 a4 a5 a6 a7 a8 a9 a10 a11 a12 a13 a14 hf _ ?_
    refine br_t rfl ⟨pk_in f 6 hf, ?_⟩
    rw [ef]
    refine br_f e ⟨pk_in f 6 hf, pk_in v 128 hv ex, ?_⟩
    rw [ex, nI_clamp (show v < 2 ^ 31 by omega), h3]
    exact nm_e ⟨pk_in f 6 hf, nm_e ⟨pk_in f 6 hf, nm_e hpost⟩⟩
theorem nt_truncate (a1 a2 a3 a4 a5 a6 a7 a8 a9 a10 a11 a12 a13 a14 : Nat → Int32) {N c K s : Nat} {b : Nat → Nat} (hN : N < 1000) (h : nt_iv N c K s b a2 a3 a4 a5 a6 a7 a8 a9 a10 a11 a12) {f i : Nat} (hf : f < 6) (hi : i < 4) :
    ∃ r u, (∃ N', N' ≤ N + 1 ∧ nt_J N' u) ∧ ∀ post : Int32 → St1 → Prop, post r u → wpX_truncate post (nI c, nI K, nI N, nI s, a1, a2, a3, a4, a5, a6, a7, a8, a9, a10, a11, a12, a13, a14) (nI f) (nI i) := by
  have ef : (nI f).toNatClampNeg = f := nI_clamp (by omega)
  by_cases e : a11 f = -1
  · refine ⟨-3, _, ⟨N, by omega, c, K, s, b, a1, a2, a3, a4, a5, a6, a7, a8, a9, a10, a11, a12, a13, a14, rfl, h⟩, fun post hpost => ?_⟩
    unfold wpX_truncate
    refine nt_bad (nI c) (nI K) (nI N) (nI s) a1 a2 a3 a4 a5 a6 a7 a8 a9 a10 a11 a12 a13 a14 hf _ ?_
    refine br_t rfl ⟨pk_in f 6 hf, ?_⟩
    rw [ef]
    exact nm_e (br_t e hpost)
  · obtain ⟨v, z, hv, hz, ex, h3, h4⟩ := nt_node (h.2.2.1.1 f hf) e
    by_cases hiz : i ≤ z
    · obtain ⟨q, t, m, a4', ⟨hq, ht, k1, k2⟩, hp⟩ := nt_writeNode a1 a2 a3 a4 a5 a6 a7 a8 a9 a10 a11 a12 a13 a14 hN h (f := f) (v := v) (z := z) (x := nI v) (nI i) hf (Or.inr ⟨rfl, hv, ex, h3, hz⟩)
      refine ⟨nI z, _, ⟨N, by omega, c, K, t, b, a1, upd a2 q (nI f), upd a3 q (nI i), a4', upd a5 q (-1), a6, a7, a8, a9, a10, upd a11 f (nI q), a12, a13, m, rfl, ?_⟩, fun post hpost => ?_⟩
      · refine nt_iv_put f h hq (fun v hv => pk_un hv) (fun v hv => pk_un hv) k1 (pk_un (fun e => hq.2.1 (by rw [e]))) (fun j hj => pk_un (hq.2.2.1 j hj)) (Or.inr ⟨q, i, hq.1, by omega, rfl, pk_us, fun j hj => ?_⟩) ht
        rw [k2 j (by omega) (by omega)]
        exact h4 j (by omega)
      · unfold wpX_truncate
        refine nt_bad (nI c) (nI K) (nI N) (nI s) a1 a2 a3 a4 a5 a6 a7 a8 a9 a10 a11 a12 a13 a14 hf _ ?_
        refine br_t rfl ⟨pk_in f 6 hf, ?_⟩
        rw [ef, ex]
        refine nm_e (br_f (nt_ne1 (by omega)) ⟨pk_in v 128 hv, ?_⟩)
        rw [nI_clamp (show v < 2 ^ 31 by omega), h3]
        exact nm_e (br_f (nI_pos (by omega)) (br_t (nI_le hiz (by omega)) (hp _ hpost)))
    · refine ⟨-1, _, ⟨N, by omega, c, K, s, b, a1, a2, a3, a4, a5, a6, a7, a8, a9, a10, a11, a12, a13, a14, rfl, h⟩, fun post hpost => ?_⟩
      unfold wpX_truncate
      refine nt_bad (nI c) (nI K) (nI N) (nI s) a1 a2 a3 a4 a5 a6 a7 a8 a9 a10 a11 a12 a13 a14 hf _ ?_
      refine br_t rfl ⟨pk_in f 6 hf, ?_⟩
      rw [ef, ex]
      refine nm_e (br_f (nt_ne1 (by omega)) ⟨pk_in v 128 hv, ?_⟩)
      rw [nI_clamp (show v < 2 ^ 31 by omega), h3]
      exact nm_e (br_f (nI_pos (by omega)) (br_f (nI_ge (by omega) (by omega)) hpost))
theorem nt_w73 (a1 a2 a3 a4 a5 a6 a7 a8 a9 a10 a11 a12 a13 a14 : Nat → Int32) {N c K s : Nat} {b : Nat → Nat} (hN : N < 1000) (h : nt_iv N c K s b a2 a3 a4 a5 a6 a7 a8 a9 a10 a11 a12) {f i v z Z : Nat} (w : Int32) (hf : f < 6) (hv : v < 128) (hz : z ≤ 4) (ex : a11 f = nI v) (h3 : a3 v = nI z) (h4 : ∀ i, i < z → ∃ w, w < 128 ∧ a4 (v * 4 + i) = nI w) (hiZ : i < Z) (hZ : Z ≤ 4) (hj : ∀ j, j < Z → j < z ∨ j = i) :
    ∃ u, nt_J N u ∧ ∀ post : Int32 → St1 → Prop, post (nI Z) u → wX_write_73 post (nI f) (nI i) w (nI v) (nI Z) (nI c) (nI K) (nI N) (nI s) a1 a2 a3 a4 a5 a6 a7 a8 a9 a10 a11 a12 a13 a14 := by
  have ef : (nI f).toNatClampNeg = f := nI_clamp (by omega)
  obtain ⟨q, t, m, a4', ⟨hq, ht, k1, k2⟩, hp⟩ := nt_writeNode a1 a2 a3 a4 a5 a6 a7 a8 a9 a10 a11 a12 a13 a14 hN h (f := f) (v := v) (z := z) (x := nI v) (nI Z) hf (Or.inr ⟨rfl, hv, ex, h3, hz⟩)
  have hq1 : q < 128 := hq.1
  have eq : (nI q).toNatClampNeg = q := nI_clamp (by omega)
  have hcq : c ≠ q := fun e => hq.2.1 (by rw [e])
  have key : ∀ y, y < 128 → nt_nd (upd (upd a3 q (nI Z)) q (nI Z)) (upd a4' (q * 4 + i) (nI y)) (nI q) := by
    intro y hy
    refine Or.inr ⟨q, Z, hq1, hZ, rfl, pk_us, fun j hjZ => ?_⟩
    by_cases e : j = i
    · rw [e, pk_us]
      exact ⟨y, hy, rfl⟩
    · rw [pk_un (by omega)]
      have hjz : j < z := by
        rcases hj j hjZ with t | t
        · exact t
        · exact absurd t e
      rw [k2 j (by omega) hjz]
      exact h4 j hjz
  have a4k : ∀ y w j, w ≠ q → j < 4 → upd a4' (q * 4 + i) (nI y) (w * 4 + j) = a4 (w * 4 + j) := by
    intro y w j hw hj4
    rw [pk_un (by omega)]
    exact k1 w j hw hj4
  have a3k : ∀ v, v ≠ q → upd (upd a3 q (nI Z)) q (nI Z) v = a3 v := fun v hv => by rw [pk_un hv, pk_un hv]
  have iv1 := nt_iv_put f h hq (a2' := upd a2 q (nI f)) (a5' := upd a5 q (-1)) (fun v hv => pk_un hv) a3k (a4k q) (pk_un hcq) (fun j hj => pk_un (hq.2.2.1 j hj)) (key q hq1) ht
  obtain ⟨q2, t2, m2, ⟨hq2, ht2⟩, hp2⟩ := nt_fresh (nI c) a1 (upd a2 q (nI f)) (upd (upd a3 q (nI Z)) q (nI Z)) (upd a4' (q * 4 + i) (nI q)) (upd a5 q (-1)) a6 a7 a8 a9 a10 (upd a11 f (nI q)) a12 a13 m (nt_iv_sp iv1 (by omega)) ht
  have hq21 : q2 < 128 := hq2.1
  have euu : upd (upd a4' (q * 4 + i) (nI q)) (q * 4 + i) (nI q2) = upd a4' (q * 4 + i) (nI q2) := by
    funext j
    by_cases e : j = q * 4 + i
    · rw [e, pk_us, pk_us]
    · rw [pk_un e, pk_un e, pk_un e]
  have iv2 := nt_iv_put f h hq (a2' := upd a2 q (nI f)) (a5' := upd (upd a5 q (-1)) q2 (-1)) (fun v hv => pk_un hv) a3k (a4k q2) (by rw [pk_un (fun e => hq2.2.1 (by rw [e])), pk_un hcq]) (fun j hj => by rw [pk_un (hq2.2.2.1 j hj), pk_un (hq.2.2.1 j hj)]) (key q2 hq21) ht2
  refine ⟨_, ⟨c, K, t2, b, upd a1 q2 w, upd a2 q (nI f), upd (upd a3 q (nI Z)) q (nI Z), upd a4' (q * 4 + i) (nI q2), upd (upd a5 q (-1)) q2 (-1), a6, a7, a8, a9, a10, upd a11 f (nI q), a12, a13, m2, rfl, iv2⟩, fun post hpost => ?_⟩
  have e4 : (nI q * 4 + nI i).toNatClampNeg = q * 4 + i := by rw [nt_m4, nI_clamp (show q * 4 + i < 2 ^ 31 by omega)]
  refine hp _ (And.intro (pk_in f 6 hf) (nm_r (e' := nI q) (by rw [ef, pk_us]) (And.intro (pk_in q 128 hq1) (nm_r (by rw [eq]) (And.intro (pk_in (q * 4 + i) 512 (by omega) (nt_m4 q i)) (nm_r (by rw [e4]) (hp2 _ ?_)))))))
  refine And.intro (pk_in q2 128 hq21) (nm_r (by rw [nI_clamp (show q2 < 2 ^ 31 by omega)]) (And.intro (pk_in (q * 4 + i) 512 (by omega) (nt_m4 q i)) (nm_r (by rw [e4, euu]) hpost)))
theorem nt_write (a1 a2 a3 a4 a5 a6 a7 a8 a9 a10 a11 a12 a13 a14 : Nat → Int32) {N c K s : Nat} {b : Nat → Nat} (hN : N < 1000) (h : nt_iv N c K s b a2 a3 a4 a5 a6 a7 a8 a9 a10 a11 a12) {f i : Nat} (w : Int32) (hf : f < 6) (hi : i < 4) :
    ∃ r u, (∃ N', N' ≤ N + 1 ∧ nt_J N' u) ∧ ∀ post : Int32 → St1 → Prop, post r u → wpX_write post (nI c, nI K, nI N, nI s, a1, a2, a3, a4, a5, a6, a7, a8, a9, a10, a11, a12, a13, a14) (nI f) (nI i) w := by
  have ef : (nI f).toNatClampNeg = f := nI_clamp (by omega)
  by_cases e : a11 f = -1
  · refine ⟨-3, _, ⟨N, by omega, c, K, s, b, a1, a2, a3, a4, a5, a6, a7, a8, a9, a10, a11, a12, a13, a14, rfl, h⟩, fun post hpost => ?_⟩
    unfold wpX_write
    refine nt_bad (nI c) (nI K) (nI N) (nI s) a1 a2 a3 a4 a5 a6 a7 a8 a9 a10 a11 a12 a13 a14 hf _ ?_
    refine br_t rfl ⟨pk_in f 6 hf, ?_⟩
    rw [ef]
    exact nm_e (br_t e hpost)
  · obtain ⟨v, z, hv, hz, ex, h3, h4⟩ := nt_node (h.2.2.1.1 f hf) e
    have ev : (nI v).toNatClampNeg = v := nI_clamp (by omega)
    by_cases hiz : z < i
    · refine ⟨-1, _, ⟨N, by omega, c, K, s, b, a1, a2, a3, a4, a5, a6, a7, a8, a9, a10, a11, a12, a13, a14, rfl, h⟩, fun post hpost => ?_⟩
      unfold wpX_write
      refine nt_bad (nI c) (nI K) (nI N) (nI s) a1 a2 a3 a4 a5 a6 a7 a8 a9 a10 a11 a12 a13 a14 hf _ ?_
      refine br_t rfl ⟨pk_in f 6 hf, ?_⟩
      rw [ef, ex]
      refine nm_e (br_f (nt_ne1 (by omega)) (br_f (nI_pos (by omega)) ⟨pk_in v 128 hv, ?_⟩))
      rw [ev, h3]
      exact br_t (nI_lt hiz (by omega)) hpost
    · by_cases hc : i = z
      · obtain ⟨u, hu, hp⟩ := nt_w73 a1 a2 a3 a4 a5 a6 a7 a8 a9 a10 a11 a12 a13 a14 hN h (i := i) (Z := i + 1) w hf hv hz ex h3 h4 (by omega) (by omega) (fun j hj => by omega)
        refine ⟨nI (i + 1), u, ⟨N, by omega, hu⟩, fun post hpost => ?_⟩
        unfold wpX_write
        refine nt_bad (nI c) (nI K) (nI N) (nI s) a1 a2 a3 a4 a5 a6 a7 a8 a9 a10 a11 a12 a13 a14 hf _ ?_
        refine br_t rfl ⟨pk_in f 6 hf, ?_⟩
        rw [ef, ex]
        refine nm_e (br_f (nt_ne1 (by omega)) (br_f (nI_pos (by omega)) ⟨pk_in v 128 hv, ?_⟩))
        rw [ev, h3, nI_1]
        exact br_f (nI_nlt (by omega) (by omega)) (pk_eq i 4 (fun t => absurd t (by omega)) (fun _ => ⟨pk_in v 128 hv, br_t (by rw [hc]) (hp post hpost)⟩))
      · obtain ⟨u, hu, hp⟩ := nt_w73 a1 a2 a3 a4 a5 a6 a7 a8 a9 a10 a11 a12 a13 a14 hN h (i := i) (Z := z) w hf hv hz ex h3 h4 (by omega) (by omega) (fun j hj => by omega)
        refine ⟨nI z, u, ⟨N, by omega, hu⟩, fun post hpost => ?_⟩
        unfold wpX_write
        refine nt_bad (nI c) (nI K) (nI N) (nI s) a1 a2 a3 a4 a5 a6 a7 a8 a9 a10 a11 a12 a13 a14 hf _ ?_
        refine br_t rfl ⟨pk_in f 6 hf, ?_⟩
        rw [ef, ex]
        refine nm_e (br_f (nt_ne1 (by omega)) (br_f (nI_pos (by omega)) ⟨pk_in v 128 hv, ?_⟩))
        rw [ev, h3]
        exact br_f (nI_nlt (by omega) (by omega)) (pk_eq i 4 (fun t => absurd t (by omega)) (fun _ => ⟨pk_in v 128 hv, pk_eq i z (fun t => absurd t hc) (fun _ => ⟨pk_in v 128 hv, hp post hpost⟩)⟩))
end
section
/-! copy, fsync -/
def nt_ci (c K q : Nat) (b : Nat → Nat) (a3 a4 a5 : Nat → Int32) (i t : Nat) (b3 b4 b5 : Nat → Int32) : Prop :=
  t < 16 ∧ (∀ v, v ≠ q → b3 v = a3 v) ∧ (∀ w j, w ≠ q → j < 4 → b4 (w * 4 + j) = a4 (w * 4 + j)) ∧ b5 c = a5 c ∧ (∀ j, j < K → b5 (b j) = a5 (b j)) ∧ b3 q = nI i ∧ ∀ j, j < i → ∃ w, w < 128 ∧ b4 (q * 4 + j) = nI w
theorem nt_ci_iv {N c K s q i t f : Nat} {b : Nat → Nat} {a2 a3 a4 a5 a6 a7 a8 a9 a10 a11 a12 b3 b4 b5 : Nat → Int32} (h : nt_iv N c K s b a2 a3 a4 a5 a6 a7 a8 a9 a10 a11 a12) (hq : nt_fq N K b (nI c) a3 a4 a9 a11 a12 q) (hi : i ≤ 4) (hc : nt_ci c K q b a3 a4 a5 i t b3 b4 b5) :
    nt_iv N c K t b (upd a2 q (nI f)) b3 b4 b5 a6 a7 a8 a9 a10 (upd a11 f (nI q)) a12 := by
  obtain ⟨ht, k3, k4, k5, k5', kq, kw⟩ := hc
  exact nt_iv_put f h hq (fun v hv => pk_un hv) k3 k4 k5 k5' (Or.inr ⟨q, i, hq.1, hi, rfl, kq, kw⟩) ht
theorem nt_c76 (a1 a2 a3 a4 a5 a6 a7 a8 a9 a10 a11 a12 a13 a14 : Nat → Int32) {N c K s : Nat} {b : Nat → Nat} (hN : N < 1000) (h : nt_iv N c K s b a2 a3 a4 a5 a6 a7 a8 a9 a10 a11 a12) {f v z q : Nat} (hf : f < 6) (hv : v < 128) (hvq : v ≠ q) (hz : z ≤ 4) (h4 : ∀ i, i < z → ∃ w, w < 128 ∧ a4 (v * 4 + i) = nI w) (hq : nt_fq N K b (nI c) a3 a4 a9 a11 a12 q)
    (t0 : Nat) (b1 b3 b4 b5 m0 : Nat → Int32) (h0 : nt_ci c K q b a3 a4 a5 0 t0 b3 b4 b5) :
    ∃ u, nt_J N u ∧ ∀ post : Int32 → St1 → Prop, post (nI z) u → ∃ n, wX_copy_76 post (nI f) (nI v) (nI z) n (nI 0) (nI c) (nI K) (nI N) (nI t0) b1 (upd a2 q (nI f)) b3 b4 b5 a6 a7 a8 a9 a10 (upd a11 f (nI q)) a12 a13 m0 := by
  have hq1 : q < 128 := hq.1
  have eq : (nI q).toNatClampNeg = q := nI_clamp (by omega)
  have ef : (nI f).toNatClampNeg = f := nI_clamp (by omega)
  obtain ⟨s', hI, hp⟩ := nt_loop (fun (post : Int32 → St1 → Prop) n i (s' : Nat × (Nat → Int32) × (Nat → Int32) × (Nat → Int32) × (Nat → Int32) × (Nat → Int32)) => wX_copy_76 post (nI f) (nI v) (nI z) n (nI i) (nI c) (nI K) (nI N) (nI s'.1) s'.2.1 (upd a2 q (nI f)) s'.2.2.1 s'.2.2.2.1 s'.2.2.2.2.1 a6 a7 a8 a9 a10 (upd a11 f (nI q)) a12 a13 s'.2.2.2.2.2)
    (fun post s' => post (nI z) (nI c, nI K, nI N, nI s'.1, s'.2.1, upd a2 q (nI f), s'.2.2.1, s'.2.2.2.1, s'.2.2.2.2.1, a6, a7, a8, a9, a10, upd a11 f (nI q), a12, a13, s'.2.2.2.2.2))
    (fun i s' => nt_ci c K q b a3 a4 a5 i s'.1 s'.2.2.1 s'.2.2.2.1 s'.2.2.2.2.1) z
    (fun s' hI p n hp => pk_le z z (fun _ => hp) (fun t => absurd t (by omega)))
    (by
      intro i s' hi hI
      obtain ⟨t, d1, d3, d4, d5, m⟩ := s'
      have hI' : nt_ci c K q b a3 a4 a5 i t d3 d4 d5 := hI
      have iv1 : nt_iv N c K t b (upd a2 q (nI f)) d3 d4 d5 a6 a7 a8 a9 a10 (upd a11 f (nI q)) a12 := nt_ci_iv h hq (by omega) hI'
      obtain ⟨ht, k3, k4, k5, k5', kq, kw⟩ := hI'
      obtain ⟨q2, t2, m2, ⟨hq2, ht2⟩, hp2⟩ := nt_fresh (nI c) d1 (upd a2 q (nI f)) d3 d4 d5 a6 a7 a8 a9 a10 (upd a11 f (nI q)) a12 a13 m (nt_iv_sp iv1 (by omega)) ht
      have hq21 : q2 < 128 := hq2.1
      obtain ⟨w, hw, ew⟩ := h4 i hi
      have e4 : d4 (v * 4 + i) = nI w := (k4 v i hvq (by omega)).trans ew
      refine ⟨(t2, upd d1 q2 (d1 w), upd d3 q (nI (i + 1)), upd d4 (q * 4 + i) (nI q2), upd d5 q2 (-1), m2), ?_, fun p n hp => ?_⟩
      · refine ⟨ht2, fun v hv => ?_, fun w j hw hj => ?_, ?_, fun j hj => ?_, pk_us, fun j hj => ?_⟩
        · show upd d3 q (nI (i + 1)) v = a3 v
          rw [pk_un hv]
          exact k3 v hv
        · show upd d4 (q * 4 + i) (nI q2) (w * 4 + j) = a4 (w * 4 + j)
          rw [pk_un (by omega)]
          exact k4 w j hw hj
        · show upd d5 q2 (-1) c = a5 c
          rw [pk_un (fun e => hq2.2.1 (by rw [e]))]
          exact k5
        · show upd d5 q2 (-1) (b j) = a5 (b j)
          rw [pk_un (hq2.2.2.1 j hj)]
          exact k5' j hj
        · show ∃ w, w < 128 ∧ upd d4 (q * 4 + i) (nI q2) (q * 4 + j) = nI w
          by_cases e : j = i
          · rw [e, pk_us]
            exact ⟨q2, hq21, rfl⟩
          · rw [pk_un (by omega)]
            exact kw j (by omega)
      · refine pk_le z i (fun t => absurd t (by omega)) (fun _ => hp2 _ ?_)
        refine And.intro (pk_in (v * 4 + i) 512 (by omega) (nt_m4 v i)) ?_
        rw [nt_m4 v i, nI_clamp (show v * 4 + i < 2 ^ 31 by omega), e4, nI_clamp (show w < 2 ^ 31 by omega), nI_clamp (show q2 < 2 ^ 31 by omega), ef, pk_us, nt_m4 q i, nI_clamp (show q * 4 + i < 2 ^ 31 by omega), eq, nI_1]
        exact ⟨pk_in w 128 hw, pk_in q2 128 hq21, nm_e ⟨pk_in f 6 hf, pk_in (q * 4 + i) 512 (by omega), nm_e ⟨pk_in f 6 hf, pk_in q 128 hq1, nm_e (nm_e hp)⟩⟩⟩)
    z 0 (t0, b1, b3, b4, b5, m0) (by omega) h0
  obtain ⟨t, d1, d3, d4, d5, m⟩ := s'
  exact ⟨_, ⟨c, K, t, b, d1, upd a2 q (nI f), d3, d4, d5, a6, a7, a8, a9, a10, upd a11 f (nI q), a12, a13, m, rfl, nt_ci_iv h hq hz hI⟩, hp⟩
theorem nt_copy (a1 a2 a3 a4 a5 a6 a7 a8 a9 a10 a11 a12 a13 a14 : Nat → Int32) {N c K s : Nat} {b : Nat → Nat} (hN : N < 1000) (h : nt_iv N c K s b a2 a3 a4 a5 a6 a7 a8 a9 a10 a11 a12) {f g : Nat} (hf : f < 6) (hg : g < 6) :
    ∃ r u, (∃ N', N' ≤ N + 1 ∧ nt_J N' u) ∧ ∀ post : Int32 → St1 → Prop, post r u → wpX_copy post (nI c, nI K, nI N, nI s, a1, a2, a3, a4, a5, a6, a7, a8, a9, a10, a11, a12, a13, a14) (nI f) (nI g) := by
  have ef : (nI f).toNatClampNeg = f := nI_clamp (by omega)
  have eg : (nI g).toNatClampNeg = g := nI_clamp (by omega)
  by_cases e : a11 f = -1
  · refine ⟨-3, _, ⟨N, by omega, c, K, s, b, a1, a2, a3, a4, a5, a6, a7, a8, a9, a10, a11, a12, a13, a14, rfl, h⟩, fun post hpost => ?_⟩
    unfold wpX_copy
    refine nt_bad (nI c) (nI K) (nI N) (nI s) a1 a2 a3 a4 a5 a6 a7 a8 a9 a10 a11 a12 a13 a14 hf _ ?_
    refine br_t rfl ?_
    refine nt_bad (nI c) (nI K) (nI N) (nI s) a1 a2 a3 a4 a5 a6 a7 a8 a9 a10 a11 a12 a13 a14 hg _ ?_
    refine br_t rfl ⟨pk_in f 6 hf, ?_⟩
    rw [ef]
    exact br_t e hpost
  · by_cases e' : a11 g = -1
    · refine ⟨-3, _, ⟨N, by omega, c, K, s, b, a1, a2, a3, a4, a5, a6, a7, a8, a9, a10, a11, a12, a13, a14, rfl, h⟩, fun post hpost => ?_⟩
      unfold wpX_copy
      refine nt_bad (nI c) (nI K) (nI N) (nI s) a1 a2 a3 a4 a5 a6 a7 a8 a9 a10 a11 a12 a13 a14 hf _ ?_
      refine br_t rfl ?_
      refine nt_bad (nI c) (nI K) (nI N) (nI s) a1 a2 a3 a4 a5 a6 a7 a8 a9 a10 a11 a12 a13 a14 hg _ ?_
      refine br_t rfl ⟨pk_in f 6 hf, ?_⟩
      rw [ef, eg]
      exact br_f e ⟨pk_in g 6 hg, br_t e' hpost⟩
    · obtain ⟨v, z, hv, hz, ex, h3, h4⟩ := nt_node (h.2.2.1.1 g hg) e'
      have ev : (nI v).toNatClampNeg = v := nI_clamp (by omega)
      by_cases hfg : f = g
      · refine ⟨nI z, _, ⟨N, by omega, c, K, s, b, a1, a2, a3, a4, a5, a6, a7, a8, a9, a10, a11, a12, a13, a14, rfl, h⟩, fun post hpost => ?_⟩
        unfold wpX_copy
        refine nt_bad (nI c) (nI K) (nI N) (nI s) a1 a2 a3 a4 a5 a6 a7 a8 a9 a10 a11 a12 a13 a14 hf _ ?_
        refine br_t rfl ?_
        refine nt_bad (nI c) (nI K) (nI N) (nI s) a1 a2 a3 a4 a5 a6 a7 a8 a9 a10 a11 a12 a13 a14 hg _ ?_
        refine br_t rfl ⟨pk_in f 6 hf, ?_⟩
        rw [ef, eg]
        refine br_f e ⟨pk_in g 6 hg, br_f e' ⟨pk_in g 6 hg, nm_r ex ⟨pk_in v 128 hv, ?_⟩⟩⟩
        rw [ev, h3]
        exact nm_e (br_t (by rw [hfg]) hpost)
      · obtain ⟨q, t, m, a4', ⟨hq, ht, k1, k2⟩, hp⟩ := nt_writeNode a1 a2 a3 a4 a5 a6 a7 a8 a9 a10 a11 a12 a13 a14 hN h (f := f) (v := 0) (z := 0) (x := -1) 0 hf (Or.inl ⟨rfl, rfl⟩)
        have hvq : v ≠ q := nt_nus (h.2.2.1.1 g hg) (hq.2.2.2.1 g hg) (by omega) ex
        obtain ⟨u, hu, hp2⟩ := nt_c76 a1 a2 a3 a4 a5 a6 a7 a8 a9 a10 a11 a12 a13 a14 hN h hf hv hvq hz h4 hq t a1 (upd a3 q 0) a4' (upd a5 q (-1)) m ⟨ht, fun w hw => pk_un hw, k1, pk_un (fun e => hq.2.1 (by rw [e])), fun j hj => pk_un (hq.2.2.1 j hj), pk_us, fun j hj => absurd hj (by omega)⟩
        refine ⟨nI z, u, ⟨N, by omega, hu⟩, fun post hpost => ?_⟩
        unfold wpX_copy
        refine nt_bad (nI c) (nI K) (nI N) (nI s) a1 a2 a3 a4 a5 a6 a7 a8 a9 a10 a11 a12 a13 a14 hf _ ?_
        refine br_t rfl ?_
        refine nt_bad (nI c) (nI K) (nI N) (nI s) a1 a2 a3 a4 a5 a6 a7 a8 a9 a10 a11 a12 a13 a14 hg _ ?_
        refine br_t rfl ⟨pk_in f 6 hf, ?_⟩
        rw [ef, eg]
        refine br_f e ⟨pk_in g 6 hg, br_f e' ⟨pk_in g 6 hg, nm_r ex ⟨pk_in v 128 hv, ?_⟩⟩⟩
        rw [ev, h3]
        exact nm_e (pk_eq f g (fun t => absurd t hfg) (fun _ => hp _ (hp2 post hpost)))
theorem nt_fs53 (a1 a2 a3 a4 a5 a6 a7 a8 a9 a10 a11 a12 a13 a14 : Nat → Int32) {N c K s : Nat} {b : Nat → Nat} (hN : N < 1100) (h : nt_iv N c K s b a2 a3 a4 a5 a6 a7 a8 a9 a10 a11 a12) (hK20 : K < 20) {f v z : Nat} (hf : f < 6) (hv : v < 128) (ev : a11 f = nI v) :
    ∃ q t a4' m, (nt_iv N q (K + 1) t (fun j => if j ≤ K then b j else q) (upd a2 c (nI f)) (upd a3 c (a3 v)) a4' (upd (upd a5 q (-1)) c (nI N)) (upd a6 c (nI q)) a7 a8 a9 a10 (upd a11 f (nI c)) (upd a12 f (nI c)) ∧ ∀ i, i < 4 → a4' (c * 4 + i) = a4 (v * 4 + i)) ∧
      ∀ post : Int32 → St1 → Prop, post 0 (nI q, nI (K + 1), nI N, nI t, a1, upd a2 c (nI f), upd a3 c (a3 v), a4', upd (upd a5 q (-1)) c (nI N), upd a6 c (nI q), a7, a8, a9, a10, upd a11 f (nI c), upd a12 f (nI c), a13, m) → wX_fsync_53 post (nI f) (nI v) (nI c) (nI K) (nI N) (nI s) a1 a2 a3 a4 a5 a6 a7 a8 a9 a10 a11 a12 a13 a14 := by
  have hc : c < 128 := h.1.2.1
  have hs : s < 16 := h.1.2.2.2
  have hvc : v ≠ c := fun e => h.2.2.2.1.1 f hf (by rw [ev, e])
  have ec : (nI c).toNatClampNeg = c := nI_clamp (by omega)
  have ef : (nI f).toNatClampNeg = f := nI_clamp (by omega)
  obtain ⟨a4', hI, hp⟩ := nt_loop (fun (post : Int32 → St1 → Prop) n i (s' : Nat → Int32) => wX_fsync_80 post (nI f) (nI v) (nI c) (nI c) (nI K) (nI N) (nI s) n (nI i) a1 (upd a2 c (nI f)) (upd a3 c (a3 v)) s' a5 a6 a7 a8 a9 a10 a11 a12 a13 a14)
    (fun post s' => ∀ n, wX_fsync_80 post (nI f) (nI v) (nI c) (nI c) (nI K) (nI N) (nI s) (n + 1) (nI 4) a1 (upd a2 c (nI f)) (upd a3 c (a3 v)) s' a5 a6 a7 a8 a9 a10 a11 a12 a13 a14)
    (fun i s' => (∀ w j, w ≠ c → j < 4 → s' (w * 4 + j) = a4 (w * 4 + j)) ∧ ∀ j, j < i → s' (c * 4 + j) = a4 (v * 4 + j)) 4
    (fun s' hI p n hp => hp n)
    (by
      intro i s' hi hI
      refine ⟨upd s' (c * 4 + i) (a4 (v * 4 + i)), ⟨fun w j hw hj => ?_, fun j hj => ?_⟩, fun p n hp => ?_⟩
      · rw [pk_un (by omega)]
        exact hI.1 w j hw hj
      · by_cases e : j = i
        · rw [e, pk_us]
        · rw [pk_un (by omega)]
          exact hI.2 j (by omega)
      · refine pk_le 4 i (fun t => absurd t (by omega)) (fun _ => ⟨pk_in (v * 4 + i) 512 (by omega) (nt_m4 v i), pk_in (c * 4 + i) 512 (by omega) (nt_m4 c i), ?_⟩)
        rw [nt_m4 v i, nt_m4 c i, nI_clamp (show v * 4 + i < 2 ^ 31 by omega), nI_clamp (show c * 4 + i < 2 ^ 31 by omega), hI.1 v i hvc hi]
        exact nm_e (nm_r (nI_1 i) hp))
    4 0 a4 (by omega) ⟨fun _ _ _ _ => rfl, fun j hj => absurd hj (by omega)⟩
  have sp := nt_fs_sp h (show N < 2 ^ 31 by omega) hf hv ev hI.1 hI.2
  obtain ⟨q, t, m, ⟨hq, ht⟩, hp2⟩ := nt_fresh (nI c) a1 (upd a2 c (nI f)) (upd a3 c (a3 v)) a4' a5 a6 a7 a8 a9 a10 (upd a11 f (nI c)) (upd a12 f (nI c)) a13 a14 sp hs
  refine ⟨q, t, a4', m, ⟨nt_iv_fs h (by omega) hK20 hf hv ev hI.1 hI.2 hq ht, hI.2⟩, fun post hpost => ?_⟩
  refine And.intro (pk_in c 128 hc) (nm_r (by rw [ec]) (And.intro (pk_in v 128 hv) (And.intro (pk_in c 128 hc) (nm_r (by rw [ec, nI_clamp (show v < 2 ^ 31 by omega)]) (hp post (fun n => ?_))))))
  refine pk_le 4 4 (fun _ => ⟨pk_in f 6 hf, nm_r (by rw [ef]) ⟨pk_in f 6 hf, nm_r (by rw [ef]) (hp2 _ ?_)⟩⟩) (fun t => absurd t (by omega))
  exact ⟨pk_in c 128 hc, nm_r (by rw [ec]) ⟨pk_in c 128 hc, nm_r (by rw [ec]) (nm_r (nI_1 K) hpost)⟩⟩
theorem nt_fsync (a1 a2 a3 a4 a5 a6 a7 a8 a9 a10 a11 a12 a13 a14 : Nat → Int32) {N c K s : Nat} {b : Nat → Nat} (hN : N < 1000) (h : nt_iv N c K s b a2 a3 a4 a5 a6 a7 a8 a9 a10 a11 a12) {f : Nat} (hf : f < 6) :
    ∃ (r : Int32) (N' c' K' s' : Nat) (b' : Nat → Nat) (a2' a3' a4' a5' a6' a7' a8' a9' a10' a11' a12' a13' a14' : Nat → Int32), N' ≤ N + 1 ∧ nt_iv N' c' K' s' b' a2' a3' a4' a5' a6' a7' a8' a9' a10' a11' a12' ∧
      ((r = -3 ∧ a11 f = -1 ∧ a3' = a3 ∧ a4' = a4 ∧ a12' = a12) ∨ (r = 1 ∧ a11 f ≠ -1 ∧ a3' = a3 ∧ a4' = a4 ∧ ∀ g, g < 6 → a12' g = a11 g) ∨ (r = 0 ∧ a11 f ≠ -1 ∧ ∀ i, i < 6 → nt_v a1 a3' a4' (a12' f) i = nt_v a1 a3 a4 (a11 f) i)) ∧
      ∀ post : Int32 → St1 → Prop, post r (nI c', nI K', nI N', nI s', a1, a2', a3', a4', a5', a6', a7', a8', a9', a10', a11', a12', a13', a14') → wpX_fsync post (nI c, nI K, nI N, nI s, a1, a2, a3, a4, a5, a6, a7, a8, a9, a10, a11, a12, a13, a14) (nI f) := by
  have ef : (nI f).toNatClampNeg = f := nI_clamp (by omega)
  by_cases e : a11 f = -1
  · refine ⟨-3, N, c, K, s, b, a2, a3, a4, a5, a6, a7, a8, a9, a10, a11, a12, a13, a14, by omega, h, Or.inl ⟨rfl, e, rfl, rfl, rfl⟩, fun post hpost => ?_⟩
    unfold wpX_fsync
    refine nt_bad (nI c) (nI K) (nI N) (nI s) a1 a2 a3 a4 a5 a6 a7 a8 a9 a10 a11 a12 a13 a14 hf _ ?_
    refine br_t rfl ⟨pk_in f 6 hf, ?_⟩
    rw [ef]
    exact nm_e (br_t e hpost)
  · obtain ⟨v, z, hv, hz, ex, h3, h4⟩ := nt_node (h.2.2.1.1 f hf) e
    by_cases hy : a13 f = 0
    · by_cases hK : K = 20
      · obtain ⟨c1, t1, d5, d7, d8, d9, d10, m1, iv1, hp1⟩ := nt_writePack (nI c) (nI K) a1 a2 a3 a4 a5 a6 a7 a8 a9 a10 a11 a12 a13 a14 hN h.1.2.2.2 h.2.2.1.1 h.2.2.1.2.1 h.2.1.1 h.2.1.2.1
        obtain ⟨q, t, a4', m, ⟨iv2, k4⟩, hp2⟩ := nt_fs53 a1 a2 a3 a4 d5 a6 d7 d8 d9 d10 a11 a12 a13 m1 (show N + 1 < 1100 by omega) iv1 (by omega) (z := z) hf hv ex
        refine ⟨0, N + 1, q, 0 + 1, t, _, _, _, _, _, _, _, _, _, _, _, _, a13, m, by omega, iv2, Or.inr (Or.inr ⟨rfl, e, ?_⟩), fun post hpost => ?_⟩
        · rw [pk_us, ex]
          exact nt_fs_v iv1.1.2.1 hv hz h3 k4
        · unfold wpX_fsync
          refine nt_bad (nI c) (nI K) (nI N) (nI s) a1 a2 a3 a4 a5 a6 a7 a8 a9 a10 a11 a12 a13 a14 hf _ ?_
          refine br_t rfl ⟨pk_in f 6 hf, ?_⟩
          rw [ef, ex]
          exact nm_e (br_f (nt_ne1 (by omega)) ⟨pk_in f 6 hf, br_t hy (pk_eq K 20 (fun _ => hp1 _ (hp2 post hpost)) (fun t => absurd hK t))⟩)
      · have hK' : K < 20 := by have := h.1.2.2.1; omega
        obtain ⟨q, t, a4', m, ⟨iv2, k4⟩, hp2⟩ := nt_fs53 a1 a2 a3 a4 a5 a6 a7 a8 a9 a10 a11 a12 a13 a14 (show N < 1100 by omega) h hK' (z := z) hf hv ex
        refine ⟨0, N, q, K + 1, t, _, _, _, _, _, _, _, _, _, _, _, _, a13, m, by omega, iv2, Or.inr (Or.inr ⟨rfl, e, ?_⟩), fun post hpost => ?_⟩
        · rw [pk_us, ex]
          exact nt_fs_v h.1.2.1 hv hz h3 k4
        · unfold wpX_fsync
          refine nt_bad (nI c) (nI K) (nI N) (nI s) a1 a2 a3 a4 a5 a6 a7 a8 a9 a10 a11 a12 a13 a14 hf _ ?_
          refine br_t rfl ⟨pk_in f 6 hf, ?_⟩
          rw [ef, ex]
          exact nm_e (br_f (nt_ne1 (by omega)) ⟨pk_in f 6 hf, br_t hy (pk_eq K 20 (fun t => absurd t hK) (fun _ => hp2 post hpost))⟩)
    · obtain ⟨c1, t1, d5, d7, d8, d9, d10, d12, d13, m1, hh, iv1, hp1⟩ := nt_checkpoint (nI c) (nI K) a1 a2 a3 a4 a5 a6 a7 a8 a9 a10 a11 a12 a13 a14 hN h.1.2.2.2 h.2.2.1.1 h.2.1.1 h.2.1.2.1
      refine ⟨1, N + 1, c1, 0, t1, _, _, _, _, _, _, _, _, _, _, _, _, d13, m1, by omega, iv1, Or.inr (Or.inl ⟨rfl, e, rfl, rfl, hh⟩), fun post hpost => ?_⟩
      unfold wpX_fsync
      refine nt_bad (nI c) (nI K) (nI N) (nI s) a1 a2 a3 a4 a5 a6 a7 a8 a9 a10 a11 a12 a13 a14 hf _ ?_
      refine br_t rfl ⟨pk_in f 6 hf, ?_⟩
      rw [ef]
      exact nm_e (br_f e ⟨pk_in f 6 hf, br_f hy (hp1 _ hpost)⟩)
end
section
/-! looking -/
theorem nt_exists (ch cd nu sg : Int32) (a1 a2 a3 a4 a5 a6 a7 a8 a9 a10 a11 a12 a13 a14 : Nat → Int32) {f : Nat} (hf : f < 6) (post : Int32 → Prop) (h : post (nt_v a1 a3 a4 (a11 f) 0)) : wpX_exists post (ch, cd, nu, sg, a1, a2, a3, a4, a5, a6, a7, a8, a9, a10, a11, a12, a13, a14) (nI f) := by
  unfold wpX_exists
  refine nt_bad ch cd nu sg a1 a2 a3 a4 a5 a6 a7 a8 a9 a10 a11 a12 a13 a14 hf _ ?_
  refine br_t rfl ⟨pk_in f 6 hf, ?_⟩
  rw [nI_clamp (show f < 2 ^ 31 by omega)]
  have h' : post (if a11 f = -1 then 0 else 1) := h
  refine br_c (fun e => ?_) (fun e => ?_)
  · rw [if_pos e] at h'
    exact h'
  · rw [if_neg e] at h'
    exact h'
theorem nt_size (ch cd nu sg : Int32) (a1 a2 a3 a4 a5 a6 a7 a8 a9 a10 a11 a12 a13 a14 : Nat → Int32) {f : Nat} (hf : f < 6) (hx : nt_nd a3 a4 (a11 f)) (post : Int32 → Prop) (h : post (nt_v a1 a3 a4 (a11 f) 1)) : wpX_size post (ch, cd, nu, sg, a1, a2, a3, a4, a5, a6, a7, a8, a9, a10, a11, a12, a13, a14) (nI f) := by
  unfold wpX_size
  refine nt_bad ch cd nu sg a1 a2 a3 a4 a5 a6 a7 a8 a9 a10 a11 a12 a13 a14 hf _ ?_
  refine br_t rfl ⟨pk_in f 6 hf, ?_⟩
  rw [nI_clamp (show f < 2 ^ 31 by omega)]
  have h' : post (if a11 f = -1 then -3 else a3 (a11 f).toNatClampNeg) := h
  refine br_c (fun e => ?_) (fun e => ⟨pk_in f 6 hf, ?_, ?_⟩)
  · rw [if_pos e] at h'
    exact h'
  · obtain ⟨v, z, hv, _, ex, _⟩ := nt_node hx e
    exact pk_in v 128 hv ex
  · rw [if_neg e] at h'
    exact h'
theorem nt_read (ch cd nu sg : Int32) (a1 a2 a3 a4 a5 a6 a7 a8 a9 a10 a11 a12 a13 a14 : Nat → Int32) {f i : Nat} (hf : f < 6) (hi : i < 4) (hx : nt_nd a3 a4 (a11 f)) (post : Int32 → Prop) (h : post (nt_v a1 a3 a4 (a11 f) (i + 2))) : wpX_read post (ch, cd, nu, sg, a1, a2, a3, a4, a5, a6, a7, a8, a9, a10, a11, a12, a13, a14) (nI f) (nI i) := by
  unfold wpX_read
  refine nt_bad ch cd nu sg a1 a2 a3 a4 a5 a6 a7 a8 a9 a10 a11 a12 a13 a14 hf _ ?_
  refine br_t rfl ⟨pk_in f 6 hf, ?_⟩
  rw [nI_clamp (show f < 2 ^ 31 by omega)]
  have h' : post (if a11 f = -1 then 0 else if nI i < a3 (a11 f).toNatClampNeg then a1 (a4 ((a11 f).toNatClampNeg * 4 + i)).toNatClampNeg else 0) := h
  refine br_c (fun e => ?_) (fun e => br_f (nI_pos (by omega)) ⟨pk_in f 6 hf, ?_⟩)
  · rw [if_pos e] at h'
    exact h'
  · obtain ⟨v, z, hv, hz, ex, h3, h4⟩ := nt_node hx e
    have ev : (nI v).toNatClampNeg = v := nI_clamp (by omega)
    rw [if_neg e, ex, ev, h3] at h'
    rw [ex, ev, h3]
    refine ⟨pk_in v 128 hv, pk_lt i z (fun t => ?_) (fun t => ?_)⟩
    · obtain ⟨w, hw, ew⟩ := h4 i t
      rw [if_pos (nI_lt t (by omega))] at h'
      rw [nt_m4, nI_clamp (show v * 4 + i < 2 ^ 31 by omega)]
      exact ⟨pk_in f 6 hf, pk_in (v * 4 + i) 512 (by omega), pk_in w 128 hw ew, h'⟩
    · rw [if_neg (nI_nlt t (by omega))] at h'
      exact h'
theorem nt_fd (a b : Nat → Int32) (m : Nat) : ∃ d, d ≤ m ∧ (∀ j, j < d → a j = b j) ∧ (d < m → ¬ a d = b d) := by
  induction m with
  | zero => exact ⟨0, Nat.le_refl 0, fun j h => absurd h (by omega), fun h => absurd h (by omega)⟩
  | succ m ih =>
    obtain ⟨d, h1, h2, h3⟩ := ih
    by_cases hd : d < m
    · exact ⟨d, by omega, h2, fun _ => h3 hd⟩
    · by_cases he : a d = b d
      · refine ⟨d + 1, by omega, fun j hj => ?_, fun h => absurd h (by omega)⟩
        by_cases e : j = d
        · rw [e, he]
        · exact h2 j (by omega)
      · exact ⟨d, by omega, h2, fun _ => he⟩
theorem nt_same (ch cd nu sg : Int32) (a1 a2 a3 a4 a5 a6 a7 a8 a9 a10 a11 a12 a13 a14 : Nat → Int32) (ch' cd' nu' sg' : Int32) (a1' a2' a3' a4' a5' a6' a7' a8' a9' a10' a11' a12' a13' a14' : Nat → Int32) {f : Nat} (hf : f < 6) (hx : nt_nd a3 a4 (a11 f)) (hy : nt_nd a3' a4' (a11' f)) :
    ∃ r : Int32, (r = 0 ∨ r = 1) ∧ (r = 1 ↔ ∀ i, i < 6 → nt_v a1 a3 a4 (a11 f) i = nt_v a1' a3' a4' (a11' f) i) ∧ ∀ post : Int32 → Prop, post r → wpL_same post (ch, cd, nu, sg, a1, a2, a3, a4, a5, a6, a7, a8, a9, a10, a11, a12, a13, a14, ch', cd', nu', sg', a1', a2', a3', a4', a5', a6', a7', a8', a9', a10', a11', a12', a13', a14') (nI f) := by
  have n01 : ¬ (0 : Int32) = 1 := by decide
  obtain ⟨d, h1, h2, h3⟩ := nt_fd (fun j => nt_v a1 a3 a4 (a11 f) (j + 2)) (fun j => nt_v a1' a3' a4' (a11' f) (j + 2)) 4
  have lp : ∀ post : Int32 → Prop, (∀ n, wL_same_2 post (nI f) ch cd nu sg a1 a2 a3 a4 a5 a6 a7 a8 a9 a10 a11 a12 a13 a14 ch' cd' nu' sg' a1' a2' a3' a4' a5' a6' a7' a8' a9' a10' a11' a12' a13' a14' (n + 1) (nI d)) → wpL_same post (ch, cd, nu, sg, a1, a2, a3, a4, a5, a6, a7, a8, a9, a10, a11, a12, a13, a14, ch', cd', nu', sg', a1', a2', a3', a4', a5', a6', a7', a8', a9', a10', a11', a12', a13', a14') (nI f) := by
    intro post hp
    exact pk_loop (σ := Unit) (fun n i _ => wL_same_2 post (nI f) ch cd nu sg a1 a2 a3 a4 a5 a6 a7 a8 a9 a10 a11 a12 a13 a14 ch' cd' nu' sg' a1' a2' a3' a4' a5' a6' a7' a8' a9' a10' a11' a12' a13' a14' n (nI i)) (fun _ _ => True) d 0 () (by omega) trivial (fun n _ _ => hp n)
      (fun n i _ hi _ hw => pk_le 4 i (fun t => absurd t (by omega)) (fun _ => nt_read ch cd nu sg a1 a2 a3 a4 a5 a6 a7 a8 a9 a10 a11 a12 a13 a14 hf (by omega) hx _ (nt_read ch' cd' nu' sg' a1' a2' a3' a4' a5' a6' a7' a8' a9' a10' a11' a12' a13' a14' hf (by omega) hy _ (br_t (h2 i hi) (nm_r (nI_1 i) (hw () trivial))))))
  by_cases hd : d = 4
  · subst hd
    by_cases e0 : nt_v a1 a3 a4 (a11 f) 0 = nt_v a1' a3' a4' (a11' f) 0
    · by_cases e1 : nt_v a1 a3 a4 (a11 f) 1 = nt_v a1' a3' a4' (a11' f) 1
      · refine ⟨1, Or.inr rfl, ⟨fun _ i hi => ?_, fun _ => rfl⟩, fun post h => lp post (fun n => ?_)⟩
        · match i, hi with
          | 0, _ => exact e0
          | 1, _ => exact e1
          | i + 2, hi => exact h2 i (by omega)
        · exact pk_le 4 4 (fun _ => nt_exists ch cd nu sg a1 a2 a3 a4 a5 a6 a7 a8 a9 a10 a11 a12 a13 a14 hf _ (nt_exists ch' cd' nu' sg' a1' a2' a3' a4' a5' a6' a7' a8' a9' a10' a11' a12' a13' a14' hf _ (br_t e0 (nt_size ch cd nu sg a1 a2 a3 a4 a5 a6 a7 a8 a9 a10 a11 a12 a13 a14 hf hx _ (nt_size ch' cd' nu' sg' a1' a2' a3' a4' a5' a6' a7' a8' a9' a10' a11' a12' a13' a14' hf hy _ (br_t e1 h)))))) (fun t => absurd t (by omega))
      · refine ⟨0, Or.inl rfl, ⟨fun t => absurd t n01, fun t => absurd (t 1 (by omega)) e1⟩, fun post h => lp post (fun n => ?_)⟩
        exact pk_le 4 4 (fun _ => nt_exists ch cd nu sg a1 a2 a3 a4 a5 a6 a7 a8 a9 a10 a11 a12 a13 a14 hf _ (nt_exists ch' cd' nu' sg' a1' a2' a3' a4' a5' a6' a7' a8' a9' a10' a11' a12' a13' a14' hf _ (br_t e0 (nt_size ch cd nu sg a1 a2 a3 a4 a5 a6 a7 a8 a9 a10 a11 a12 a13 a14 hf hx _ (nt_size ch' cd' nu' sg' a1' a2' a3' a4' a5' a6' a7' a8' a9' a10' a11' a12' a13' a14' hf hy _ (br_f e1 h)))))) (fun t => absurd t (by omega))
    · refine ⟨0, Or.inl rfl, ⟨fun t => absurd t n01, fun t => absurd (t 0 (by omega)) e0⟩, fun post h => lp post (fun n => ?_)⟩
      exact pk_le 4 4 (fun _ => nt_exists ch cd nu sg a1 a2 a3 a4 a5 a6 a7 a8 a9 a10 a11 a12 a13 a14 hf _ (nt_exists ch' cd' nu' sg' a1' a2' a3' a4' a5' a6' a7' a8' a9' a10' a11' a12' a13' a14' hf _ (br_f e0 h))) (fun t => absurd t (by omega))
  · have hd4 : d < 4 := by omega
    have h3' : ¬ nt_v a1 a3 a4 (a11 f) (d + 2) = nt_v a1' a3' a4' (a11' f) (d + 2) := h3 hd4
    refine ⟨0, Or.inl rfl, ⟨fun t => absurd t n01, fun t => absurd (t (d + 2) (by omega)) h3'⟩, fun post h => lp post (fun n => ?_)⟩
    exact pk_le 4 d (fun t => absurd t (by omega)) (fun _ => nt_read ch cd nu sg a1 a2 a3 a4 a5 a6 a7 a8 a9 a10 a11 a12 a13 a14 hf hd4 hx _ (nt_read ch' cd' nu' sg' a1' a2' a3' a4' a5' a6' a7' a8' a9' a10' a11' a12' a13' a14' hf hd4 hy _ (br_f h3' h)))
theorem nt_differs (ch cd nu sg : Int32) (a1 a2 a3 a4 a5 a6 a7 a8 a9 a10 a11 a12 a13 a14 : Nat → Int32) {x y : Int32} (hx : nt_nd a3 a4 x) (hy : nt_nd a3 a4 y) :
    ∃ r : Int32, (r = 0 ↔ ∀ i, i < 6 → nt_v a1 a3 a4 x i = nt_v a1 a3 a4 y i) ∧ ∀ post : Int32 → Prop, post r → wpX_differs post (ch, cd, nu, sg, a1, a2, a3, a4, a5, a6, a7, a8, a9, a10, a11, a12, a13, a14) x y := by
  have n01 : ¬ (0 : Int32) = 1 := by decide
  have n10 : ¬ (1 : Int32) = 0 := by decide
  have v0 : ∀ x, nt_v a1 a3 a4 x 0 = (if x = -1 then 0 else 1) := fun _ => rfl
  have v1 : ∀ x, nt_v a1 a3 a4 x 1 = (if x = -1 then -3 else a3 x.toNatClampNeg) := fun _ => rfl
  have v2 : ∀ x i, nt_v a1 a3 a4 x (i + 2) = (if x = -1 then 0 else if nI i < a3 x.toNatClampNeg then a1 (a4 (x.toNatClampNeg * 4 + i)).toNatClampNeg else 0) := fun _ _ => rfl
  by_cases ex : x = -1
  · by_cases ey : y = -1
    · refine ⟨0, ⟨fun _ i _ => by rw [ex, ey], fun _ => rfl⟩, fun post h => br_t ex (br_t (by rw [ex, ey]) h)⟩
    · refine ⟨1, ⟨fun t => absurd t n10, fun t => ?_⟩, fun post h => br_t ex (br_f (fun t => ey (by rw [← t, ex])) h)⟩
      have := t 0 (by omega)
      rw [v0, v0, if_pos ex, if_neg ey] at this
      exact absurd this n01
  · by_cases ey : y = -1
    · refine ⟨1, ⟨fun t => absurd t n10, fun t => ?_⟩, fun post h => br_f ex (br_t ey (br_f (fun t => ex (by rw [t, ey])) h))⟩
      have := t 0 (by omega)
      rw [v0, v0, if_neg ex, if_pos ey] at this
      exact absurd this n10
    · obtain ⟨v, z, hv, hz, evx, h3, h4⟩ := nt_node hx ex
      obtain ⟨w, z', hw, hz', ewy, h3', h4'⟩ := nt_node hy ey
      have ev : (nI v).toNatClampNeg = v := nI_clamp (by omega)
      have ew : (nI w).toNatClampNeg = w := nI_clamp (by omega)
      subst evx
      subst ewy
      by_cases hzz : z = z'
      · subst hzz
        obtain ⟨d, h1, h2, hd⟩ := nt_fd (fun j => a1 (a4 (v * 4 + j)).toNatClampNeg) (fun j => a1 (a4 (w * 4 + j)).toNatClampNeg) z
        have lp : ∀ post : Int32 → Prop, (∀ n, wX_differs_40 post (nI v) (nI w) ch cd nu sg a1 a2 a3 a4 a5 a6 a7 a8 a9 a10 a11 a12 a13 a14 (n + 1) (nI d)) → wpX_differs post (ch, cd, nu, sg, a1, a2, a3, a4, a5, a6, a7, a8, a9, a10, a11, a12, a13, a14) (nI v) (nI w) := by
          intro post hp
          refine br_f ex (br_f ey ⟨pk_in v 128 hv, pk_in w 128 hw, br_t (by rw [ev, ew, h3, h3']) ?_⟩)
          refine pk_loop (σ := Unit) (fun n i _ => wX_differs_40 post (nI v) (nI w) ch cd nu sg a1 a2 a3 a4 a5 a6 a7 a8 a9 a10 a11 a12 a13 a14 n (nI i)) (fun _ _ => True) d 0 () (by omega) trivial (fun n _ _ => hp n) ?_
          intro n i _ hi _ hw'
          obtain ⟨p, hp1, ep⟩ := h4 i (by omega)
          obtain ⟨p', hp1', ep'⟩ := h4' i (by omega)
          refine ⟨pk_in v 128 hv, ?_⟩
          rw [ev, h3, nt_m4, nt_m4, nI_clamp (show v * 4 + i < 2 ^ 31 by omega), nI_clamp (show w * 4 + i < 2 ^ 31 by omega)]
          exact pk_le z i (fun t => absurd t (by omega)) (fun _ => ⟨pk_in (v * 4 + i) 512 (by omega), pk_in p 128 hp1 ep, pk_in (w * 4 + i) 512 (by omega), pk_in p' 128 hp1' ep', br_t (h2 i hi) (nm_r (nI_1 i) (hw' () trivial))⟩)
        by_cases hdz : d = z
        · subst hdz
          refine ⟨0, ⟨fun _ i hi => ?_, fun _ => rfl⟩, fun post h => lp post (fun n => ⟨pk_in v 128 hv, ?_⟩)⟩
          · match i, hi with
            | 0, _ => rw [v0, v0, if_neg ex, if_neg ey]
            | 1, _ => rw [v1, v1, if_neg ex, if_neg ey, ev, ew, h3, h3']
            | i + 2, hi =>
              rw [v2, v2, if_neg ex, if_neg ey, ev, ew, h3, h3']
              by_cases hiz : i < d
              · rw [if_pos (nI_lt hiz (by omega)), if_pos (nI_lt hiz (by omega))]
                exact h2 i hiz
              · rw [if_neg (nI_nlt (by omega) (by omega)), if_neg (nI_nlt (by omega) (by omega))]
          · rw [ev, h3]
            exact pk_le d d (fun _ => h) (fun t => absurd t (by omega))
        · have hdz' : d < z := by omega
          have hd' : ¬ a1 (a4 (v * 4 + d)).toNatClampNeg = a1 (a4 (w * 4 + d)).toNatClampNeg := hd hdz'
          refine ⟨1, ⟨fun t => absurd t n10, fun t => ?_⟩, fun post h => lp post (fun n => ⟨pk_in v 128 hv, ?_⟩)⟩
          · have := t (d + 2) (by omega)
            rw [v2, v2, if_neg ex, if_neg ey, ev, ew, h3, h3', if_pos (nI_lt hdz' (by omega)), if_pos (nI_lt hdz' (by omega))] at this
            exact absurd this hd'
          · obtain ⟨p, hp1, ep⟩ := h4 d hdz'
            obtain ⟨p', hp1', ep'⟩ := h4' d hdz'
            rw [ev, h3, nt_m4, nt_m4, nI_clamp (show v * 4 + d < 2 ^ 31 by omega), nI_clamp (show w * 4 + d < 2 ^ 31 by omega)]
            exact pk_le z d (fun t => absurd t (by omega)) (fun _ => ⟨pk_in (v * 4 + d) 512 (by omega), pk_in p 128 hp1 ep, pk_in (w * 4 + d) 512 (by omega), pk_in p' 128 hp1' ep', br_f hd' h⟩)
      · have hne : ¬ nI z = nI z' := fun t => hzz (nt_inj t (by omega) (by omega))
        refine ⟨1, ⟨fun t => absurd t n10, fun t => ?_⟩, fun post h => br_f ex (br_f ey ⟨pk_in v 128 hv, pk_in w 128 hw, br_f (by rw [ev, ew, h3, h3']; exact hne) h⟩)⟩
        have := t 1 (by omega)
        rw [v1, v1, if_neg ex, if_neg ey, ev, ew, h3, h3'] at this
        exact absurd this hne
theorem nt_k0 {k : Nat} (hk : k ≤ 6) : nI k = 0 ↔ k = 0 := by
  constructor
  · intro e
    exact nt_inj (b := 0) e (by omega) (by omega)
  · intro e
    rw [e, nI_0]
theorem nt_uns (ch cd nu sg : Int32) (a1 a2 a3 a4 a5 a6 a7 a8 a9 a10 a11 a12 a13 a14 : Nat → Int32) (n1 : ∀ f, f < 6 → nt_nd a3 a4 (a11 f)) (n2 : ∀ f, f < 6 → nt_nd a3 a4 (a12 f)) :
    ∃ r : Int32, (r = 0 ↔ ∀ f, f < 6 → ∀ i, i < 6 → nt_v a1 a3 a4 (a11 f) i = nt_v a1 a3 a4 (a12 f) i) ∧ ∀ post : Int32 → Prop, post r → wpX_unsafe post (ch, cd, nu, sg, a1, a2, a3, a4, a5, a6, a7, a8, a9, a10, a11, a12, a13, a14) := by
  obtain ⟨k, hI, hp⟩ := nt_loop (fun (post : Int32 → Prop) n i (k : Nat) => wX_unsafe_4 post ch cd nu sg a1 a2 a3 a4 a5 a6 a7 a8 a9 a10 a11 a12 a13 a14 n (nI k) (nI i)) (fun post k => post (nI k))
    (fun i k => k ≤ i ∧ (k = 0 ↔ ∀ f, f < i → ∀ i, i < 6 → nt_v a1 a3 a4 (a11 f) i = nt_v a1 a3 a4 (a12 f) i)) 6
    (fun k hI p n hp => pk_le 6 6 (fun _ => hp) (fun t => absurd t (by omega)))
    (by
      intro i k hi hI
      obtain ⟨r, hr, hp⟩ := nt_differs ch cd nu sg a1 a2 a3 a4 a5 a6 a7 a8 a9 a10 a11 a12 a13 a14 (n1 i hi) (n2 i hi)
      have ei : (nI i).toNatClampNeg = i := nI_clamp (by omega)
      by_cases e : r = 0
      · refine ⟨k, ⟨by omega, ⟨fun t f hf => ?_, fun t => hI.2.mpr (fun f hf => t f (by omega))⟩⟩, fun p n hw => ?_⟩
        · by_cases ef : f = i
          · rw [ef]
            exact hr.mp e
          · exact hI.2.mp t f (by omega)
        · refine pk_le 6 i (fun t => absurd t (by omega)) (fun _ => ⟨pk_in i 6 hi, pk_in i 6 hi, ?_⟩)
          rw [ei]
          exact hp _ (br_t e (nm_r (nI_1 i) hw))
      · refine ⟨k + 1, ⟨by omega, ⟨fun t => absurd t (by omega), fun t => absurd (hr.mpr (t i (by omega))) e⟩⟩, fun p n hw => ?_⟩
        refine pk_le 6 i (fun t => absurd t (by omega)) (fun _ => ⟨pk_in i 6 hi, pk_in i 6 hi, ?_⟩)
        rw [ei]
        exact hp _ (br_f e (nm_r (nI_1 k) (nm_r (nI_1 i) hw))))
    6 0 0 (by omega) ⟨by omega, ⟨fun _ f hf => absurd hf (by omega), fun _ => rfl⟩⟩
  exact ⟨nI k, (nt_k0 hI.1).trans hI.2, hp⟩
theorem nt_differing (ch cd nu sg : Int32) (a1 a2 a3 a4 a5 a6 a7 a8 a9 a10 a11 a12 a13 a14 : Nat → Int32) (ch' cd' nu' sg' : Int32) (a1' a2' a3' a4' a5' a6' a7' a8' a9' a10' a11' a12' a13' a14' : Nat → Int32) (n1 : ∀ f, f < 6 → nt_nd a3 a4 (a11 f)) (n2 : ∀ f, f < 6 → nt_nd a3' a4' (a11' f)) :
    ∃ r : Int32, (r = 0 ↔ ∀ f, f < 6 → ∀ i, i < 6 → nt_v a1 a3 a4 (a11 f) i = nt_v a1' a3' a4' (a11' f) i) ∧ ∀ post : Int32 → Prop, post r → wpL_differing post (ch, cd, nu, sg, a1, a2, a3, a4, a5, a6, a7, a8, a9, a10, a11, a12, a13, a14, ch', cd', nu', sg', a1', a2', a3', a4', a5', a6', a7', a8', a9', a10', a11', a12', a13', a14') := by
  obtain ⟨k, hI, hp⟩ := nt_loop (fun (post : Int32 → Prop) n i (k : Nat) => wL_differing_4 post ch cd nu sg a1 a2 a3 a4 a5 a6 a7 a8 a9 a10 a11 a12 a13 a14 ch' cd' nu' sg' a1' a2' a3' a4' a5' a6' a7' a8' a9' a10' a11' a12' a13' a14' n (nI k) (nI i)) (fun post k => post (nI k))
    (fun i k => k ≤ i ∧ (k = 0 ↔ ∀ f, f < i → ∀ i, i < 6 → nt_v a1 a3 a4 (a11 f) i = nt_v a1' a3' a4' (a11' f) i)) 6
    (fun k hI p n hp => pk_le 6 6 (fun _ => hp) (fun t => absurd t (by omega)))
    (by
      intro i k hi hI
      obtain ⟨r, h01, hr, hp⟩ := nt_same ch cd nu sg a1 a2 a3 a4 a5 a6 a7 a8 a9 a10 a11 a12 a13 a14 ch' cd' nu' sg' a1' a2' a3' a4' a5' a6' a7' a8' a9' a10' a11' a12' a13' a14' hi (n1 i hi) (n2 i hi)
      by_cases e : r = 0
      · refine ⟨k + 1, ⟨by omega, ⟨fun t => absurd t (by omega), fun t => ?_⟩⟩, fun p n hw => ?_⟩
        · have := hr.mpr (t i (by omega))
          rw [e] at this
          exact absurd this (by decide)
        · refine pk_le 6 i (fun t => absurd t (by omega)) (fun _ => ?_)
          exact hp _ (br_t e (nm_r (nI_1 k) (nm_r (nI_1 i) hw)))
      · have e1 : r = 1 := by
          rcases h01 with t | t
          · exact absurd t e
          · exact t
        refine ⟨k, ⟨by omega, ⟨fun t f hf => ?_, fun t => hI.2.mpr (fun f hf => t f (by omega))⟩⟩, fun p n hw => ?_⟩
        · by_cases ef : f = i
          · rw [ef]
            exact hr.mp e1
          · exact hI.2.mp t f (by omega)
        · refine pk_le 6 i (fun t => absurd t (by omega)) (fun _ => ?_)
          exact hp _ (br_f e (nm_r (nI_1 i) hw)))
    6 0 0 (by omega) ⟨by omega, ⟨fun _ f hf => absurd hf (by omega), fun _ => rfl⟩⟩
  exact ⟨nI k, (nt_k0 hI.1).trans hI.2, hp⟩
def nt_di (a1 a4 : Nat → Int32) (v f : Nat) (s : Int32) : Nat → Int32
  | 0 => s
  | i + 1 => nt_di a1 a4 v f s i + ((((8 * nI f) + nI i) + 1) * (a1 (a4 (v * 4 + i)).toNatClampNeg))
def nt_dg (a1 a3 a4 a11 : Nat → Int32) : Nat → Int32
  | 0 => 0
  | f + 1 => if a11 f = -1 then nt_dg a1 a3 a4 a11 f else nt_di a1 a4 (a11 f).toNatClampNeg f (nt_dg a1 a3 a4 a11 f + ((1000 * (nI f + 1)) * ((a3 (a11 f).toNatClampNeg) + 1))) (a3 (a11 f).toNatClampNeg).toNatClampNeg
theorem nt_dg_c {a1 a3 a4 a11 a11' : Nat → Int32} (n : Nat) : (∀ f, f < n → a11 f = a11' f) → nt_dg a1 a3 a4 a11 n = nt_dg a1 a3 a4 a11' n := by
  induction n with
  | zero => exact fun _ => rfl
  | succ n ih =>
    intro h
    show (if a11 n = -1 then nt_dg a1 a3 a4 a11 n else nt_di a1 a4 (a11 n).toNatClampNeg n (nt_dg a1 a3 a4 a11 n + ((1000 * (nI n + 1)) * ((a3 (a11 n).toNatClampNeg) + 1))) (a3 (a11 n).toNatClampNeg).toNatClampNeg) = (if a11' n = -1 then nt_dg a1 a3 a4 a11' n else nt_di a1 a4 (a11' n).toNatClampNeg n (nt_dg a1 a3 a4 a11' n + ((1000 * (nI n + 1)) * ((a3 (a11' n).toNatClampNeg) + 1))) (a3 (a11' n).toNatClampNeg).toNatClampNeg)
    rw [ih (fun f hf => h f (by omega)), h n (by omega)]
theorem nt_digest (ch cd nu sg : Int32) (a1 a2 a3 a4 a5 a6 a7 a8 a9 a10 a11 a12 a13 a14 : Nat → Int32) (n1 : ∀ f, f < 6 → nt_nd a3 a4 (a11 f)) (post : Int32 → Prop) (h : post (nt_dg a1 a3 a4 a11 6)) : wpX_digest post (ch, cd, nu, sg, a1, a2, a3, a4, a5, a6, a7, a8, a9, a10, a11, a12, a13, a14) := by
  refine pk_loop (σ := Unit) (fun n i _ => wX_digest_4 post ch cd nu sg a1 a2 a3 a4 a5 a6 a7 a8 a9 a10 a11 a12 a13 a14 n (nt_dg a1 a3 a4 a11 i) (nI i)) (fun _ _ => True) 6 0 () (by omega) trivial ?_ ?_
  · intro n _ _
    exact pk_le 6 6 (fun _ => h) (fun t => absurd t (by omega))
  · intro n i _ hi _ hw
    have hw' : wX_digest_4 post ch cd nu sg a1 a2 a3 a4 a5 a6 a7 a8 a9 a10 a11 a12 a13 a14 n (if a11 i = -1 then nt_dg a1 a3 a4 a11 i else nt_di a1 a4 (a11 i).toNatClampNeg i (nt_dg a1 a3 a4 a11 i + ((1000 * (nI i + 1)) * ((a3 (a11 i).toNatClampNeg) + 1))) (a3 (a11 i).toNatClampNeg).toNatClampNeg) (nI (i + 1)) := hw () trivial
    refine pk_le 6 i (fun t => absurd t (by omega)) (fun _ => ⟨pk_in i 6 hi, ?_⟩)
    rw [nI_clamp (show i < 2 ^ 31 by omega)]
    by_cases e : a11 i = -1
    · rw [if_pos e] at hw'
      exact nm_e (br_t e (nm_r (nI_1 i) hw'))
    · obtain ⟨v, z, hv, hz, ex, h3, h4⟩ := nt_node (n1 i hi) e
      have ev : (nI v).toNatClampNeg = v := nI_clamp (by omega)
      rw [if_neg e, ex, ev, h3, nI_clamp (show z < 2 ^ 31 by omega)] at hw'
      refine nm_r ex (br_f (nt_ne1 (by omega)) ⟨pk_in v 128 hv, ?_⟩)
      rw [ev, h3]
      refine nm_e ?_
      refine pk_loop (σ := Unit) (fun n' j _ => wX_digest_44 post (wX_digest_4 post ch cd nu sg a1 a2 a3 a4 a5 a6 a7 a8 a9 a10 a11 a12 a13 a14 n) (nI i) (nI v) ch cd nu sg a1 a2 a3 a4 a5 a6 a7 a8 a9 a10 a11 a12 a13 a14 n' (nt_di a1 a4 v i (nt_dg a1 a3 a4 a11 i + ((1000 * (nI i + 1)) * (nI z + 1))) j) (nI j)) (fun _ _ => True) z 0 () (by omega) trivial ?_ ?_
      · intro n' _ _
        refine ⟨pk_in v 128 hv, ?_⟩
        rw [ev, h3]
        exact pk_le z z (fun _ => nm_r (nI_1 i) hw') (fun t => absurd t (by omega))
      · intro n' j _ hj _ hw2
        obtain ⟨p, hp1, ep⟩ := h4 j hj
        refine ⟨pk_in v 128 hv, ?_⟩
        rw [ev, h3, nt_m4, nI_clamp (show v * 4 + j < 2 ^ 31 by omega)]
        exact pk_le z j (fun t => absurd t (by omega)) (fun _ => ⟨pk_in (v * 4 + j) 512 (by omega), pk_in p 128 hp1 ep, nm_r rfl (nm_r (nI_1 j) (hw2 () trivial))⟩)
end
section
/-! turn -/
def nt_Q (u : St1) : Prop := match u with
  | (ch, cd, nu, sg, a1, a2, a3, a4, a5, a6, a7, a8, a9, a10, a11, a12, a13, a14) => ∀ f, f < 6 → a11 f = a12 f
theorem nt_r6 (x : Int32) : ∃ f, f < 6 ∧ (x &&& 7) - (x &&& 7) / 6 * 6 = nI f := by
  obtain ⟨j, hj, e⟩ := pk_andE x 3 (m := 7) (by decide)
  rw [e]
  exact ⟨j % 6, Nat.mod_lt _ (by omega), pk_rem (a := j) (d := 6) (by omega) (by omega) (by omega)⟩
theorem nt_turn (a1 a2 a3 a4 a5 a6 a7 a8 a9 a10 a11 a12 a13 a14 : Nat → Int32) {N c K s : Nat} {b : Nat → Nat} (hN : N < 1000) (h : nt_iv N c K s b a2 a3 a4 a5 a6 a7 a8 a9 a10 a11 a12) (op x : Int32) :
    ∃ r u, (∃ N', N' ≤ N + 1 ∧ nt_J N' u) ∧ (¬ op &&& 15 ≤ 12 → nt_Q u) ∧ ∀ post : Int32 → St1 → Prop, post r u → wpL_turn post (nI c, nI K, nI N, nI s, a1, a2, a3, a4, a5, a6, a7, a8, a9, a10, a11, a12, a13, a14) op x := by
  obtain ⟨o, ho, eo⟩ := pk_andE op 4 (m := 15) (by decide)
  obtain ⟨f, hf, ef⟩ := nt_r6 x
  obtain ⟨g, hg, eg⟩ := nt_r6 (x >>> ((3 : Int32) &&& 31))
  obtain ⟨i, hi, ei⟩ := pk_andE (x >>> ((3 : Int32) &&& 31)) 2 (m := 3) (by decide)
  rcases (show o < 3 ∨ o = 3 ∨ (4 ≤ o ∧ o < 9) ∨ o = 9 ∨ o = 10 ∨ (11 ≤ o ∧ o < 13) ∨ o = 13 ∨ 14 ≤ o by omega) with q | q | q | q | q | q | q | q
  · obtain ⟨r, u, ⟨N', hN', hJ⟩, hp⟩ := nt_create a1 a2 a3 a4 a5 a6 a7 a8 a9 a10 a11 a12 a13 a14 hN h hf
    obtain ⟨c', K', s', b', a1', a2', a3', a4', a5', a6', a7', a8', a9', a10', a11', a12', a13', a14', rfl, hiv⟩ := hJ
    refine ⟨r, _, ⟨N', hN', c', K', s', b', a1', a2', a3', a4', a5', a6', a7', a8', a9', a10', a11', a12', a13', a14', rfl, hiv⟩, fun t => absurd (by rw [eo]; exact nI_le (b := 12) (by omega) (by omega)) t, fun post hpost => ?_⟩
    exact nm_r eo ⟨by decide, nm_r ef ⟨by decide, nm_r eg (nm_r ei (pk_le 3 o (fun t => absurd t (by omega)) (fun _ => hp _ hpost)))⟩⟩
  · obtain ⟨r, u, ⟨N', hN', hJ⟩, hp⟩ := nt_remove a1 a2 a3 a4 a5 a6 a7 a8 a9 a10 a11 a12 a13 a14 hN h hf
    obtain ⟨c', K', s', b', a1', a2', a3', a4', a5', a6', a7', a8', a9', a10', a11', a12', a13', a14', rfl, hiv⟩ := hJ
    refine ⟨r, _, ⟨N', hN', c', K', s', b', a1', a2', a3', a4', a5', a6', a7', a8', a9', a10', a11', a12', a13', a14', rfl, hiv⟩, fun t => absurd (by rw [eo]; exact nI_le (b := 12) (by omega) (by omega)) t, fun post hpost => ?_⟩
    exact nm_r eo ⟨by decide, nm_r ef ⟨by decide, nm_r eg (nm_r ei (pk_le 3 o (fun _ => pk_eq o 3 (fun _ => hp _ hpost) (fun t => absurd t (by omega))) (fun t => absurd t (by omega))))⟩⟩
  · obtain ⟨r, u, ⟨N', hN', hJ⟩, hp⟩ := nt_write a1 a2 a3 a4 a5 a6 a7 a8 a9 a10 a11 a12 a13 a14 hN h (x >>> ((5 : Int32) &&& 31)) hf hi
    obtain ⟨c', K', s', b', a1', a2', a3', a4', a5', a6', a7', a8', a9', a10', a11', a12', a13', a14', rfl, hiv⟩ := hJ
    refine ⟨r, _, ⟨N', hN', c', K', s', b', a1', a2', a3', a4', a5', a6', a7', a8', a9', a10', a11', a12', a13', a14', rfl, hiv⟩, fun t => absurd (by rw [eo]; exact nI_le (b := 12) (by omega) (by omega)) t, fun post hpost => ?_⟩
    exact nm_r eo ⟨by decide, nm_r ef ⟨by decide, nm_r eg (nm_r ei (pk_le 3 o (fun _ => pk_eq o 3 (fun t => absurd t (by omega)) (fun _ => pk_le 9 o (fun t => absurd t (by omega)) (fun _ => hp _ hpost))) (fun t => absurd t (by omega))))⟩⟩
  · obtain ⟨r, u, ⟨N', hN', hJ⟩, hp⟩ := nt_truncate a1 a2 a3 a4 a5 a6 a7 a8 a9 a10 a11 a12 a13 a14 hN h hf hi
    obtain ⟨c', K', s', b', a1', a2', a3', a4', a5', a6', a7', a8', a9', a10', a11', a12', a13', a14', rfl, hiv⟩ := hJ
    refine ⟨r, _, ⟨N', hN', c', K', s', b', a1', a2', a3', a4', a5', a6', a7', a8', a9', a10', a11', a12', a13', a14', rfl, hiv⟩, fun t => absurd (by rw [eo]; exact nI_le (b := 12) (by omega) (by omega)) t, fun post hpost => ?_⟩
    exact nm_r eo ⟨by decide, nm_r ef ⟨by decide, nm_r eg (nm_r ei (pk_le 3 o (fun _ => pk_eq o 3 (fun t => absurd t (by omega)) (fun _ => pk_le 9 o (fun _ => pk_eq o 9 (fun _ => hp _ hpost) (fun t => absurd t (by omega))) (fun t => absurd t (by omega)))) (fun t => absurd t (by omega))))⟩⟩
  · obtain ⟨r, u, ⟨N', hN', hJ⟩, hp⟩ := nt_copy a1 a2 a3 a4 a5 a6 a7 a8 a9 a10 a11 a12 a13 a14 hN h hf hg
    obtain ⟨c', K', s', b', a1', a2', a3', a4', a5', a6', a7', a8', a9', a10', a11', a12', a13', a14', rfl, hiv⟩ := hJ
    refine ⟨r, _, ⟨N', hN', c', K', s', b', a1', a2', a3', a4', a5', a6', a7', a8', a9', a10', a11', a12', a13', a14', rfl, hiv⟩, fun t => absurd (by rw [eo]; exact nI_le (b := 12) (by omega) (by omega)) t, fun post hpost => ?_⟩
    exact nm_r eo ⟨by decide, nm_r ef ⟨by decide, nm_r eg (nm_r ei (pk_le 3 o (fun _ => pk_eq o 3 (fun t => absurd t (by omega)) (fun _ => pk_le 9 o (fun _ => pk_eq o 9 (fun t => absurd t (by omega)) (fun _ => pk_eq o 10 (fun _ => hp _ hpost) (fun t => absurd t (by omega)))) (fun t => absurd t (by omega)))) (fun t => absurd t (by omega))))⟩⟩
  · obtain ⟨r, N', c', K', s', b', a2', a3', a4', a5', a6', a7', a8', a9', a10', a11', a12', a13', a14', hN', hiv, _, hp⟩ := nt_fsync a1 a2 a3 a4 a5 a6 a7 a8 a9 a10 a11 a12 a13 a14 hN h hf
    refine ⟨r, _, ⟨N', hN', c', K', s', b', a1, a2', a3', a4', a5', a6', a7', a8', a9', a10', a11', a12', a13', a14', rfl, hiv⟩, fun t => absurd (by rw [eo]; exact nI_le (b := 12) (by omega) (by omega)) t, fun post hpost => ?_⟩
    exact nm_r eo ⟨by decide, nm_r ef ⟨by decide, nm_r eg (nm_r ei (pk_le 3 o (fun _ => pk_eq o 3 (fun t => absurd t (by omega)) (fun _ => pk_le 9 o (fun _ => pk_eq o 9 (fun t => absurd t (by omega)) (fun _ => pk_eq o 10 (fun t => absurd t (by omega)) (fun _ => pk_le 13 o (fun t => absurd t (by omega)) (fun _ => hp _ hpost)))) (fun t => absurd t (by omega)))) (fun t => absurd t (by omega))))⟩⟩
  · obtain ⟨c', t', d5, d7, d8, d9, d10, d12, d13, m', hh, hiv, hp⟩ := nt_sync (nI c) (nI K) a1 a2 a3 a4 a5 a6 a7 a8 a9 a10 a11 a12 a13 a14 hN h.1.2.2.2 h.2.2.1.1 h.2.1.1 h.2.1.2.1
    refine ⟨nI (nt_ct a11 6), _, ⟨N + 1, by omega, c', 0, t', _, a1, a2, a3, a4, d5, a6, d7, d8, d9, d10, a11, d12, d13, m', rfl, hiv⟩, fun _ => fun f hf => (hh f hf).symm, fun post hpost => ?_⟩
    exact nm_r eo ⟨by decide, nm_r ef ⟨by decide, nm_r eg (nm_r ei (pk_le 3 o (fun _ => pk_eq o 3 (fun t => absurd t (by omega)) (fun _ => pk_le 9 o (fun _ => pk_eq o 9 (fun t => absurd t (by omega)) (fun _ => pk_eq o 10 (fun t => absurd t (by omega)) (fun _ => pk_le 13 o (fun _ => pk_eq o 13 (fun _ => hp _ hpost) (fun t => absurd t (by omega))) (fun t => absurd t (by omega))))) (fun t => absurd t (by omega)))) (fun t => absurd t (by omega))))⟩⟩
  · obtain ⟨d11, d12, d13, ⟨h1, h2⟩, hp⟩ := nt_crash a1 a2 a3 a4 a5 a6 a7 a8 a9 a10 a11 a12 a13 a14 hN h
    refine ⟨nI (nt_ct a12 6), _, ⟨N, by omega, c, K, s, b, a1, a2, a3, a4, a5, a6, a7, a8, a9, a10, d11, d12, d13, a14, rfl, nt_iv_mt h h1 h2⟩, fun _ => fun f hf => (h1 f hf).trans (h2 f hf).symm, fun post hpost => ?_⟩
    exact nm_r eo ⟨by decide, nm_r ef ⟨by decide, nm_r eg (nm_r ei (pk_le 3 o (fun _ => pk_eq o 3 (fun t => absurd t (by omega)) (fun _ => pk_le 9 o (fun _ => pk_eq o 9 (fun t => absurd t (by omega)) (fun _ => pk_eq o 10 (fun t => absurd t (by omega)) (fun _ => pk_le 13 o (fun _ => pk_eq o 13 (fun t => absurd t (by omega)) (fun _ => hp _ hpost)) (fun t => absurd t (by omega))))) (fun t => absurd t (by omega)))) (fun t => absurd t (by omega))))⟩⟩
end
section
/-! the law -/
theorem nt_end (a1 a2 a3 a4 a5 a6 a7 a8 a9 a10 a11 a12 a13 a14 : Nat → Int32) (m11 m12 m13 : Nat → Int32) {N c K s f : Nat} {b : Nat → Nat} (hN : N < 900) (h : nt_iv N c K s b a2 a3 a4 a5 a6 a7 a8 a9 a10 a11 a12) (hf : f < 6) (hm1 : ∀ f, f < 6 → m11 f = a12 f) (hm2 : ∀ f, f < 6 → m12 f = a12 f) (L : Nat) (xs : Nat → Int32) (z : Int32) (kc ks : Nat) :
    wL_law_191 (fun r => r = 1) L xs (nI f) z z kc ks (nI c) (nI K) (nI N) (nI s) a1 a2 a3 a4 a5 a6 a7 a8 a9 a10 a11 a12 a13 a14 (nI c) (nI K) (nI N) (nI s) a1 a2 a3 a4 a5 a6 a7 a8 a9 a10 m11 m12 m13 a14 (nI c) (nI K) (nI N) (nI s) a1 a2 a3 a4 a5 a6 a7 a8 a9 a10 a11 a12 a13 a14 (nI c) (nI K) (nI N) (nI s) a1 a2 a3 a4 a5 a6 a7 a8 a9 a10 a11 a12 a13 a14 := by
  have ivm := nt_iv_mt h hm1 hm2
  have n1 := h.2.2.1.1
  obtain ⟨r1, hr1, p1⟩ := nt_uns (nI c) (nI K) (nI N) (nI s) a1 a2 a3 a4 a5 a6 a7 a8 a9 a10 m11 m12 m13 a14 ivm.2.2.1.1 ivm.2.2.1.2.1
  have e1 : r1 = 0 := hr1.mpr (fun f hf i hi => by rw [hm1 f hf, hm2 f hf])
  obtain ⟨cl, tl, l5, l7, l8, l9, l10, l12, l13, l14, hl, ivl, pl⟩ := nt_sync (nI c) (nI K) a1 a2 a3 a4 a5 a6 a7 a8 a9 a10 a11 a12 a13 a14 (show N < 1000 by omega) h.1.2.2.2 n1 h.2.1.1 h.2.1.2.1
  obtain ⟨r2, hr2, p2⟩ := nt_uns (nI cl) (nI 0) (nI (N + 1)) (nI tl) a1 a2 a3 a4 l5 a6 l7 l8 l9 l10 a11 l12 l13 l14 ivl.2.2.1.1 ivl.2.2.1.2.1
  have e2 : r2 = 0 := hr2.mpr (fun f hf i hi => by rw [hl f hf])
  obtain ⟨p11, p12, p13, ⟨hp1, hp2⟩, p3⟩ := nt_crash a1 a2 a3 a4 l5 a6 l7 l8 l9 l10 a11 l12 l13 l14 (show N + 1 < 1000 by omega) ivl
  have hp11 : ∀ f, f < 6 → p11 f = a11 f := fun f hf => (hp1 f hf).trans (hl f hf)
  have e3 : nt_ct l12 6 = nt_ct a11 6 := nt_ct_c 6 hl
  obtain ⟨r4, hr4, p4⟩ := nt_differing (nI c) (nI K) (nI N) (nI s) a1 a2 a3 a4 a5 a6 a7 a8 a9 a10 a11 a12 a13 a14 (nI cl) (nI 0) (nI (N + 1)) (nI tl) a1 a2 a3 a4 l5 a6 l7 l8 l9 l10 p11 p12 p13 l14 n1 (fun f hf => by rw [hp11 f hf]; exact n1 f hf)
  have e4 : r4 = 0 := hr4.mpr (fun f hf i hi => by rw [hp11 f hf])
  have e5 : nt_dg a1 a3 a4 a11 6 = nt_dg a1 a3 a4 p11 6 := nt_dg_c 6 (fun f hf => (hp11 f hf).symm)
  obtain ⟨r, N', c', K', s', b', a2', a3', a4', a5', a6', a7', a8', a9', a10', a11', a12', a13', a14', hN', ivk, hcase, p6⟩ := nt_fsync a1 a2 a3 a4 a5 a6 a7 a8 a9 a10 a11 a12 a13 a14 (show N < 1000 by omega) h hf
  obtain ⟨k11, k12, k13, ⟨hk1, hk2⟩, p7⟩ := nt_crash a1 a2' a3' a4' a5' a6' a7' a8' a9' a10' a11' a12' a13' a14' (show N' < 1000 by omega) ivk
  have nk : ∀ f, f < 6 → nt_nd a3' a4' (k11 f) := fun f hf => by rw [hk1 f hf]; exact ivk.2.2.1.2.1 f hf
  refine br_t rfl (p1 _ (br_t e1 (pl _ (p2 _ (p3 _ (br_t e2 (br_t (by rw [e3]) (p4 _ (br_t e4 (nt_digest (nI c) (nI K) (nI N) (nI s) a1 a2 a3 a4 a5 a6 a7 a8 a9 a10 a11 a12 a13 a14 n1 _ (nt_digest (nI cl) (nI 0) (nI (N + 1)) (nI tl) a1 a2 a3 a4 l5 a6 l7 l8 l9 l10 p11 p12 p13 l14 (fun f hf => by rw [hp11 f hf]; exact n1 f hf) _ (br_t e5 (p6 _ (p7 _ ?_))))))))))))))
  have v0 : nt_v a1 a3 a4 (a11 f) 0 = (if a11 f = -1 then 0 else 1) := rfl
  rcases hcase with ⟨er, e, ea3, ea4, ea12⟩ | ⟨er, e, ea3, ea4, ea12⟩ | ⟨er, e, ev⟩
  · subst er
    rw [if_pos e] at v0
    obtain ⟨r8, hr8, p8⟩ := nt_differing (nI c) (nI K) (nI N) (nI s) a1 a2 a3 a4 a5 a6 a7 a8 a9 a10 m11 m12 m13 a14 (nI c') (nI K') (nI N') (nI s') a1 a2' a3' a4' a5' a6' a7' a8' a9' a10' k11 k12 k13 a14' ivm.2.2.1.1 nk
    have e8 : r8 = 0 := hr8.mpr (fun f hf i hi => by rw [hm1 f hf, hk1 f hf, ea3, ea4, ea12])
    exact br_f (by decide) (nt_exists (nI c) (nI K) (nI N) (nI s) a1 a2 a3 a4 a5 a6 a7 a8 a9 a10 a11 a12 a13 a14 hf _ (br_t v0 (p8 _ (br_t e8 rfl))))
  · subst er
    rw [if_neg e] at v0
    obtain ⟨r8, _, hr8, p8⟩ := nt_same (nI c) (nI K) (nI N) (nI s) a1 a2 a3 a4 a5 a6 a7 a8 a9 a10 a11 a12 a13 a14 (nI c') (nI K') (nI N') (nI s') a1 a2' a3' a4' a5' a6' a7' a8' a9' a10' k11 k12 k13 a14' hf (n1 f hf) (nk f hf)
    have e8 : r8 = 1 := hr8.mpr (fun i hi => by rw [hk1 f hf, ea12 f hf, ea3, ea4])
    obtain ⟨r9, hr9, p9⟩ := nt_differing (nI c) (nI K) (nI N) (nI s) a1 a2 a3 a4 a5 a6 a7 a8 a9 a10 a11 a12 a13 a14 (nI c') (nI K') (nI N') (nI s') a1 a2' a3' a4' a5' a6' a7' a8' a9' a10' k11 k12 k13 a14' n1 nk
    have e9 : r9 = 0 := hr9.mpr (fun f hf i hi => by rw [hk1 f hf, ea12 f hf, ea3, ea4])
    exact br_t (by decide) (nt_exists (nI c) (nI K) (nI N) (nI s) a1 a2 a3 a4 a5 a6 a7 a8 a9 a10 a11 a12 a13 a14 hf _ (br_f (by rw [v0]; decide) (p8 _ (br_f (by rw [e8]; decide) (br_f (by decide) (p9 _ (br_t e9 rfl)))))))
  · subst er
    rw [if_neg e] at v0
    obtain ⟨r8, _, hr8, p8⟩ := nt_same (nI c) (nI K) (nI N) (nI s) a1 a2 a3 a4 a5 a6 a7 a8 a9 a10 a11 a12 a13 a14 (nI c') (nI K') (nI N') (nI s') a1 a2' a3' a4' a5' a6' a7' a8' a9' a10' k11 k12 k13 a14' hf (n1 f hf) (nk f hf)
    have e8 : r8 = 1 := hr8.mpr (fun i hi => by rw [hk1 f hf]; exact (ev i hi).symm)
    exact br_t (by decide) (nt_exists (nI c) (nI K) (nI N) (nI s) a1 a2 a3 a4 a5 a6 a7 a8 a9 a10 a11 a12 a13 a14 hf _ (br_f (by rw [v0]; decide) (p8 _ (br_f (by rw [e8]; decide) (br_t rfl rfl)))))
theorem nt_exit (a1 a2 a3 a4 a5 a6 a7 a8 a9 a10 a11 a12 a13 a14 : Nat → Int32) {N c K s f : Nat} {b : Nat → Nat} (hN : N < 900) (h : nt_iv N c K s b a2 a3 a4 a5 a6 a7 a8 a9 a10 a11 a12) (hf : f < 6) (L i : Nat) (hL : L ≤ 260) (hi : L ≤ 2 * i + 2) (hi2 : i ≤ 260) (xs : Nat → Int32) (kc ks n : Nat) :
    wL_law_56 (fun r => r = 1) L xs (nI f) kc ks (n + 1) (nI (2 * i + 1)) (nI c) (nI K) (nI N) (nI s) a1 a2 a3 a4 a5 a6 a7 a8 a9 a10 a11 a12 a13 a14 (nI c) (nI K) (nI N) (nI s) a1 a2 a3 a4 a5 a6 a7 a8 a9 a10 a11 a12 a13 a14 (nI c) (nI K) (nI N) (nI s) a1 a2 a3 a4 a5 a6 a7 a8 a9 a10 a11 a12 a13 a14 (nI c) (nI K) (nI N) (nI s) a1 a2 a3 a4 a5 a6 a7 a8 a9 a10 a11 a12 a13 a14 := by
  obtain ⟨r0, hr0, p0⟩ := nt_uns (nI c) (nI K) (nI N) (nI s) a1 a2 a3 a4 a5 a6 a7 a8 a9 a10 a11 a12 a13 a14 h.2.2.1.1 h.2.2.1.2.1
  obtain ⟨m11, m12, m13, ⟨hm1, hm2⟩, p1⟩ := nt_crash a1 a2 a3 a4 a5 a6 a7 a8 a9 a10 a11 a12 a13 a14 (show N < 1000 by omega) h
  obtain ⟨r2, hr2, p2⟩ := nt_differing (nI c) (nI K) (nI N) (nI s) a1 a2 a3 a4 a5 a6 a7 a8 a9 a10 a11 a12 a13 a14 (nI c) (nI K) (nI N) (nI s) a1 a2 a3 a4 a5 a6 a7 a8 a9 a10 m11 m12 m13 a14 h.2.2.1.1 (fun f hf => by rw [hm1 f hf]; exact h.2.2.1.2.1 f hf)
  have he : r0 = 0 ↔ r2 = 0 := by
    rw [hr0, hr2]
    constructor
    · intro t f hf i hi
      rw [hm1 f hf]
      exact t f hf i hi
    · intro t f hf i hi
      rw [← hm1 f hf]
      exact t f hf i hi
  refine pk_le L (2 * i + 2) (fun _ => p0 _ (p1 _ ?_)) (fun t => absurd t (by omega)) rfl (nI_1 _)
  by_cases e : r0 = 0
  · exact br_t e (p2 _ (br_t (he.mp e) (nt_end a1 a2 a3 a4 a5 a6 a7 a8 a9 a10 a11 a12 a13 a14 m11 m12 m13 hN h hf hm1 hm2 L xs 1 kc ks)))
  · exact br_f e (p2 _ (br_f (fun t => e (he.mpr t)) (nt_end a1 a2 a3 a4 a5 a6 a7 a8 a9 a10 a11 a12 a13 a14 m11 m12 m13 hN h hf hm1 hm2 L xs 0 kc ks)))
theorem nt_lawlp {f : Nat} (hf : f < 6) (L : Nat) (hL : L ≤ 260) (xs : Nat → Int32) (kc ks : Nat) (u : St1) (hu : nt_J 1 u) :
    ∃ n, wL_law_56 (fun r => r = 1) L xs (nI f) kc ks n (nI (2 * 0 + 1)) u.1 u.2.1 u.2.2.1 u.2.2.2.1 u.2.2.2.2.1 u.2.2.2.2.2.1 u.2.2.2.2.2.2.1 u.2.2.2.2.2.2.2.1 u.2.2.2.2.2.2.2.2.1 u.2.2.2.2.2.2.2.2.2.1 u.2.2.2.2.2.2.2.2.2.2.1 u.2.2.2.2.2.2.2.2.2.2.2.1 u.2.2.2.2.2.2.2.2.2.2.2.2.1 u.2.2.2.2.2.2.2.2.2.2.2.2.2.1 u.2.2.2.2.2.2.2.2.2.2.2.2.2.2.1 u.2.2.2.2.2.2.2.2.2.2.2.2.2.2.2.1 u.2.2.2.2.2.2.2.2.2.2.2.2.2.2.2.2.1 u.2.2.2.2.2.2.2.2.2.2.2.2.2.2.2.2.2 u.1 u.2.1 u.2.2.1 u.2.2.2.1 u.2.2.2.2.1 u.2.2.2.2.2.1 u.2.2.2.2.2.2.1 u.2.2.2.2.2.2.2.1 u.2.2.2.2.2.2.2.2.1 u.2.2.2.2.2.2.2.2.2.1 u.2.2.2.2.2.2.2.2.2.2.1 u.2.2.2.2.2.2.2.2.2.2.2.1 u.2.2.2.2.2.2.2.2.2.2.2.2.1 u.2.2.2.2.2.2.2.2.2.2.2.2.2.1 u.2.2.2.2.2.2.2.2.2.2.2.2.2.2.1 u.2.2.2.2.2.2.2.2.2.2.2.2.2.2.2.1 u.2.2.2.2.2.2.2.2.2.2.2.2.2.2.2.2.1 u.2.2.2.2.2.2.2.2.2.2.2.2.2.2.2.2.2 u.1 u.2.1 u.2.2.1 u.2.2.2.1 u.2.2.2.2.1 u.2.2.2.2.2.1 u.2.2.2.2.2.2.1 u.2.2.2.2.2.2.2.1 u.2.2.2.2.2.2.2.2.1 u.2.2.2.2.2.2.2.2.2.1 u.2.2.2.2.2.2.2.2.2.2.1 u.2.2.2.2.2.2.2.2.2.2.2.1 u.2.2.2.2.2.2.2.2.2.2.2.2.1 u.2.2.2.2.2.2.2.2.2.2.2.2.2.1 u.2.2.2.2.2.2.2.2.2.2.2.2.2.2.1 u.2.2.2.2.2.2.2.2.2.2.2.2.2.2.2.1 u.2.2.2.2.2.2.2.2.2.2.2.2.2.2.2.2.1 u.2.2.2.2.2.2.2.2.2.2.2.2.2.2.2.2.2 u.1 u.2.1 u.2.2.1 u.2.2.2.1 u.2.2.2.2.1 u.2.2.2.2.2.1 u.2.2.2.2.2.2.1 u.2.2.2.2.2.2.2.1 u.2.2.2.2.2.2.2.2.1 u.2.2.2.2.2.2.2.2.2.1 u.2.2.2.2.2.2.2.2.2.2.1 u.2.2.2.2.2.2.2.2.2.2.2.1 u.2.2.2.2.2.2.2.2.2.2.2.2.1 u.2.2.2.2.2.2.2.2.2.2.2.2.2.1 u.2.2.2.2.2.2.2.2.2.2.2.2.2.2.1 u.2.2.2.2.2.2.2.2.2.2.2.2.2.2.2.1 u.2.2.2.2.2.2.2.2.2.2.2.2.2.2.2.2.1 u.2.2.2.2.2.2.2.2.2.2.2.2.2.2.2.2.2 := by
  refine pk_loop (fun n i (u : St1) => wL_law_56 (fun r => r = 1) L xs (nI f) kc ks n (nI (2 * i + 1)) u.1 u.2.1 u.2.2.1 u.2.2.2.1 u.2.2.2.2.1 u.2.2.2.2.2.1 u.2.2.2.2.2.2.1 u.2.2.2.2.2.2.2.1 u.2.2.2.2.2.2.2.2.1 u.2.2.2.2.2.2.2.2.2.1 u.2.2.2.2.2.2.2.2.2.2.1 u.2.2.2.2.2.2.2.2.2.2.2.1 u.2.2.2.2.2.2.2.2.2.2.2.2.1 u.2.2.2.2.2.2.2.2.2.2.2.2.2.1 u.2.2.2.2.2.2.2.2.2.2.2.2.2.2.1 u.2.2.2.2.2.2.2.2.2.2.2.2.2.2.2.1 u.2.2.2.2.2.2.2.2.2.2.2.2.2.2.2.2.1 u.2.2.2.2.2.2.2.2.2.2.2.2.2.2.2.2.2 u.1 u.2.1 u.2.2.1 u.2.2.2.1 u.2.2.2.2.1 u.2.2.2.2.2.1 u.2.2.2.2.2.2.1 u.2.2.2.2.2.2.2.1 u.2.2.2.2.2.2.2.2.1 u.2.2.2.2.2.2.2.2.2.1 u.2.2.2.2.2.2.2.2.2.2.1 u.2.2.2.2.2.2.2.2.2.2.2.1 u.2.2.2.2.2.2.2.2.2.2.2.2.1 u.2.2.2.2.2.2.2.2.2.2.2.2.2.1 u.2.2.2.2.2.2.2.2.2.2.2.2.2.2.1 u.2.2.2.2.2.2.2.2.2.2.2.2.2.2.2.1 u.2.2.2.2.2.2.2.2.2.2.2.2.2.2.2.2.1 u.2.2.2.2.2.2.2.2.2.2.2.2.2.2.2.2.2 u.1 u.2.1 u.2.2.1 u.2.2.2.1 u.2.2.2.2.1 u.2.2.2.2.2.1 u.2.2.2.2.2.2.1 u.2.2.2.2.2.2.2.1 u.2.2.2.2.2.2.2.2.1 u.2.2.2.2.2.2.2.2.2.1 u.2.2.2.2.2.2.2.2.2.2.1 u.2.2.2.2.2.2.2.2.2.2.2.1 u.2.2.2.2.2.2.2.2.2.2.2.2.1 u.2.2.2.2.2.2.2.2.2.2.2.2.2.1 u.2.2.2.2.2.2.2.2.2.2.2.2.2.2.1 u.2.2.2.2.2.2.2.2.2.2.2.2.2.2.2.1 u.2.2.2.2.2.2.2.2.2.2.2.2.2.2.2.2.1 u.2.2.2.2.2.2.2.2.2.2.2.2.2.2.2.2.2 u.1 u.2.1 u.2.2.1 u.2.2.2.1 u.2.2.2.2.1 u.2.2.2.2.2.1 u.2.2.2.2.2.2.1 u.2.2.2.2.2.2.2.1 u.2.2.2.2.2.2.2.2.1 u.2.2.2.2.2.2.2.2.2.1 u.2.2.2.2.2.2.2.2.2.2.1 u.2.2.2.2.2.2.2.2.2.2.2.1 u.2.2.2.2.2.2.2.2.2.2.2.2.1 u.2.2.2.2.2.2.2.2.2.2.2.2.2.1 u.2.2.2.2.2.2.2.2.2.2.2.2.2.2.1 u.2.2.2.2.2.2.2.2.2.2.2.2.2.2.2.1 u.2.2.2.2.2.2.2.2.2.2.2.2.2.2.2.2.1 u.2.2.2.2.2.2.2.2.2.2.2.2.2.2.2.2.2) (fun i u => ∃ N, N ≤ i + 1 ∧ nt_J N u) ((L - 1) / 2) 0 u (by omega) ⟨1, by omega, hu⟩ ?_ ?_
  · intro n u hI
    obtain ⟨N, hN, c, K, s, b, a1, a2, a3, a4, a5, a6, a7, a8, a9, a10, a11, a12, a13, a14, rfl, h⟩ := hI
    exact nt_exit a1 a2 a3 a4 a5 a6 a7 a8 a9 a10 a11 a12 a13 a14 (by omega) h hf L ((L - 1) / 2) hL (by omega) (by omega) xs kc ks n
  · intro n i u hi hI hw
    obtain ⟨N, hN, c, K, s, b, a1, a2, a3, a4, a5, a6, a7, a8, a9, a10, a11, a12, a13, a14, rfl, h⟩ := hI
    obtain ⟨r, u', ⟨N', hN', hJ⟩, hQ, hp⟩ := nt_turn a1 a2 a3 a4 a5 a6 a7 a8 a9 a10 a11 a12 a13 a14 (show N < 1000 by omega) h (xs (nI (2 * i + 1)).toNatClampNeg) (xs (nI (2 * i + 1) + 1).toNatClampNeg)
    have hw' := hw u' ⟨N', by omega, hJ⟩
    obtain ⟨c', K', s', b', a1', a2', a3', a4', a5', a6', a7', a8', a9', a10', a11', a12', a13', a14', rfl, h'⟩ := hJ
    have iA : vp_in (nI (2 * i + 1)) L := pk_in (2 * i + 1) L (by omega)
    have iB : vp_in (nI (2 * i + 1) + 1) L := pk_in (2 * i + 2) L (by omega) (nI_1 _)
    have ex : nI (2 * i + 1) + 2 = nI (2 * (i + 1) + 1) := by
      rw [show (2 : Int32) = nI 2 from rfl, nI_add]
      exact congrArg nI (by omega)
    refine pk_le L (2 * i + 2) (fun t => absurd t (by omega)) (fun _ => ⟨iA, nm_e ⟨iA, iB, hp _ ⟨iA, iB, hp _ ⟨iA, iB, hp _ ⟨iA, iB, hp _ ?_⟩⟩⟩⟩⟩) rfl (nI_1 _)
    refine br_c (fun _ => nm_r ex hw') (fun t => ?_)
    have hq : ∀ f, f < 6 → a11' f = a12' f := hQ t
    obtain ⟨r0, hr0, p0⟩ := nt_uns (nI c') (nI K') (nI N') (nI s') a1' a2' a3' a4' a5' a6' a7' a8' a9' a10' a11' a12' a13' a14' h'.2.2.1.1 h'.2.2.1.2.1
    have e0 : r0 = 0 := hr0.mpr (fun f hf i hi => by rw [hq f hf])
    exact p0 _ (br_t e0 (nm_r ex hw'))
end
section
theorem i_vc (xs : Nat → Int32) (L : Nat) (hL : L ≤ 260) : wpL_law (fun r => r = 1) L xs := by
  obtain ⟨u, hu, hp⟩ := nt_init
  have lp := fun (f : Nat) (hf : f < 6) (kc ks : Nat) => nt_lawlp hf L hL xs kc ks u hu
  obtain ⟨c, K, s, b, a1, a2, a3, a4, a5, a6, a7, a8, a9, a10, a11, a12, a13, a14, rfl, h⟩ := hu
  refine ⟨14, 1316, by omega, by omega, hp _ ⟨by omega, by omega, 14, 1316, by omega, by omega, hp _ ⟨by omega, by omega, 14, 1316, by omega, by omega, hp _ ⟨by omega, by omega, 14, 1316, by omega, by omega, hp _ ?_⟩⟩⟩⟩
  refine br_c (fun _ => lp 0 (by omega) _ _) (fun t => ?_)
  have hL0 : 0 < L := by
    rcases Nat.eq_zero_or_pos L with e | e
    · rw [e] at t
      exact absurd (by decide) t
    · exact e
  obtain ⟨f, hf, ef⟩ := nt_r6 (xs (0 : Int32).toNatClampNeg)
  exact ⟨pk_in 0 L hL0, by decide, nm_r ef (lp f hf _ _)⟩
end
