section
/-! ===== the pure picture: runs of an automaton, hits, tallies ===== -/
/-- the automaton's state behind k letters of f, from q -/
def lz_rn (d : Nat → Nat → Nat) (f : Nat → Nat) (q : Nat) : Nat → Nat
  | 0 => q
  | k + 1 => d (lz_rn d f q k) (f k)
/-- how many of the first k letters of f, from q, end in state m -/
def lz_hc (d : Nat → Nat → Nat) (m : Nat) (f : Nat → Nat) (q : Nat) : Nat → Nat
  | 0 => 0
  | k + 1 => lz_hc d m f q k + (if lz_rn d f q (k + 1) = m then 1 else 0)
/-- how many of the first k letters of f are l -/
def lz_ct (f : Nat → Nat) (l : Nat) : Nat → Nat
  | 0 => 0
  | k + 1 => lz_ct f l k + (if f k = l then 1 else 0)
section
variable {d : Nat → Nat → Nat} {f g : Nat → Nat} {q k m l s : Nat}
theorem lz_rn_c (h : ∀ j, j < k → f j = g j) : lz_rn d f q k = lz_rn d g q k := by
  induction k with
  | zero => rfl
  | succ k ih =>
    show d (lz_rn d f q k) (f k) = d (lz_rn d g q k) (g k)
    rw [ih (fun j hj => h j (by omega)), h k (by omega)]
theorem lz_hc_c (h : ∀ j, j < k → f j = g j) : lz_hc d m f q k = lz_hc d m g q k := by
  induction k with
  | zero => rfl
  | succ k ih =>
    show lz_hc d m f q k + (if lz_rn d f q (k + 1) = m then 1 else 0) = lz_hc d m g q k + (if lz_rn d g q (k + 1) = m then 1 else 0)
    rw [ih (fun j hj => h j (by omega)), lz_rn_c h]
theorem lz_ct_c (h : ∀ j, j < k → f j = g j) : lz_ct f l k = lz_ct g l k := by
  induction k with
  | zero => rfl
  | succ k ih =>
    show lz_ct f l k + (if f k = l then 1 else 0) = lz_ct g l k + (if g k = l then 1 else 0)
    rw [ih (fun j hj => h j (by omega)), h k (by omega)]
theorem lz_rn_s (d : Nat → Nat → Nat) (f : Nat → Nat) (q s k : Nat) : lz_rn d f q (s + k) = lz_rn d (fun j => f (s + j)) (lz_rn d f q s) k := by
  induction k with
  | zero => rfl
  | succ k ih =>
    show d (lz_rn d f q (s + k)) (f (s + k)) = d (lz_rn d (fun j => f (s + j)) (lz_rn d f q s) k) (f (s + k))
    rw [ih]
theorem lz_hc_s (d : Nat → Nat → Nat) (m : Nat) (f : Nat → Nat) (q s k : Nat) : lz_hc d m f q (s + k) = lz_hc d m f q s + lz_hc d m (fun j => f (s + j)) (lz_rn d f q s) k := by
  induction k with
  | zero => rfl
  | succ k ih =>
    have e := lz_rn_s d f q s (k + 1)
    show lz_hc d m f q (s + k) + (if lz_rn d f q (s + (k + 1)) = m then 1 else 0) = lz_hc d m f q s + (lz_hc d m (fun j => f (s + j)) (lz_rn d f q s) k + (if lz_rn d (fun j => f (s + j)) (lz_rn d f q s) (k + 1) = m then 1 else 0))
    rw [e, ih, Nat.add_assoc]
theorem lz_ct_s (f : Nat → Nat) (l s k : Nat) : lz_ct f l (s + k) = lz_ct f l s + lz_ct (fun j => f (s + j)) l k := by
  induction k with
  | zero => rfl
  | succ k ih =>
    show lz_ct f l (s + k) + (if f (s + k) = l then 1 else 0) = lz_ct f l s + (lz_ct (fun j => f (s + j)) l k + (if f (s + k) = l then 1 else 0))
    rw [ih, Nat.add_assoc]
theorem lz_hc_le (d : Nat → Nat → Nat) (m : Nat) (f : Nat → Nat) (q k : Nat) : lz_hc d m f q k ≤ k := by
  induction k with
  | zero => exact Nat.le_refl 0
  | succ k ih =>
    show lz_hc d m f q k + (if lz_rn d f q (k + 1) = m then 1 else 0) ≤ k + 1
    split <;> omega
theorem lz_ct_le (f : Nat → Nat) (l k : Nat) : lz_ct f l k ≤ k := by
  induction k with
  | zero => exact Nat.le_refl 0
  | succ k ih =>
    show lz_ct f l k + (if f k = l then 1 else 0) ≤ k + 1
    split <;> omega
theorem lz_hc_mono (d : Nat → Nat → Nat) (m : Nat) (f : Nat → Nat) (q : Nat) {i j : Nat} (h : i ≤ j) : lz_hc d m f q i ≤ lz_hc d m f q j := by
  have e : j = i + (j - i) := by omega
  rw [e, lz_hc_s]
  exact Nat.le_add_right _ _
theorem lz_rn_b {M : Nat} (hd : ∀ s l, s ≤ M → l < 4 → d s l ≤ M) (hf : ∀ j, f j < 4) (hq : q ≤ M) : lz_rn d f q k ≤ M := by
  induction k with
  | zero => exact hq
  | succ k ih => exact hd _ _ ih (hf k)
/-- a word w p that is the text's piece at s: runs and hits over it are pieces of the text's -/
theorem lz_rn_at (q : Nat) {wp : Nat → Nat} (h : ∀ j, j < k → wp j = f (s + j)) : lz_rn d wp (lz_rn d f q s) k = lz_rn d f q (s + k) := by
  rw [lz_rn_s]
  exact lz_rn_c h
theorem lz_hc_at (q : Nat) {wp : Nat → Nat} (h : ∀ j, j < k → wp j = f (s + j)) : lz_hc d m f q s + lz_hc d m wp (lz_rn d f q s) k = lz_hc d m f q (s + k) := by
  rw [lz_hc_s]
  exact congrArg _ (lz_hc_c h)
theorem lz_ct_at {wp : Nat → Nat} (h : ∀ j, j < k → wp j = f (s + j)) : lz_ct f l s + lz_ct wp l k = lz_ct f l (s + k) := by
  rw [lz_ct_s]
  exact congrArg _ (lz_ct_c h)
end
/-! small numbers -/
theorem lz_ix (p l : Nat) : nI p * 4 + nI l = nI (p * 4 + l) := by
  show nI p * nI 4 + nI l = nI (p * 4 + l)
  rw [pk_mul, nI_add]
theorem lz_ix11 (p l : Nat) : nI p * 11 + nI l = nI (p * 11 + l) := by
  show nI p * nI 11 + nI l = nI (p * 11 + l)
  rw [pk_mul, nI_add]
theorem lz_cl4 {p l : Nat} (h : p * 4 + l < 2 ^ 31) : (nI p * 4 + nI l).toNatClampNeg = p * 4 + l := by
  rw [lz_ix, nI_clamp h]
theorem lz_cl11 {p l : Nat} (h : p * 11 + l < 2 ^ 31) : (nI p * 11 + nI l).toNatClampNeg = p * 11 + l := by
  rw [lz_ix11, nI_clamp h]
theorem lz_by : ∀ x, x < 128 → (nI x).toInt8.toInt32 = nI x := by decide +kernel
theorem lz_ord {nc : Nat} {S : Nat → Nat} (h : ∀ i, i ≤ nc → S i ≤ S (i + 1)) {i j : Nat} (hij : i ≤ j) (hj : j ≤ nc + 1) : S i ≤ S j := by
  induction j with
  | zero =>
    have : i = 0 := by omega
    subst this
    exact Nat.le_refl _
  | succ j ih =>
    by_cases e : i = j + 1
    · subst e
      exact Nat.le_refl _
    · exact Nat.le_trans (ih (by omega) (by omega)) (h j (by omega))
end
section
/-! ===== the dictionary: phrase p is a word w p of sz p letters ===== -/
/-- one phrase's facts: its last letter, its size, its parent, its tally, its children -/
def lz_ok (np : Nat) (w : Nat → Nat → Nat) (sz : Nat → Nat) (a1 a2 a3 a4 a5 : Nat → Int32) (p : Nat) : Prop :=
  1 ≤ sz p ∧ (∀ j, w p j < 4) ∧ a2 p = nI (w p (sz p - 1)) ∧ a3 p = nI (sz p) ∧
  ((sz p = 1 ∧ a1 p = -1) ∨ ∃ u, u < p ∧ a1 p = nI u ∧ sz p = sz u + 1 ∧ ∀ j, j < sz u → w p j = w u j) ∧
  (∀ l, l < 4 → a5 (p * 4 + l) = nI (lz_ct (w p) l (sz p))) ∧
  (∀ l, l < 4 → a4 (p * 4 + l) = -1 ∨ ∃ c, c < np ∧ a4 (p * 4 + l) = nI c ∧ sz c = sz p + 1 ∧ (∀ j, j < sz p → w c j = w p j) ∧ w c (sz p) = l) ∧
  (p < 4 → sz p = 1 ∧ w p 0 = p)
def lz_D (np : Nat) (w : Nat → Nat → Nat) (sz : Nat → Nat) (a1 a2 a3 a4 a5 : Nat → Int32) : Prop := ∀ p, p < np → lz_ok np w sz a1 a2 a3 a4 a5 p
section
variable {np np' : Nat} {w w' : Nat → Nat → Nat} {sz sz' : Nat → Nat} {a1 a2 a3 a4 a5 b1 b2 b3 b4 b5 : Nat → Int32} {p : Nat}
/-- an old phrase stays as it was; a child may be new -/
theorem lz_ok_c (h : lz_ok np w sz a1 a2 a3 a4 a5 p) (hp : p < np) (hn : np ≤ np') (hw : ∀ x, x < np → w' x = w x) (hs : ∀ x, x < np → sz' x = sz x)
    (e1 : b1 p = a1 p) (e2 : b2 p = a2 p) (e3 : b3 p = a3 p) (e5 : ∀ l, l < 4 → b5 (p * 4 + l) = a5 (p * 4 + l))
    (e4 : ∀ l, l < 4 → b4 (p * 4 + l) = a4 (p * 4 + l) ∨ ∃ c, c < np' ∧ b4 (p * 4 + l) = nI c ∧ sz' c = sz' p + 1 ∧ (∀ j, j < sz' p → w' c j = w' p j) ∧ w' c (sz' p) = l) :
    lz_ok np' w' sz' b1 b2 b3 b4 b5 p := by
  obtain ⟨h1, h2, h3, h4, h5, h6, h7, h8⟩ := h
  unfold lz_ok
  rw [hw p hp, hs p hp] at e4
  rw [hw p hp, hs p hp, e1, e2, e3]
  refine ⟨h1, h2, h3, h4, ?_, fun l hl => by rw [e5 l hl]; exact h6 l hl, ?_, h8⟩
  · rcases h5 with h5 | ⟨u, hu, k1, k2, k3⟩
    · exact Or.inl h5
    · exact Or.inr ⟨u, hu, k1, by rw [hs u (by omega)]; exact k2, by rw [hs u (by omega), hw u (by omega)]; exact k3⟩
  · intro l hl
    rcases e4 l hl with e | e
    · rw [e]
      rcases h7 l hl with g | ⟨c, hc, k1, k2, k3, k4⟩
      · exact Or.inl g
      · exact Or.inr ⟨c, by omega, k1, by rw [hs c hc]; exact k2, by rw [hw c hc]; exact k3, by rw [hw c hc]; exact k4⟩
    · exact Or.inr e
/-- one more letter phrase -/
theorem lz_D_letter (hn : np < 4) (h : lz_D np (fun p _ => p) (fun _ => 1) a1 a2 a3 a4 a5) (f4 : ∀ j, j < np * 4 → b4 j = a4 j) (f5 : ∀ j, j < np * 4 → b5 j = a5 j)
    (g4 : ∀ i, i < 4 → b4 (np * 4 + i) = -1) (g5 : ∀ i, i < 4 → b5 (np * 4 + i) = if i = np then 0 + 1 else 0) :
    lz_D (np + 1) (fun p _ => p) (fun _ => 1) (upd a1 np (-1)) (upd a2 np (nI np)) (upd a3 np 1) b4 b5 := by
  intro p hp
  by_cases e : p = np
  · subst e
    refine ⟨Nat.le_refl 1, fun _ => hn, pk_us, pk_us, Or.inl ⟨rfl, pk_us⟩, fun l hl => ?_, fun l hl => Or.inl (g4 l hl), fun _ => ⟨rfl, rfl⟩⟩
    rw [g5 l hl]
    show _ = nI (0 + (if p = l then 1 else 0))
    by_cases e : l = p
    · rw [if_pos e, if_pos e.symm]
      rfl
    · rw [if_neg e, if_neg (fun z => e z.symm)]
      rfl
  · exact lz_ok_c (h p (by omega)) (by omega) (by omega) (fun _ _ => rfl) (fun _ _ => rfl) (pk_un e) (pk_un e) (pk_un e) (fun l hl => f5 _ (by omega)) (fun l hl => Or.inl (f4 _ (by omega)))
/-- one more phrase: u's word and the letter l -/
theorem lz_D_new {u l : Nat} (hn : 4 ≤ np) (h : lz_D np w sz a1 a2 a3 a4 a5) (hu : u < np) (hl : l < 4)
    (hw : ∀ x, x < np → w' x = w x) (hs : ∀ x, x < np → sz' x = sz x) (wn1 : ∀ j, j < sz u → w' np j = w u j) (wn2 : ∀ j, sz u ≤ j → w' np j = l) (sn : sz' np = sz u + 1)
    (f4 : ∀ j, j < np * 4 → b4 j = upd a4 (u * 4 + l) (nI np) j) (f5 : ∀ j, j < np * 4 → b5 j = a5 j)
    (g4 : ∀ i, i < 4 → b4 (np * 4 + i) = -1) (g5 : ∀ i, i < 4 → b5 (np * 4 + i) = if i = l then a5 (u * 4 + i) + 1 else a5 (u * 4 + i)) :
    lz_D (np + 1) w' sz' (upd a1 np (nI u)) (upd a2 np (nI l)) (upd a3 np (a3 u + 1)) b4 b5 := by
  obtain ⟨u1, u2, u3, u4, u5, u6, u7, u8⟩ := h u hu
  intro p hp
  by_cases e : p = np
  · subst e
    refine ⟨by omega, fun j => ?_, ?_, ?_, Or.inr ⟨u, hu, pk_us, by rw [sn, hs u hu], fun j hj => ?_⟩, fun i hi => ?_, fun i hi => Or.inl (g4 i hi), fun z => absurd z (by omega)⟩
    · by_cases z : j < sz u
      · rw [wn1 j z]
        exact u2 j
      · rw [wn2 j (by omega)]
        exact hl
    · rw [pk_us, sn, Nat.add_sub_cancel, wn2 _ (Nat.le_refl _)]
    · rw [pk_us, u4, nI_1, sn]
    · rw [hs u hu] at hj
      rw [wn1 j hj, hw u hu]
    · rw [g5 i hi, u6 i hi, sn]
      show _ = nI (lz_ct (w' p) i (sz u) + (if w' p (sz u) = i then 1 else 0))
      rw [wn2 _ (Nat.le_refl _), lz_ct_c wn1]
      by_cases e : i = l
      · rw [if_pos e, if_pos e.symm, nI_1]
      · rw [if_neg e, if_neg (fun z => e z.symm)]
        rfl
  · have hp' : p < np := by omega
    refine lz_ok_c (h p hp') hp' (by omega) hw hs (pk_un e) (pk_un e) (pk_un e) (fun i hi => f5 _ (by omega)) (fun i hi => ?_)
    rw [f4 _ (by omega)]
    by_cases ep : p * 4 + i = u * 4 + l
    · have e1 : p = u := by omega
      have e2 : i = l := by omega
      subst e1 e2
      refine Or.inr ⟨np, by omega, pk_us, by rw [sn, hs p hp'], fun j hj => ?_, ?_⟩
      · rw [hs p hp'] at hj
        rw [wn1 j hj, hw p hp']
      · rw [hs p hp']
        exact wn2 _ (Nat.le_refl _)
    · exact Or.inl (pk_un ep)
end
end
section
/-! ===== makePhrase, start, the constructor ===== -/
section
variable {post : St2 → Prop} {h t c o m y : Int32} {a1 a2 a3 a4 a5 a6 a7 a8 a9 a10 a11 : Nat → Int32}
theorem lz_mp39 {p l : Nat} {up : Int32} {b : Nat → Int32} (hp : p < 128) (hl : l < 4)
    (hb : (up = -1 ∧ ∀ i, i < 4 → b i = 0) ∨ (∃ u, u < p ∧ up = nI u ∧ ∀ i, i < 4 → b i = a5 (u * 4 + i)))
    (H : ∀ b4 b5 : Nat → Int32, (∀ j, j < p * 4 → b4 j = a4 j) → (∀ j, j < p * 4 → b5 j = a5 j) → (∀ i, i < 4 → b4 (p * 4 + i) = -1) → (∀ i, i < 4 → b5 (p * 4 + i) = if i = l then b i + 1 else b i) → post (h, t, c, o, m, y, a1, a2, a3, b4, b5, a6, a7, a8, a9, a10, a11)) :
    ∃ n, wX_makePhrase_39 post (nI p) up (nI l) h t c o m y n 0 a1 a2 a3 a4 a5 a6 a7 a8 a9 a10 a11 := by
  refine pk_loop (σ := (Nat → Int32) × (Nat → Int32)) (fun n i s => wX_makePhrase_39 post (nI p) up (nI l) h t c o m y n (nI i) a1 a2 a3 s.1 s.2 a6 a7 a8 a9 a10 a11)
    (fun i s => (∀ j, j < p * 4 → s.1 j = a4 j ∧ s.2 j = a5 j) ∧ (∀ k, k < i → s.1 (p * 4 + k) = -1 ∧ s.2 (p * 4 + k) = b k)) 4 0 (a4, a5) (by omega) ⟨fun j _ => ⟨rfl, rfl⟩, fun k hk => absurd hk (by omega)⟩ ?_ ?_
  · intro n s hI
    obtain ⟨i1, i2⟩ := hI
    refine pk_le 4 4 (fun _ => ⟨pk_in (p * 4 + l) 512 (by omega) (lz_ix p l), pk_in (p * 4 + l) 512 (by omega) (lz_ix p l), fun b5 e5 => ?_⟩) (fun z => absurd z (by omega))
    rw [lz_cl4 (by omega)] at e5
    subst e5
    refine H _ _ (fun j hj => (i1 j hj).1) (fun j hj => ?_) (fun i hi => (i2 i hi).1) (fun i hi => ?_)
    · rw [pk_un (by omega)]
      exact (i1 j hj).2
    · by_cases e : i = l
      · rw [if_pos e, e, pk_us, (i2 l hl).2]
      · rw [if_neg e, pk_un (by omega)]
        exact (i2 i hi).2
  · intro n i s hi hI hw
    obtain ⟨i1, i2⟩ := hI
    have J : ∀ v, v = b i → (∀ j, j < p * 4 → upd s.1 (p * 4 + i) (-1) j = a4 j ∧ upd s.2 (p * 4 + i) v j = a5 j) ∧ (∀ k, k < i + 1 → upd s.1 (p * 4 + i) (-1) (p * 4 + k) = -1 ∧ upd s.2 (p * 4 + i) v (p * 4 + k) = b k) := by
      intro v hv
      refine ⟨fun j hj => ?_, fun k hk => ?_⟩
      · rw [pk_un (by omega), pk_un (by omega)]
        exact i1 j hj
      · by_cases e : k = i
        · rw [e, pk_us, pk_us]
          exact ⟨rfl, hv⟩
        · rw [pk_un (by omega), pk_un (by omega)]
          exact i2 k (by omega)
    refine pk_le 4 i (fun z => absurd z (by omega)) (fun _ => ⟨pk_in (p * 4 + i) 512 (by omega) (lz_ix p i), fun b4 e4 => ?_⟩)
    rw [lz_cl4 (by omega)] at e4
    subst e4
    rcases hb with ⟨eu, hb⟩ | ⟨u, hu, eu, hb⟩
    · subst eu
      refine br_f (by decide) ⟨pk_in (p * 4 + i) 512 (by omega) (lz_ix p i), fun b5 e5 => ?_⟩
      rw [lz_cl4 (by omega)] at e5
      subst e5
      exact nm_r (nI_1 i) (hw (_, _) (J _ (hb i hi).symm))
    · subst eu
      refine br_t (nI_pos' (by omega)) ⟨pk_in (u * 4 + i) 512 (by omega) (lz_ix u i), pk_in (p * 4 + i) 512 (by omega) (lz_ix p i), fun b5 e5 => ?_⟩
      rw [lz_cl4 (by omega), lz_cl4 (by omega)] at e5
      subst e5
      exact nm_r (nI_1 i) (hw (_, _) (J _ ((i1 _ (by omega)).2.trans (hb i hi).symm)))
theorem lz_mp {p l : Nat} {up z : Int32} {b : Nat → Int32} (hp : p < 128) (hl : l < 4)
    (hb : (up = -1 ∧ z = 1 ∧ ∀ i, i < 4 → b i = 0) ∨ (∃ u, u < p ∧ up = nI u ∧ z = a3 u + 1 ∧ ∀ i, i < 4 → b i = a5 (u * 4 + i)))
    (H : ∀ b4 b5 : Nat → Int32, (∀ j, j < p * 4 → b4 j = a4 j) → (∀ j, j < p * 4 → b5 j = a5 j) → (∀ i, i < 4 → b4 (p * 4 + i) = -1) → (∀ i, i < 4 → b5 (p * 4 + i) = if i = l then b i + 1 else b i) → post (h, t, c, o, m, y, upd a1 p up, upd a2 p (nI l), upd a3 p z, b4, b5, a6, a7, a8, a9, a10, a11)) :
    wpX_makePhrase post (h, t, c, o, m, y, a1, a2, a3, a4, a5, a6, a7, a8, a9, a10, a11) (nI p) up (nI l) := by
  refine ⟨pk_in p 128 hp, fun b1 e1 => ⟨pk_in p 128 hp, fun b2 e2 => ?_⟩⟩
  rw [nI_clamp (by omega)] at e1 e2
  subst e1 e2
  rcases hb with ⟨eu, ez, hb⟩ | ⟨u, hu, eu, ez, hb⟩
  · subst eu ez
    refine br_f (by decide) ⟨pk_in p 128 hp, fun b3 e3 => ?_⟩
    rw [nI_clamp (by omega)] at e3
    subst e3
    exact lz_mp39 hp hl (Or.inl ⟨rfl, hb⟩) H
  · subst eu ez
    refine br_t (nI_pos' (by omega)) ⟨pk_in u 128 (by omega), pk_in p 128 hp, fun b3 e3 => ?_⟩
    rw [nI_clamp (by omega), nI_clamp (by omega)] at e3
    subst e3
    exact lz_mp39 hp hl (Or.inr ⟨u, hu, rfl, hb⟩) H
theorem lz_start (H : ∀ b1 b2 b3 b4 b5 : Nat → Int32, lz_D 4 (fun p _ => p) (fun _ => 1) b1 b2 b3 b4 b5 → post (4, 0, 0, -1, m, 0, b1, b2, b3, b4, b5, a6, a7, a8, a9, a10, a11)) :
    wpX_start post (h, t, c, o, m, y, a1, a2, a3, a4, a5, a6, a7, a8, a9, a10, a11) := by
  refine pk_loop (σ := (Nat → Int32) × (Nat → Int32) × (Nat → Int32) × (Nat → Int32) × (Nat → Int32)) (fun n i s => wX_start_27 post n (nI i) 4 0 0 (-1) m 0 s.1 s.2.1 s.2.2.1 s.2.2.2.1 s.2.2.2.2 a6 a7 a8 a9 a10 a11)
    (fun i s => lz_D i (fun p _ => p) (fun _ => 1) s.1 s.2.1 s.2.2.1 s.2.2.2.1 s.2.2.2.2) 4 0 (a1, a2, a3, a4, a5) (by omega) (fun p hp => absurd hp (by omega)) ?_ ?_
  · intro n s hI
    exact pk_le 4 4 (fun _ => H _ _ _ _ _ hI) (fun z => absurd z (by omega))
  · intro n i s hi hI hw
    exact pk_le 4 i (fun z => absurd z (by omega)) (fun _ => lz_mp (p := i) (l := i) (z := 1) (b := fun _ => 0) (by omega) hi (Or.inl ⟨rfl, rfl, fun _ _ => rfl⟩) (fun b4 b5 f4 f5 g4 g5 => nm_r (nI_1 i) (hw (_, _, _, b4, b5) (lz_D_letter hi hI f4 f5 g4 g5))))
theorem lz_init {mc ms : Nat} (hc : 11 ≤ mc) (hs : 4519 ≤ ms) (H : ∀ b1 b2 b3 b4 b5 : Nat → Int32, lz_D 4 (fun p _ => p) (fun _ => 1) b1 b2 b3 b4 b5 → post (4, 0, 0, -1, m, 0, b1, b2, b3, b4, b5, (fun _ => 0), (fun _ => 0), (fun _ => 0), (fun _ => 0), (fun _ => 0), (fun _ => 0))) :
    wpX_init post mc ms (h, t, c, o, m, y) := by
  refine ⟨by omega, by omega, by omega, by omega, by omega, by omega, by omega, by omega, by omega, by omega, by omega, by omega, by omega, by omega, by omega, by omega, by omega, by omega, by omega, by omega, by omega, by omega, ?_⟩
  exact lz_start H
end
end
section
/-! ===== the text: phrase number i is ph i, it begins at S i; append ===== -/
/-- a state of n letters T: nc codes, the dictionary, the text's pieces -/
def lz_K (n nc : Nat) (w : Nat → Nat → Nat) (sz ph S T : Nat → Nat) (a1 a2 a3 a4 a5 a6 a7 : Nat → Int32) : Prop :=
  lz_D (nc + 4) w sz a1 a2 a3 a4 a5 ∧ nc < n ∧ n ≤ 120 ∧ (∀ p, p < nc + 4 → sz p ≤ n) ∧ (∀ i, i ≤ nc → ph i < nc + 4) ∧ (∀ i, i < nc → a6 i = nI (ph i)) ∧
  S 0 = 0 ∧ (∀ i, i ≤ nc → S (i + 1) = S i + sz (ph i)) ∧ S (nc + 1) = n ∧ (∀ i, i ≤ nc → a7 i = nI (S i)) ∧ (∀ i, i ≤ nc → ∀ j, j < sz (ph i) → w (ph i) j = T (S i + j))
section
variable {n nc : Nat} {w : Nat → Nat → Nat} {sz ph S T : Nat → Nat} {m y : Int32} {a1 a2 a3 a4 a5 a6 a7 a8 a9 a10 a11 : Nat → Int32}
theorem lz_K_S (k : lz_K n nc w sz ph S T a1 a2 a3 a4 a5 a6 a7) {i : Nat} (hi : i ≤ nc + 1) : S i ≤ n := by
  obtain ⟨_, _, _, _, _, _, _, k8, k9, _, _⟩ := k
  rw [← k9]
  exact lz_ord (fun j hj => by rw [k8 j hj]; omega) hi (Nat.le_refl _)
/-- the phrase under way grows to a child that is there -/
theorem lz_K_child (k : lz_K n nc w sz ph S T a1 a2 a3 a4 a5 a6 a7) (hn : n < 120) {c : Nat} (hc : c < nc + 4) (hs : sz c = sz (ph nc) + 1) (hw : ∀ j, j < sz (ph nc) → w c j = w (ph nc) j) (hl : w c (sz (ph nc)) = T n)
    {ph' S' : Nat → Nat} (hph : ∀ i, i < nc → ph' i = ph i) (phn : ph' nc = c) (hS : ∀ i, i ≤ nc → S' i = S i) (Sn : S' (nc + 1) = n + 1) :
    lz_K (n + 1) nc w sz ph' S' T a1 a2 a3 a4 a5 a6 a7 := by
  obtain ⟨k1, k2, k3, k4, k5, k6, k7, k8, k9, k10, k11⟩ := k
  have e1 := k8 nc (Nat.le_refl _)
  refine ⟨k1, by omega, by omega, fun p hp => Nat.le_succ_of_le (k4 p hp), fun i hi => ?_, fun i hi => ?_, ?_, fun i hi => ?_, Sn, fun i hi => ?_, fun i hi => ?_⟩
  · by_cases e : i = nc
    · rw [e, phn]
      exact hc
    · rw [hph i (by omega)]
      exact k5 i hi
  · rw [hph i hi]
    exact k6 i hi
  · rw [hS 0 (by omega), k7]
  · by_cases e : i = nc
    · rw [e, phn, Sn, hS nc (Nat.le_refl _), hs]
      omega
    · rw [hph i (by omega), hS i hi, hS (i + 1) (by omega)]
      exact k8 i hi
  · rw [hS i hi]
    exact k10 i hi
  · rw [hS i hi]
    by_cases e : i = nc
    · rw [e, phn, hs]
      intro j hj
      by_cases ej : j = sz (ph nc)
      · rw [ej, hl]
        exact congrArg T (by omega)
      · rw [hw j (by omega)]
        exact k11 nc (Nat.le_refl _) j (by omega)
    · rw [hph i (by omega)]
      exact k11 i hi
/-- the phrase under way becomes a code; a new phrase is made; the letter is the phrase under way -/
theorem lz_K_new (k : lz_K n nc w sz ph S T a1 a2 a3 a4 a5 a6 a7) (hn : n < 120) {l : Nat} (hl : l < 4) (hT : T n = l) {b4 b5 : Nat → Int32} {w' : Nat → Nat → Nat} {sz' ph' S' : Nat → Nat}
    (hw : ∀ x, x < nc + 4 → w' x = w x) (hs : ∀ x, x < nc + 4 → sz' x = sz x) (wn1 : ∀ j, j < sz (ph nc) → w' (nc + 4) j = w (ph nc) j) (wn2 : ∀ j, sz (ph nc) ≤ j → w' (nc + 4) j = l) (sn : sz' (nc + 4) = sz (ph nc) + 1)
    (hph : ∀ i, i ≤ nc → ph' i = ph i) (phn : ph' (nc + 1) = l) (hS : ∀ i, i ≤ nc + 1 → S' i = S i) (Sn : S' (nc + 2) = n + 1)
    (f4 : ∀ j, j < (nc + 4) * 4 → b4 j = upd a4 (ph nc * 4 + l) (nI (nc + 4)) j) (f5 : ∀ j, j < (nc + 4) * 4 → b5 j = a5 j)
    (g4 : ∀ i, i < 4 → b4 ((nc + 4) * 4 + i) = -1) (g5 : ∀ i, i < 4 → b5 ((nc + 4) * 4 + i) = if i = l then a5 (ph nc * 4 + i) + 1 else a5 (ph nc * 4 + i)) :
    lz_K (n + 1) (nc + 1) w' sz' ph' S' T (upd a1 (nc + 4) (nI (ph nc))) (upd a2 (nc + 4) (nI l)) (upd a3 (nc + 4) (a3 (ph nc) + 1)) b4 b5 (upd a6 nc (nI (ph nc))) (upd a7 (nc + 1) (nI n)) := by
  obtain ⟨k1, k2, k3, k4, k5, k6, k7, k8, k9, k10, k11⟩ := k
  have hu := k5 nc (Nat.le_refl _)
  have D := lz_D_new (np := nc + 4) (by omega) k1 hu hl hw hs wn1 wn2 sn f4 f5 g4 g5
  rw [show nc + 4 + 1 = nc + 1 + 4 by omega] at D
  obtain ⟨_, _, _, _, _, _, _, l8⟩ := k1 l (by omega)
  obtain ⟨l8, l9⟩ := l8 hl
  refine ⟨D, by omega, by omega, fun p hp => ?_, fun i hi => ?_, fun i hi => ?_, ?_, fun i hi => ?_, Sn, fun i hi => ?_, fun i hi => ?_⟩
  · have q := k4 (ph nc) hu
    by_cases e : p = nc + 4
    · rw [e, sn]
      omega
    · rw [hs p (by omega)]
      have := k4 p (by omega)
      omega
  · by_cases e : i = nc + 1
    · rw [e, phn]
      omega
    · rw [hph i (by omega)]
      have := k5 i (by omega)
      omega
  · rw [hph i (by omega)]
    by_cases e : i = nc
    · rw [e, pk_us]
    · rw [pk_un e]
      exact k6 i (by omega)
  · rw [hS 0 (by omega), k7]
  · by_cases e : i = nc + 1
    · rw [e, phn, Sn, hS (nc + 1) (Nat.le_refl _), hs l (by omega), l8, k9]
    · rw [hph i (by omega), hS i (by omega), hS (i + 1) (by omega), hs _ (k5 i (by omega))]
      exact k8 i (by omega)
  · rw [hS i (by omega)]
    by_cases e : i = nc + 1
    · rw [e, pk_us, k9]
    · rw [pk_un e]
      exact k10 i (by omega)
  · rw [hS i (by omega)]
    by_cases e : i = nc + 1
    · rw [e, phn, hs l (by omega), hw l (by omega), l8, k9]
      intro j hj
      have : j = 0 := by omega
      subst this
      rw [l9]
      exact hT.symm
    · rw [hph i (by omega), hs _ (k5 i (by omega)), hw _ (k5 i (by omega))]
      exact k11 i (by omega)
/-- append, a letter behind others -/
theorem lz_app {post : Int32 → St2 → Prop} (k : lz_K n nc w sz ph S T a1 a2 a3 a4 a5 a6 a7) (hn : n < 120) {l : Nat} (hl : l < 4) (hT : T n = l)
    (H : ∀ (nc' : Nat) (w' : Nat → Nat → Nat) (sz' ph' S' : Nat → Nat) (b1 b2 b3 b4 b5 b6 b7 : Nat → Int32), lz_K (n + 1) nc' w' sz' ph' S' T b1 b2 b3 b4 b5 b6 b7 → post (nI (n + 1)) (nI (nc' + 4), nI (n + 1), nI nc', nI (ph' nc'), m, 0, b1, b2, b3, b4, b5, b6, b7, a8, a9, a10, a11)) :
    wpX_append post (nI (nc + 4), nI n, nI nc, nI (ph nc), m, y, a1, a2, a3, a4, a5, a6, a7, a8, a9, a10, a11) (nI l) := by
  have k' := k
  obtain ⟨k1, k2, k3, k4, k5, k6, k7, k8, k9, k10, k11⟩ := k
  have hu := k5 nc (Nat.le_refl _)
  obtain ⟨u1, u2, u3, u4, u5, u6, u7, u8⟩ := k1 (ph nc) hu
  refine br_f (nI_pos (by omega)) (br_t (nI_le (b := 3) (by omega) (by decide)) (br_t (nI_lt (b := 120) hn (by decide)) (br_t (nI_pos' (by omega)) ⟨pk_in (ph nc * 4 + l) 512 (by omega) (lz_ix _ _), ?_⟩)))
  rw [lz_cl4 (by omega)]
  rcases u7 l hl with hc | ⟨c, hc, c1, c2, c3, c4⟩
  · refine br_t (by rw [hc]; decide) ⟨pk_in (ph nc * 4 + l) 512 (by omega) (lz_ix _ _), nm_e (lz_mp (p := nc + 4) (b := fun i => a5 (ph nc * 4 + i)) (by omega) hl (Or.inr ⟨ph nc, hu, rfl, rfl, fun _ _ => rfl⟩) (fun b4 b5 f4 f5 g4 g5 => ?_))⟩
    refine nm_r (nI_1 (nc + 4)) ⟨pk_in nc 120 (by omega), nm_r (e' := upd a6 nc (nI (ph nc))) (by rw [nI_clamp (by omega)]) (nm_r (nI_1 nc) ⟨pk_in (nc + 1) 121 (by omega), nm_r (e' := upd a7 (nc + 1) (nI n)) (by rw [nI_clamp (by omega)]) (nm_r (nI_1 n) ?_)⟩)⟩
    obtain ⟨w', hw, wn1, wn2⟩ : ∃ w' : Nat → Nat → Nat, (∀ x, x < nc + 4 → w' x = w x) ∧ (∀ j, j < sz (ph nc) → w' (nc + 4) j = w (ph nc) j) ∧ (∀ j, sz (ph nc) ≤ j → w' (nc + 4) j = l) :=
      ⟨fun x j => if x = nc + 4 then (if j < sz (ph nc) then w (ph nc) j else l) else w x j, fun x hx => funext (fun j => if_neg (by omega)), fun j hj => (if_pos rfl).trans (if_pos hj), fun j hj => (if_pos rfl).trans (if_neg (by omega))⟩
    obtain ⟨sz', hs, sn⟩ : ∃ sz' : Nat → Nat, (∀ x, x < nc + 4 → sz' x = sz x) ∧ sz' (nc + 4) = sz (ph nc) + 1 := ⟨fun x => if x = nc + 4 then sz (ph nc) + 1 else sz x, fun x hx => if_neg (by omega), if_pos rfl⟩
    obtain ⟨ph', hph, phn⟩ : ∃ ph' : Nat → Nat, (∀ x, x ≤ nc → ph' x = ph x) ∧ ph' (nc + 1) = l := ⟨fun x => if x = nc + 1 then l else ph x, fun x hx => if_neg (by omega), if_pos rfl⟩
    obtain ⟨S', hS, Sn⟩ : ∃ S' : Nat → Nat, (∀ x, x ≤ nc + 1 → S' x = S x) ∧ S' (nc + 2) = n + 1 := ⟨fun x => if x = nc + 2 then n + 1 else S x, fun x hx => if_neg (by omega), if_pos rfl⟩
    have q := H _ _ _ _ _ _ _ _ _ _ _ _ (lz_K_new k' hn hl hT hw hs wn1 wn2 sn hph phn hS Sn f4 f5 g4 g5)
    rw [phn] at q
    exact q
  · refine br_f (by rw [c1]; exact nI_pos (by omega)) ⟨pk_in (ph nc * 4 + l) 512 (by omega) (lz_ix _ _), nm_r c1 (nm_r (nI_1 n) ?_)⟩
    obtain ⟨ph', hph, phn⟩ : ∃ ph' : Nat → Nat, (∀ x, x < nc → ph' x = ph x) ∧ ph' nc = c := ⟨fun x => if x = nc then c else ph x, fun x hx => if_neg (by omega), if_pos rfl⟩
    obtain ⟨S', hS, Sn⟩ : ∃ S' : Nat → Nat, (∀ x, x ≤ nc → S' x = S x) ∧ S' (nc + 1) = n + 1 := ⟨fun x => if x = nc + 1 then n + 1 else S x, fun x hx => if_neg (by omega), if_pos rfl⟩
    have q := H _ _ _ _ _ _ _ _ _ _ _ _ (lz_K_child k' hn hc c2 c3 (c4.trans hT.symm) hph phn hS Sn)
    rw [phn] at q
    exact q
/-- append, the first letter -/
theorem lz_app0 {post : Int32 → St2 → Prop} (k : lz_D 4 (fun p _ => p) (fun _ => 1) a1 a2 a3 a4 a5) {l : Nat} (hl : l < 4) (hT : T 0 = l)
    (H : ∀ (nc' : Nat) (w' : Nat → Nat → Nat) (sz' ph' S' : Nat → Nat) (b1 b2 b3 b4 b5 b6 b7 : Nat → Int32), lz_K 1 nc' w' sz' ph' S' T b1 b2 b3 b4 b5 b6 b7 → post (nI 1) (nI (nc' + 4), nI 1, nI nc', nI (ph' nc'), m, 0, b1, b2, b3, b4, b5, b6, b7, a8, a9, a10, a11)) :
    wpX_append post (4, 0, 0, -1, m, y, a1, a2, a3, a4, a5, a6, a7, a8, a9, a10, a11) (nI l) := by
  refine br_f (nI_pos (by omega)) (br_t (nI_le (b := 3) (by omega) (by decide)) (br_t (by decide) (br_f (by decide) ⟨pk_in 0 121 (by omega), nm_r (e' := upd a7 0 (nI 0)) rfl (nm_r (nI_1 0) ?_)⟩)))
  refine H 0 (fun p _ => p) (fun _ => 1) (fun _ => l) (fun i => i) a1 a2 a3 a4 a5 a6 (upd a7 0 (nI 0)) ⟨k, by omega, by omega, fun _ _ => Nat.le_refl 1, fun _ _ => by omega, fun i hi => absurd hi (by omega), rfl, fun _ _ => rfl, rfl, fun i hi => ?_, fun i hi j hj => ?_⟩
  · have : i = 0 := by omega
    subst this
    exact pk_us
  · have e1 : i = 0 := by omega
    have e2 : j = 0 := by
      have hj' : j < 1 := hj
      omega
    subst e1 e2
    exact hT.symm
end
end
section
/-! ===== phraseHolding, phraseAt, beginning, letterAt, repeat ===== -/
section
variable {n nc : Nat} {w : Nat → Nat → Nat} {sz ph S T : Nat → Nat} {m y : Int32} {a1 a2 a3 a4 a5 a6 a7 a8 a9 a10 a11 : Nat → Int32}
theorem lz_mn1 {a b c : Nat} (h : min a c = min b c) (z : a ≤ c) : a = min b c := by omega
theorem lz_mid {a b : Nat} (h : a + b + 1 < 2 ^ 31) : (nI a + nI b + 1) / 2 = nI ((a + b + 1) / 2) := by
  rw [nI_add, nI_1]
  exact pk_div (d := 2) h (by decide) (by decide)
theorem lz_ph {post : Int32 → Prop} (k : lz_K n nc w sz ph S T a1 a2 a3 a4 a5 a6 a7) {x : Nat} (hx : x < n) (H : ∀ i, i ≤ nc → S i ≤ x → x < S (i + 1) → post (nI i)) :
    wpX_phraseHolding post (nI (nc + 4), nI n, nI nc, nI (ph nc), m, y, a1, a2, a3, a4, a5, a6, a7, a8, a9, a10, a11) (nI x) := by
  have hS : ∀ i, i ≤ nc + 1 → S i ≤ n := fun i hi => lz_K_S k hi
  obtain ⟨k1, k2, k3, k4, k5, k6, k7, k8, k9, k10, k11⟩ := k
  refine loop_m (σ := Nat × Nat) (fun f s => wX_phraseHolding_7 post (nI x) (nI (nc + 4)) (nI n) (nI nc) (nI (ph nc)) m y a1 a2 a3 a4 a5 a6 a7 a8 a9 a10 a11 f (nI s.1) (nI s.2)) (fun s => s.1 ≤ s.2 ∧ s.2 ≤ nc ∧ S s.1 ≤ x ∧ x < S (s.2 + 1)) (fun s => s.2 - s.1) ?_ (0, nc) ⟨Nat.zero_le _, Nat.le_refl _, by show S 0 ≤ x; omega, by show x < S (nc + 1); omega⟩
  intro f s hI hw
  obtain ⟨lo, hi⟩ := s
  obtain ⟨h1, h2, h3, h4⟩ := hI
  have h1 : lo ≤ hi := h1
  have h2 : hi ≤ nc := h2
  have h3 : S lo ≤ x := h3
  have h4 : x < S (hi + 1) := h4
  refine pk_le hi lo (fun z => ?_) (fun z => ⟨by decide, nm_r (lz_mid (by omega)) ⟨pk_in ((lo + hi + 1) / 2) 121 (by omega), ?_⟩⟩)
  · have e : hi = lo := by omega
    rw [e] at h4
    exact H lo (by omega) h3 h4
  · rw [nI_clamp (by omega), k10 ((lo + hi + 1) / 2) (by omega)]
    have b := hS ((lo + hi + 1) / 2) (by omega)
    refine pk_lt x (S ((lo + hi + 1) / 2)) (fun z => ?_) (fun z => ?_)
    · refine nm_r (e' := nI ((lo + hi + 1) / 2 - 1)) ?_ (hw (lo, (lo + hi + 1) / 2 - 1) ⟨?_, ?_, h3, ?_⟩ ?_)
      · exact pk_sub (b := 1) (by omega)
      · show lo ≤ (lo + hi + 1) / 2 - 1
        omega
      · show (lo + hi + 1) / 2 - 1 ≤ nc
        omega
      · show x < S ((lo + hi + 1) / 2 - 1 + 1)
        rw [show (lo + hi + 1) / 2 - 1 + 1 = (lo + hi + 1) / 2 by omega]
        exact z
      · show (lo + hi + 1) / 2 - 1 - lo < hi - lo
        omega
    · refine hw ((lo + hi + 1) / 2, hi) ⟨?_, h2, z, h4⟩ ?_
      · show (lo + hi + 1) / 2 ≤ hi
        omega
      · show hi - (lo + hi + 1) / 2 < hi - lo
        omega
theorem lz_pa {post : Int32 → Prop} (k : lz_K n nc w sz ph S T a1 a2 a3 a4 a5 a6 a7) {i : Nat} (hi : i ≤ nc) (H : post (nI (ph i))) : wpX_phraseAt post (nI (nc + 4), nI n, nI nc, nI (ph nc), m, y, a1, a2, a3, a4, a5, a6, a7, a8, a9, a10, a11) (nI i) := by
  obtain ⟨k1, k2, k3, k4, k5, k6, k7, k8, k9, k10, k11⟩ := k
  refine pk_le nc i (fun z => ?_) (fun z => ⟨pk_in i 120 (by omega), ?_⟩)
  · have e : i = nc := by omega
    rw [e] at H
    exact H
  · rw [nI_clamp (by omega), k6 i z]
    exact H
theorem lz_bg {post : Int32 → Prop} (k : lz_K n nc w sz ph S T a1 a2 a3 a4 a5 a6 a7) {p c : Nat} (hp : p < nc + 4) (h1 : 1 ≤ c) (hc : c < 2 ^ 31)
    (H : ∀ p', p' < nc + 4 → sz p' = min (sz p) c → (∀ j, j < sz p' → w p' j = w p j) → post (nI p')) :
    wpX_beginning post (nI (nc + 4), nI n, nI nc, nI (ph nc), m, y, a1, a2, a3, a4, a5, a6, a7, a8, a9, a10, a11) (nI p) (nI c) := by
  obtain ⟨k1, k2, k3, k4, k5, k6, k7, k8, k9, k10, k11⟩ := k
  refine loop_m (σ := Nat) (fun f s => wX_beginning_2 post (nI c) (nI (nc + 4)) (nI n) (nI nc) (nI (ph nc)) m y a1 a2 a3 a4 a5 a6 a7 a8 a9 a10 a11 f (nI s)) (fun s => s < nc + 4 ∧ min (sz s) c = min (sz p) c ∧ ∀ j, j < sz s → w s j = w p j) (fun s => s) ?_ p ⟨hp, rfl, fun _ _ => rfl⟩
  intro f s hI hw
  obtain ⟨i1, i2, i3⟩ := hI
  obtain ⟨u1, u2, u3, u4, u5, u6, u7, u8⟩ := k1 s i1
  have b := k4 s i1
  refine ⟨pk_in s 128 (by omega), ?_⟩
  rw [nI_clamp (show s < 2 ^ 31 by omega), u4]
  refine pk_le (sz s) c (fun z => H s i1 (lz_mn1 i2 z) i3) (fun z => ⟨pk_in s 128 (by omega), ?_⟩)
  rcases u5 with ⟨e, _⟩ | ⟨u, hu, e, eu, hwu⟩
  · omega
  · exact nm_r e (hw u ⟨by omega, by omega, fun j hj => (hwu j hj).symm.trans (i3 j (by omega))⟩ hu)
theorem lz_la {post : Int32 → Prop} (k : lz_K n nc w sz ph S T a1 a2 a3 a4 a5 a6 a7) {x : Nat} (hx : x < n) (H : post (nI (T x))) : wpX_letterAt post (nI (nc + 4), nI n, nI nc, nI (ph nc), m, y, a1, a2, a3, a4, a5, a6, a7, a8, a9, a10, a11) (nI x) := by
  have k' := k
  obtain ⟨k1, k2, k3, k4, k5, k6, k7, k8, k9, k10, k11⟩ := k
  refine br_f (nI_pos (by omega)) (br_t (nI_lt hx (by omega)) (lz_ph k' hx (fun i hi s1 s2 => lz_pa k' hi ⟨pk_in i 121 (by omega), ?_⟩)))
  rw [nI_clamp (by omega), k10 i hi, pk_sub s1, nI_1]
  refine lz_bg k' (k5 i hi) (by omega) (by omega) (fun p' hp' e1 e2 => ⟨pk_in p' 128 (by omega), ?_⟩)
  have e3 := k8 i hi
  have e4 : sz p' = x - S i + 1 := by omega
  have u3 := (k1 p' hp').2.2.1
  rw [nI_clamp (by omega), u3, e2 _ (by omega), k11 i hi _ (by omega), show S i + (sz p' - 1) = x by omega]
  exact H
/-- repeat(0, c) over a text of n letters: the letters go on -/
theorem lz_rep {post : Int32 → St2 → Prop} (k : lz_K n nc w sz ph S T a1 a2 a3 a4 a5 a6 a7) {c : Nat} (hc : n + c ≤ 120) (hT : ∀ j, T j < 4) (hp : ∀ i, i < c → T (n + i) = T i)
    (H : ∀ (nc' : Nat) (w' : Nat → Nat → Nat) (sz' ph' S' : Nat → Nat) (y' : Int32) (b1 b2 b3 b4 b5 b6 b7 : Nat → Int32), lz_K (n + c) nc' w' sz' ph' S' T b1 b2 b3 b4 b5 b6 b7 → post (nI (n + c)) (nI (nc' + 4), nI (n + c), nI nc', nI (ph' nc'), m, y', b1, b2, b3, b4, b5, b6, b7, a8, a9, a10, a11)) :
    wpX_repeat post (nI (nc + 4), nI n, nI nc, nI (ph nc), m, y, a1, a2, a3, a4, a5, a6, a7, a8, a9, a10, a11) 0 (nI c) := by
  have hn : 0 < n := by
    obtain ⟨_, k2, _⟩ := k
    omega
  refine br_t (nI_pos' (by omega)) (br_f (by decide) (br_t (nI_lt (a := 0) hn (by omega)) (br_t ?_ ?_)))
  · rw [show (120 : Int32) - nI n = nI (120 - n) from pk_sub (a := 120) (by omega)]
    exact nI_le (by omega) (by omega)
  refine pk_loop (σ := Int32 × Int32 × Int32 × Int32 × Int32 × (Nat → Int32) × (Nat → Int32) × (Nat → Int32) × (Nat → Int32) × (Nat → Int32) × (Nat → Int32) × (Nat → Int32))
    (fun f i s => wX_repeat_42 post 0 (nI c) f (nI i) s.1 s.2.1 s.2.2.1 s.2.2.2.1 m s.2.2.2.2.1 s.2.2.2.2.2.1 s.2.2.2.2.2.2.1 s.2.2.2.2.2.2.2.1 s.2.2.2.2.2.2.2.2.1 s.2.2.2.2.2.2.2.2.2.1 s.2.2.2.2.2.2.2.2.2.2.1 s.2.2.2.2.2.2.2.2.2.2.2 a8 a9 a10 a11)
    (fun i s => ∃ (nc' : Nat) (w' : Nat → Nat → Nat) (sz' ph' S' : Nat → Nat) (y' : Int32) (b1 b2 b3 b4 b5 b6 b7 : Nat → Int32), lz_K (n + i) nc' w' sz' ph' S' T b1 b2 b3 b4 b5 b6 b7 ∧ s = (nI (nc' + 4), nI (n + i), nI nc', nI (ph' nc'), y', b1, b2, b3, b4, b5, b6, b7))
    c 0 (nI (nc + 4), nI n, nI nc, nI (ph nc), y, a1, a2, a3, a4, a5, a6, a7) (by omega) ⟨nc, w, sz, ph, S, y, a1, a2, a3, a4, a5, a6, a7, k, rfl⟩ ?_ ?_
  · intro f s hI
    obtain ⟨nc', w', sz', ph', S', y', b1, b2, b3, b4, b5, b6, b7, k', e⟩ := hI
    subst e
    exact pk_le c c (fun _ => H _ _ _ _ _ _ _ _ _ _ _ _ _ k') (fun z => absurd z (by omega))
  · intro f i s hi hI hw
    obtain ⟨nc', w', sz', ph', S', y', b1, b2, b3, b4, b5, b6, b7, k', e⟩ := hI
    subst e
    refine pk_le c i (fun z => absurd z (by omega)) (fun _ => ?_)
    rw [show (0 : Int32) + nI i = nI i by rw [← nI_0, nI_add, Nat.zero_add]]
    refine lz_la k' (by omega) (lz_app k' (by omega) (hT i) (hp i hi) (fun nc2 w2 sz2 ph2 S2 c1 c2 c3 c4 c5 c6 c7 k2 => nm_r (nI_1 i) (hw (nI (nc2 + 4), nI (n + i + 1), nI nc2, nI (ph2 nc2), 0, c1, c2, c3, c4, c5, c6, c7) ⟨nc2, w2, sz2, ph2, S2, 0, c1, c2, c3, c4, c5, c6, c7, k2, rfl⟩)))
end
end
section
/-! ===== the pattern's automaton ===== -/
/-- ahead of turn k + 1 of the outer loop: the table's rows 0 to k, and 'back' -/
def lz_kt (M : Nat) (v : Nat → Nat) : Nat → (Nat → Nat → Nat) × Nat
  | 0 => (fun _ l => if v 0 = l then 1 else 0, 0)
  | k + 1 => (fun s l => if s = k + 1 then (if k + 1 < M ∧ v (k + 1) = l then k + 2 else (lz_kt M v k).1 (lz_kt M v k).2 l) else (lz_kt M v k).1 s l,
      if k + 1 < M then (lz_kt M v k).1 (lz_kt M v k).2 (v (k + 1)) else (lz_kt M v k).2)
theorem lz_kt_b {M : Nat} {v : Nat → Nat} (hM : 1 ≤ M) {k : Nat} (hk : k ≤ M) : (lz_kt M v k).2 ≤ k ∧ ∀ s l, s ≤ k → (lz_kt M v k).1 s l ≤ s + 1 ∧ (lz_kt M v k).1 s l ≤ M := by
  induction k with
  | zero =>
    refine ⟨Nat.le_refl 0, fun s l hs => ?_⟩
    show (if v 0 = l then 1 else 0) ≤ s + 1 ∧ (if v 0 = l then 1 else 0) ≤ M
    split <;> omega
  | succ k ih =>
    obtain ⟨i1, i2⟩ := ih (by omega)
    refine ⟨?_, fun s l hs => ?_⟩
    · show (if k + 1 < M then (lz_kt M v k).1 (lz_kt M v k).2 (v (k + 1)) else (lz_kt M v k).2) ≤ k + 1
      have := i2 _ (v (k + 1)) i1
      split <;> omega
    · show (if s = k + 1 then (if k + 1 < M ∧ v (k + 1) = l then k + 2 else (lz_kt M v k).1 (lz_kt M v k).2 l) else (lz_kt M v k).1 s l) ≤ s + 1 ∧ (if s = k + 1 then (if k + 1 < M ∧ v (k + 1) = l then k + 2 else (lz_kt M v k).1 (lz_kt M v k).2 l) else (lz_kt M v k).1 s l) ≤ M
      have j := i2 _ l i1
      by_cases e : s = k + 1
      · rw [if_pos e]
        by_cases g : k + 1 < M ∧ v (k + 1) = l
        · rw [if_pos g]
          omega
        · rw [if_neg g]
          omega
      · rw [if_neg e]
        exact i2 s l (by omega)
section
variable {post : St2 → Prop} {h t c o y : Int32} {a1 a2 a3 a4 a5 a6 a7 a8 a9 a10 a11 : Nat → Int32} {M : Nat} {v : Nat → Nat}
theorem lz_b53 {J : Int32 → Int32 → (Nat → Int32) → (Nat → Int32) → (Nat → Int32) → (Nat → Int32) → (Nat → Int32) → (Nat → Int32) → (Nat → Int32) → (Nat → Int32) → (Nat → Int32) → (Nat → Int32) → (Nat → Int32) → Prop}
    {q b : Nat} {tt : Nat → Nat → Nat} (hM : M ≤ 10) (hq : q ≤ M) (hb : b < q) (hv : ∀ j, v j < 4) (h8 : ∀ j, j < M → a8 j = nI (v j)) (h9 : ∀ s, s < q → ∀ l, l < 4 → a9 (s * 4 + l) = nI (tt s l))
    (H : ∀ b9 : Nat → Int32, (∀ s, s < q → ∀ l, l < 4 → b9 (s * 4 + l) = nI (tt s l)) → (∀ l, l < 4 → b9 (q * 4 + l) = nI (if q < M ∧ v q = l then q + 1 else tt b l)) → J (nI (if q < M then tt b (v q) else b)) (nI (q + 1)) a1 a2 a3 a4 a5 a6 a7 a8 b9 a10 a11) :
    ∃ f, wX_buildAutomaton_53 post J (nI b) (nI q) h t c o (nI M) y f 0 a1 a2 a3 a4 a5 a6 a7 a8 a9 a10 a11 := by
  refine pk_loop (fun f i s => wX_buildAutomaton_53 post J (nI b) (nI q) h t c o (nI M) y f (nI i) a1 a2 a3 a4 a5 a6 a7 a8 s a10 a11)
    (fun i s => (∀ s', s' < q → ∀ l, l < 4 → s (s' * 4 + l) = nI (tt s' l)) ∧ (∀ l, l < i → s (q * 4 + l) = nI (if q < M ∧ v q = l then q + 1 else tt b l))) 4 0 a9 (by omega) ⟨h9, fun l hl => absurd hl (by omega)⟩ ?_ ?_
  · intro f s hI
    obtain ⟨i1, i2⟩ := hI
    have G := H s i1 i2
    refine pk_le 4 4 (fun _ => pk_le M q (fun z => nm_r (nI_1 q) ?_) (fun z => ?_)) (fun z => absurd z (by omega))
    · rw [if_neg (by omega)] at G
      exact G
    · have hvq := hv q
      rw [if_pos z] at G
      refine ⟨pk_in q 10 (by omega), ?_⟩
      rw [nI_clamp (show q < 2 ^ 31 by omega), h8 q z, lz_cl4 (by omega), i1 b hb (v q) hvq]
      exact ⟨pk_in (b * 4 + v q) 44 (by omega) (lz_ix _ _), nm_e (nm_r (nI_1 q) G)⟩
  · intro f i s hi hI hw
    obtain ⟨i1, i2⟩ := hI
    have N : ∀ x, x = nI (if q < M ∧ v q = i then q + 1 else tt b i) → wX_buildAutomaton_53 post J (nI b) (nI q) h t c o (nI M) y f (nI (i + 1)) a1 a2 a3 a4 a5 a6 a7 a8 (upd s (q * 4 + i) x) a10 a11 := by
      intro x hx
      refine hw _ ⟨fun s' hs' l hl => ?_, fun l hl => ?_⟩
      · rw [pk_un (by omega)]
        exact i1 s' hs' l hl
      · by_cases e : l = i
        · rw [e, pk_us, hx]
        · rw [pk_un (by omega)]
          exact i2 l (by omega)
    have C0 : ¬ (q < M ∧ v q = i) → wX_buildAutomaton_80 post J (wX_buildAutomaton_53 post J (nI b) (nI q) h t c o (nI M) y f) (nI b) (nI q) (nI i) h t c o (nI M) y a1 a2 a3 a4 a5 a6 a7 a8 s a10 a11 := by
      intro z
      rw [if_neg z] at N
      refine br_t rfl ⟨pk_in (b * 4 + i) 44 (by omega) (lz_ix _ _), pk_in (q * 4 + i) 44 (by omega) (lz_ix _ _), fun b9 e9 => nm_r (nI_1 i) ?_⟩
      rw [lz_cl4 (by omega), lz_cl4 (by omega)] at e9
      subst e9
      exact N _ (i1 b hb i hi)
    refine pk_le 4 i (fun z => absurd z (by omega)) (fun _ => pk_le M q (fun z => C0 (by omega)) (fun z => ⟨pk_in q 10 (by omega), ?_⟩))
    rw [nI_clamp (show q < 2 ^ 31 by omega), h8 q z]
    have hvq := hv q
    refine pk_eq (v q) i (fun e => ?_) (fun e => C0 (fun g => e g.2))
    rw [if_pos ⟨z, e⟩] at N
    refine br_f (by decide) ⟨pk_in (q * 4 + i) 44 (by omega) (lz_ix _ _), fun b9 e9 => nm_r (nI_1 i) ?_⟩
    rw [lz_cl4 (by omega)] at e9
    subst e9
    exact N _ (nI_1 q)
theorem lz_b43 (hM : M ≤ 10) (h1 : 1 ≤ M) (hv : ∀ j, v j < 4) (h8 : ∀ j, j < M → a8 j = nI (v j)) (h9 : ∀ l, l < 4 → a9 l = nI (if v 0 = l then 1 else 0))
    (H : ∀ b9 : Nat → Int32, (∀ s, s ≤ M → ∀ l, l < 4 → b9 (s * 4 + l) = nI ((lz_kt M v M).1 s l)) → post (h, t, c, o, nI M, y, a1, a2, a3, a4, a5, a6, a7, a8, b9, a10, a11)) :
    ∃ f, wX_buildAutomaton_43 post h t c o (nI M) y f 0 1 a1 a2 a3 a4 a5 a6 a7 a8 a9 a10 a11 := by
  refine pk_loop (fun f i s => wX_buildAutomaton_43 post h t c o (nI M) y f (nI (lz_kt M v i).2) (nI (i + 1)) a1 a2 a3 a4 a5 a6 a7 a8 s a10 a11)
    (fun i s => ∀ s', s' < i + 1 → ∀ l, l < 4 → s (s' * 4 + l) = nI ((lz_kt M v i).1 s' l)) M 0 a9 (by omega) ?_ ?_ ?_
  · intro s' hs' l hl
    have : s' = 0 := by omega
    subst this
    rw [Nat.zero_mul, Nat.zero_add]
    exact h9 l hl
  · intro f s hI
    exact pk_lt M (M + 1) (fun _ => H s (fun s' hs' => hI s' (by omega))) (fun z => absurd z (by omega))
  · intro f i s hi hI hw
    have B := lz_kt_b (v := v) h1 (k := i) (by omega)
    refine pk_lt M (i + 1) (fun z => absurd z (by omega)) (fun _ => lz_b53 (tt := (lz_kt M v i).1) hM (by omega) (by omega) hv h8 hI (fun b9 g1 g2 => hw b9 ?_))
    intro s' hs' l hl
    show b9 (s' * 4 + l) = nI (if s' = i + 1 then (if i + 1 < M ∧ v (i + 1) = l then i + 2 else (lz_kt M v i).1 (lz_kt M v i).2 l) else (lz_kt M v i).1 s' l)
    by_cases e : s' = i + 1
    · rw [if_pos e, e]
      exact g2 l hl
    · rw [if_neg e]
      exact g1 s' (by omega) l hl
theorem lz_ba (hM : M ≤ 10) (h1 : 1 ≤ M) (hv : ∀ j, v j < 4) (h8 : ∀ j, j < M → a8 j = nI (v j))
    (H : ∀ b9 : Nat → Int32, (∀ s, s ≤ M → ∀ l, l < 4 → b9 (s * 4 + l) = nI ((lz_kt M v M).1 s l)) → post (h, t, c, o, nI M, 0, a1, a2, a3, a4, a5, a6, a7, a8, b9, a10, a11)) :
    wpX_buildAutomaton post (h, t, c, o, nI M, y, a1, a2, a3, a4, a5, a6, a7, a8, a9, a10, a11) := by
  have hv0 := hv 0
  refine pk_loop (fun f i s => wX_buildAutomaton_7 post h t c o (nI M) 0 f (nI i) a1 a2 a3 a4 a5 a6 a7 a8 s a10 a11)
    (fun i s => ∀ l, l < i → s l = nI (if v 0 = l then 1 else 0)) 4 0 a9 (by omega) (fun l hl => absurd hl (by omega)) ?_ ?_
  · intro f s hI
    exact pk_le 4 4 (fun _ => lz_b43 hM h1 hv h8 hI H) (fun z => absurd z (by omega))
  · intro f i s hi hI hw
    have N : ∀ x, x = nI (if v 0 = i then 1 else 0) → wX_buildAutomaton_7 post h t c o (nI M) 0 f (nI (i + 1)) a1 a2 a3 a4 a5 a6 a7 a8 (upd s i x) a10 a11 := by
      intro x hx
      refine hw _ (fun l hl => ?_)
      by_cases e : l = i
      · rw [e, pk_us, hx]
      · rw [pk_un e]
        exact hI l (by omega)
    refine pk_le 4 i (fun z => absurd z (by omega)) (fun _ => ?_)
    refine pk_eq (v 0) i (fun e => ⟨pk_in i 44 (by omega), fun b9 e9 => nm_r (nI_1 i) ?_⟩) (fun e => ⟨pk_in i 44 (by omega), fun b9 e9 => nm_r (nI_1 i) ?_⟩) (h8 0 (by omega))
    · rw [nI_clamp (by omega)] at e9
      subst e9
      exact N _ (by rw [if_pos e]; rfl)
    · rw [nI_clamp (by omega)] at e9
      subst e9
      exact N _ (by rw [if_neg e]; rfl)
theorem lz_pat {post : Int32 → St2 → Prop} {k l : Nat} (hk : k < 10) (el : v k = l) (hv : ∀ j, v j < 4) (h8 : ∀ j, j < k → a8 j = nI (v j))
    (H : ∀ b8 b9 : Nat → Int32, (∀ j, j < k + 1 → b8 j = nI (v j)) → (∀ s, s ≤ k + 1 → ∀ l, l < 4 → b9 (s * 4 + l) = nI ((lz_kt (k + 1) v (k + 1)).1 s l)) → post (nI (k + 1)) (h, t, c, o, nI (k + 1), 0, a1, a2, a3, a4, a5, a6, a7, b8, b9, a10, a11)) :
    wpX_pattern post (h, t, c, o, nI k, y, a1, a2, a3, a4, a5, a6, a7, a8, a9, a10, a11) (nI l) := by
  subst el
  have hvk := hv k
  refine br_f (nI_pos (by omega)) (br_t (nI_le (b := 3) (by omega) (by decide)) (br_t (nI_lt (b := 10) hk (by decide)) ⟨pk_in k 10 hk, fun b8 e8 => nm_r (nI_1 k) ?_⟩))
  rw [nI_clamp (by omega)] at e8
  subst e8
  have h8' : ∀ j, j < k + 1 → upd a8 k (nI (v k)) j = nI (v j) := by
    intro j hj
    by_cases e : j = k
    · rw [e, pk_us]
    · rw [pk_un e]
      exact h8 j (by omega)
  exact lz_ba (M := k + 1) (by omega) (by omega) hv h8' (fun b9 g => H _ b9 h8' g)
end
/-! ===== the automaton of three letters: a state is how much of the pattern the last three letters end with ===== -/
def lz_v (p q r : Nat) : Nat → Nat := fun j => if j = 0 then p else if j = 1 then q else r
def lz_d (p q r : Nat) : Nat → Nat → Nat := (lz_kt 3 (lz_v p q r) 3).1
def lz_sg (p q r x y z : Nat) : Nat := if x = p ∧ y = q ∧ z = r then 3 else if y = p ∧ z = q then 2 else if z = p then 1 else 0
theorem lz_sg_c : ((List.range 4).all fun p => (List.range 4).all fun q => (List.range 4).all fun r => (List.range 5).all fun x => (List.range 5).all fun y => (List.range 5).all fun z => (List.range 4).all fun l => lz_d p q r (lz_sg p q r x y z) l == lz_sg p q r y z l) = true := by decide +kernel
theorem lz_all {N : Nat} {f : Nat → Bool} (h : (List.range N).all f = true) {i : Nat} (hi : i < N) : f i = true := List.all_eq_true.mp h i (List.mem_range.mpr hi)
theorem lz_sg_d {p q r x y z l : Nat} (hp : p < 4) (hq : q < 4) (hr : r < 4) (hx : x < 5) (hy : y < 5) (hz : z < 5) (hl : l < 4) : lz_d p q r (lz_sg p q r x y z) l = lz_sg p q r y z l :=
  eq_of_beq (lz_all (lz_all (lz_all (lz_all (lz_all (lz_all (lz_all lz_sg_c hp) hq) hr) hx) hy) hz) hl)
/-- the i-th letter from behind of the first k, 4 for none -/
def lz_hs (T : Nat → Nat) (k i : Nat) : Nat := if i ≤ k then T (k - i) else 4
section
variable {p q r : Nat} {T : Nat → Nat}
theorem lz_hs_s (k i : Nat) : lz_hs T (k + 1) (i + 1) = lz_hs T k i := by
  unfold lz_hs
  by_cases e : i ≤ k
  · rw [if_pos e, if_pos (by omega), show k + 1 - (i + 1) = k - i by omega]
  · rw [if_neg e, if_neg (by omega)]
theorem lz_hs_b (hT : ∀ j, T j < 4) (k i : Nat) : lz_hs T k i < 5 := by
  unfold lz_hs
  split
  · exact Nat.lt_succ_of_lt (hT _)
  · omega
theorem lz_rn3 (hp : p < 4) (hq : q < 4) (hr : r < 4) (hT : ∀ j, T j < 4) (k : Nat) : lz_rn (lz_d p q r) T 0 k = lz_sg p q r (lz_hs T k 3) (lz_hs T k 2) (lz_hs T k 1) := by
  induction k with
  | zero =>
    show 0 = lz_sg p q r 4 4 4
    unfold lz_sg
    rw [if_neg (by omega), if_neg (by omega), if_neg (by omega)]
  | succ k ih =>
    show lz_d p q r (lz_rn (lz_d p q r) T 0 k) (T k) = _
    rw [ih, lz_sg_d hp hq hr (lz_hs_b hT _ _) (lz_hs_b hT _ _) (lz_hs_b hT _ _) (hT k), lz_hs_s, lz_hs_s]
    rfl
theorem lz_rn_hit (hp : p < 4) (hq : q < 4) (hr : r < 4) (hT : ∀ j, T j < 4) (k : Nat) : lz_rn (lz_d p q r) T 0 (k + 3) = 3 ↔ T k = p ∧ T (k + 1) = q ∧ T (k + 2) = r := by
  rw [lz_rn3 hp hq hr hT]
  have e3 : lz_hs T (k + 3) 3 = T k := by
    unfold lz_hs
    rw [if_pos (by omega), show k + 3 - 3 = k by omega]
  have e2 : lz_hs T (k + 3) 2 = T (k + 1) := by
    unfold lz_hs
    rw [if_pos (by omega), show k + 3 - 2 = k + 1 by omega]
  have e1 : lz_hs T (k + 3) 1 = T (k + 2) := by
    unfold lz_hs
    rw [if_pos (by omega), show k + 3 - 1 = k + 2 by omega]
  rw [e3, e2, e1]
  unfold lz_sg
  by_cases e : T k = p ∧ T (k + 1) = q ∧ T (k + 2) = r
  · rw [if_pos e]
    exact ⟨fun _ => e, fun _ => rfl⟩
  · rw [if_neg e]
    refine ⟨fun z => ?_, fun z => absurd z e⟩
    split at z
    · omega
    · split at z <;> omega
theorem lz_hc2 (hp : p < 4) (hq : q < 4) (hr : r < 4) (hT : ∀ j, T j < 4) : lz_hc (lz_d p q r) 3 T 0 2 = 0 := by
  have e1 : ¬ lz_rn (lz_d p q r) T 0 1 = 3 := by
    rw [lz_rn3 hp hq hr hT]
    show ¬ lz_sg p q r 4 4 (T 0) = 3
    unfold lz_sg
    rw [if_neg (by omega), if_neg (by omega)]
    split <;> omega
  have e2 : ¬ lz_rn (lz_d p q r) T 0 2 = 3 := by
    rw [lz_rn3 hp hq hr hT]
    show ¬ lz_sg p q r 4 (T 0) (T 1) = 3
    unfold lz_sg
    rw [if_neg (by omega)]
    split
    · omega
    · split <;> omega
  show 0 + (if lz_rn (lz_d p q r) T 0 1 = 3 then 1 else 0) + (if lz_rn (lz_d p q r) T 0 2 = 3 then 1 else 0) = 0
  rw [if_neg e1, if_neg e2]
theorem lz_hc_hit (hp : p < 4) (hq : q < 4) (hr : r < 4) (hT : ∀ j, T j < 4) (k : Nat) : lz_hc (lz_d p q r) 3 T 0 (k + 3) = lz_hc (lz_d p q r) 3 T 0 (k + 2) + (if T k = p ∧ T (k + 1) = q ∧ T (k + 2) = r then 1 else 0) := by
  show lz_hc (lz_d p q r) 3 T 0 (k + 2) + (if lz_rn (lz_d p q r) T 0 (k + 3) = 3 then 1 else 0) = _
  have e := lz_rn_hit hp hq hr hT k
  by_cases z : T k = p ∧ T (k + 1) = q ∧ T (k + 2) = r
  · rw [if_pos z, if_pos (e.mpr z)]
  · rw [if_neg z, if_neg (fun g => z (e.mp g))]
theorem lz_d_b (s l : Nat) (hs : s ≤ 3) : lz_d p q r s l ≤ 3 := ((lz_kt_b (M := 3) (by decide) (k := 3) (by decide)).2 s l hs).2
end
end
section
/-! ===== the tables: fill, prepare ===== -/
/-- the first np phrases' rows are filled -/
def lz_tab (np M : Nat) (d : Nat → Nat → Nat) (w : Nat → Nat → Nat) (sz : Nat → Nat) (a10 a11 : Nat → Int32) : Prop :=
  ∀ p, p < np → ∀ q, q ≤ M → a10 (p * 11 + q) = nI (lz_rn d (w p) q (sz p)) ∧ a11 (p * 11 + q) = nI (lz_hc d M (w p) q (sz p))
def lz_Y (np M : Nat) (d : Nat → Nat → Nat) (w : Nat → Nat → Nat) (sz : Nat → Nat) (y : Int32) (a10 a11 : Nat → Int32) : Prop := y = 0 ∨ (y = 1 ∧ lz_tab np M d w sz a10 a11)
section
variable {n nc : Nat} {w : Nat → Nat → Nat} {sz ph S T : Nat → Nat} {m y : Int32} {a1 a2 a3 a4 a5 a6 a7 a8 a9 a10 a11 : Nat → Int32} {M : Nat} {d : Nat → Nat → Nat}
theorem lz_f67 {post : St2 → Prop} {h t c o : Int32} (hM : M ≤ 10) (hd : ∀ s l, s ≤ M → l < 4 → d s l ≤ M) (h9 : ∀ s, s ≤ M → ∀ l, l < 4 → a9 (s * 4 + l) = nI (d s l))
    {p q s l b : Nat} (hp : p < 128) (hq : q ≤ M) (hs : s ≤ M) (hl : l < 4) (hb : b < 127) (e2 : a2 p = nI l)
    (H : post (h, t, c, o, nI M, y, a1, a2, a3, a4, a5, a6, a7, a8, a9, upd a10 (p * 11 + q) (nI (d s l)), upd a11 (p * 11 + q) (nI (b + (if d s l = M then 1 else 0))))) :
    wX_fill_67 post (nI p) (nI (p * 11 + q)) (nI s) (nI b) h t c o (nI M) y a1 a2 a3 a4 a5 a6 a7 a8 a9 a10 a11 := by
  have hds := hd s l hs hl
  refine ⟨pk_in p 128 hp, ?_⟩
  rw [nI_clamp (show p < 2 ^ 31 by omega), e2]
  refine ⟨pk_in (s * 4 + l) 44 (by omega) (lz_ix _ _), ?_⟩
  rw [lz_cl4 (by omega), h9 s hs l hl]
  refine nm_e ⟨pk_in (p * 11 + q) 1408 (by omega), fun b10 e10 => ?_⟩
  rw [nI_clamp (by omega), lz_by _ (by omega)] at e10
  subst e10
  refine pk_eq (d s l) M (fun z => ⟨pk_in (p * 11 + q) 1408 (by omega), fun b11 e11 => ?_⟩) (fun z => ⟨pk_in (p * 11 + q) 1408 (by omega), fun b11 e11 => ?_⟩)
  · rw [nI_clamp (by omega), nI_1, lz_by _ (by omega)] at e11
    subst e11
    rw [if_pos z] at H
    exact H
  · rw [nI_clamp (by omega), lz_by _ (by omega)] at e11
    subst e11
    rw [if_neg z] at H
    exact H
theorem lz_fill {post : St2 → Prop} (k : lz_K n nc w sz ph S T a1 a2 a3 a4 a5 a6 a7) (hM : M ≤ 10) (hd : ∀ s l, s ≤ M → l < 4 → d s l ≤ M) (h9 : ∀ s, s ≤ M → ∀ l, l < 4 → a9 (s * 4 + l) = nI (d s l))
    {p q : Nat} (hp : p < nc + 4) (hq : q ≤ M) (ht : lz_tab p M d w sz a10 a11)
    (H : post (nI (nc + 4), nI n, nI nc, nI (ph nc), nI M, y, a1, a2, a3, a4, a5, a6, a7, a8, a9, upd a10 (p * 11 + q) (nI (lz_rn d (w p) q (sz p))), upd a11 (p * 11 + q) (nI (lz_hc d M (w p) q (sz p))))) :
    wpX_fill post (nI (nc + 4), nI n, nI nc, nI (ph nc), nI M, y, a1, a2, a3, a4, a5, a6, a7, a8, a9, a10, a11) (nI p) (nI q) := by
  obtain ⟨k1, k2, k3, k4, k5, k6, k7, k8, k9, k10, k11⟩ := k
  obtain ⟨u1, u2, u3, u4, u5, u6, u7, u8⟩ := k1 p hp
  have hz := k4 p hp
  have hP : (nI p).toNatClampNeg = p := nI_clamp (by omega)
  refine nm_r (lz_ix11 p q) ⟨pk_in p 128 (by omega), ?_⟩
  rw [hP]
  rcases u5 with ⟨e, e1⟩ | ⟨u, hu, e1, eu, hwu⟩
  · rw [e1]
    rw [e] at u3 H
    refine br_f (by decide) ⟨pk_in p 128 (by omega), ?_⟩
    rw [hP, e1]
    refine br_f (by decide) (lz_f67 (b := 0) hM hd h9 (by omega) hq hq (u2 0) (by omega) u3 H)
  · rw [e1]
    rw [eu] at u3 H
    rw [Nat.add_sub_cancel] at u3
    obtain ⟨t1, t2⟩ := ht u hu q hq
    have hi : u * 11 + q < 1408 := by omega
    have hr := lz_rn_b (k := sz u) hd u2 hq
    have hh := lz_hc_le d M (w p) q (sz u)
    refine br_t (nI_pos' (by omega)) ⟨pk_in p 128 (by omega), pk_in (u * 11 + q) 1408 hi (lz_ix11 _ _), ?_⟩
    rw [lz_cl11 (by omega), t1, ← lz_rn_c (k := sz u) hwu]
    refine ⟨pk_in p 128 (by omega), ?_⟩
    rw [hP, e1]
    refine br_t (nI_pos' (by omega)) ⟨pk_in p 128 (by omega), pk_in (u * 11 + q) 1408 hi (lz_ix11 _ _), ?_⟩
    rw [lz_cl11 (by omega), t2, ← lz_hc_c (k := sz u) hwu]
    exact lz_f67 hM hd h9 (by omega) hq hr (u2 _) (by omega) u3 H
theorem lz_p25 {post : St2 → Prop} {J : Int32 → Int32 → Int32 → Int32 → Int32 → Int32 → Int32 → (Nat → Int32) → (Nat → Int32) → (Nat → Int32) → (Nat → Int32) → (Nat → Int32) → (Nat → Int32) → (Nat → Int32) → (Nat → Int32) → (Nat → Int32) → (Nat → Int32) → (Nat → Int32) → Prop}
    (k : lz_K n nc w sz ph S T a1 a2 a3 a4 a5 a6 a7) (hM : M ≤ 10) (hd : ∀ s l, s ≤ M → l < 4 → d s l ≤ M) (h9 : ∀ s, s ≤ M → ∀ l, l < 4 → a9 (s * 4 + l) = nI (d s l))
    {p : Nat} (hp : p < nc + 4) (ht : lz_tab p M d w sz a10 a11)
    (H : ∀ b10 b11 : Nat → Int32, lz_tab (p + 1) M d w sz b10 b11 → J (nI (p + 1)) (nI (nc + 4)) (nI n) (nI nc) (nI (ph nc)) (nI M) y a1 a2 a3 a4 a5 a6 a7 a8 a9 b10 b11) :
    ∃ f, wX_prepare_25 post J (nI p) f 0 (nI (nc + 4)) (nI n) (nI nc) (nI (ph nc)) (nI M) y a1 a2 a3 a4 a5 a6 a7 a8 a9 a10 a11 := by
  refine pk_loop (σ := (Nat → Int32) × (Nat → Int32)) (fun f i s => wX_prepare_25 post J (nI p) f (nI i) (nI (nc + 4)) (nI n) (nI nc) (nI (ph nc)) (nI M) y a1 a2 a3 a4 a5 a6 a7 a8 a9 s.1 s.2)
    (fun i s => lz_tab p M d w sz s.1 s.2 ∧ ∀ q, q < i → s.1 (p * 11 + q) = nI (lz_rn d (w p) q (sz p)) ∧ s.2 (p * 11 + q) = nI (lz_hc d M (w p) q (sz p))) (M + 1) 0 (a10, a11) (by omega) ⟨ht, fun q hq => absurd hq (by omega)⟩ ?_ ?_
  · intro f s hI
    obtain ⟨i1, i2⟩ := hI
    refine pk_lt M (M + 1) (fun _ => nm_r (nI_1 p) (H _ _ (fun p' hp' q hq => ?_))) (fun z => absurd z (by omega))
    by_cases e : p' = p
    · rw [e]
      exact i2 q (by omega)
    · exact i1 p' (by omega) q hq
  · intro f i s hi hI hw
    obtain ⟨i1, i2⟩ := hI
    refine pk_lt M i (fun z => absurd z (by omega)) (fun _ => lz_fill k hM hd h9 hp (by omega) i1 (nm_r (nI_1 i) (hw (_, _) ⟨fun p' hp' q hq => ?_, fun q hq => ?_⟩)))
    · show upd s.1 (p * 11 + i) _ (p' * 11 + q) = _ ∧ upd s.2 (p * 11 + i) _ (p' * 11 + q) = _
      rw [pk_un (by omega), pk_un (by omega)]
      exact i1 p' hp' q hq
    · show upd s.1 (p * 11 + i) _ (p * 11 + q) = _ ∧ upd s.2 (p * 11 + i) _ (p * 11 + q) = _
      by_cases e : q = i
      · rw [e, pk_us, pk_us]
        exact ⟨rfl, rfl⟩
      · rw [pk_un (by omega), pk_un (by omega)]
        exact i2 q (by omega)
theorem lz_prep {post : St2 → Prop} (k : lz_K n nc w sz ph S T a1 a2 a3 a4 a5 a6 a7) (hM : M ≤ 10) (hd : ∀ s l, s ≤ M → l < 4 → d s l ≤ M) (h9 : ∀ s, s ≤ M → ∀ l, l < 4 → a9 (s * 4 + l) = nI (d s l))
    (hy : lz_Y (nc + 4) M d w sz y a10 a11)
    (H : ∀ b10 b11 : Nat → Int32, lz_tab (nc + 4) M d w sz b10 b11 → post (nI (nc + 4), nI n, nI nc, nI (ph nc), nI M, 1, a1, a2, a3, a4, a5, a6, a7, a8, a9, b10, b11)) :
    wpX_prepare post (nI (nc + 4), nI n, nI nc, nI (ph nc), nI M, y, a1, a2, a3, a4, a5, a6, a7, a8, a9, a10, a11) := by
  have hn : nc + 4 < 2 ^ 31 := by
    obtain ⟨_, _, _, _⟩ := k
    omega
  rcases hy with e | ⟨e, ht⟩
  · subst e
    refine br_t rfl (pk_loop (σ := (Nat → Int32) × (Nat → Int32)) (fun f i s => wX_prepare_15 post f (nI i) (nI (nc + 4)) (nI n) (nI nc) (nI (ph nc)) (nI M) 1 a1 a2 a3 a4 a5 a6 a7 a8 a9 s.1 s.2)
      (fun i s => lz_tab i M d w sz s.1 s.2) (nc + 4) 0 (a10, a11) (by omega) (fun p hp => absurd hp (by omega)) ?_ ?_)
    · intro f s hI
      exact pk_le (nc + 4) (nc + 4) (fun _ => H _ _ hI) (fun z => absurd z (by omega))
    · intro f i s hi hI hw
      exact pk_le (nc + 4) i (fun z => absurd z (by omega)) (fun _ => lz_p25 k hM hd h9 hi hI (fun b10 b11 ht => hw (b10, b11) ht))
  · subst e
    exact br_f (by decide) (H _ _ ht)
end
end
section
/-! ===== the questions ===== -/
section
variable {n nc : Nat} {w : Nat → Nat → Nat} {sz ph S T : Nat → Nat} {m y : Int32} {a1 a2 a3 a4 a5 a6 a7 a8 a9 a10 a11 : Nat → Int32} {M : Nat} {d : Nat → Nat → Nat}
theorem lz_cp {post : Int32 → Prop} {h c o : Int32} {x : Nat} (hx : x < 2 ^ 31) (hn : n < 2 ^ 31) (H : post (nI (min x n))) : wpX_clampLength post (h, nI n, c, o, m, y, a1, a2, a3, a4, a5, a6, a7, a8, a9, a10, a11) (nI x) := by
  refine br_t (nI_pos' hx) (pk_le x n (fun z => ?_) (fun z => ?_))
  · rw [show min x n = x by omega] at H
    exact H
  · rw [show min x n = n by omega] at H
    exact H
theorem lz_ei {post : Int32 → Prop} (k : lz_K n nc w sz ph S T a1 a2 a3 a4 a5 a6 a7) (hM : M ≤ 10) (ht : lz_tab (nc + 4) M d w sz a10 a11) {p q x : Nat} (hp : p < nc + 4) (hq : q ≤ M) (hx : x < 2 ^ 31) (hh : x < lz_hc d M (w p) q (sz p))
    (H : ∀ e, e < sz p → x < lz_hc d M (w p) q (e + 1) → lz_hc d M (w p) q e ≤ x → post (nI (e + 1))) :
    wpX_endInside post (nI (nc + 4), nI n, nI nc, nI (ph nc), m, y, a1, a2, a3, a4, a5, a6, a7, a8, a9, a10, a11) (nI p) (nI q) (nI x) := by
  obtain ⟨k1, k2, k3, k4, k5, k6, k7, k8, k9, k10, k11⟩ := k
  refine loop_m (σ := Nat) (fun f s => wX_endInside_3 post (nI q) (nI x) (nI (nc + 4)) (nI n) (nI nc) (nI (ph nc)) m y a1 a2 a3 a4 a5 a6 a7 a8 a9 a10 a11 f (nI s)) (fun s => s < nc + 4 ∧ sz s ≤ sz p ∧ (∀ j, j < sz s → w s j = w p j) ∧ x < lz_hc d M (w p) q (sz s)) (fun s => s) ?_ p ⟨hp, Nat.le_refl _, fun _ _ => rfl, hh⟩
  intro f s hI hw
  obtain ⟨i1, i2, i3, i4⟩ := hI
  obtain ⟨u1, u2, u3, u4, u5, u6, u7, u8⟩ := k1 s i1
  have b := k4 s i1
  refine ⟨pk_in s 128 (by omega), ?_⟩
  rw [nI_clamp (show s < 2 ^ 31 by omega), u4]
  rcases u5 with ⟨e, e1⟩ | ⟨u, hu, e1, eu, hwu⟩
  · rw [e1, e]
    rw [e] at i4 i2
    exact br_t (by decide) ⟨pk_in s 128 (by omega), H 0 (by omega) i4 (Nat.zero_le _)⟩
  · rw [e1, eu]
    rw [eu] at i4 i2
    have t2 := (ht u (by omega) q hq).2
    have c := lz_hc_c (d := d) (m := M) (q := q) (k := sz u) (f := w u) (g := w p) (fun j hj => (hwu j hj).symm.trans (i3 j (by omega)))
    have hl := lz_hc_le d M (w p) q (sz u)
    refine br_f (nI_pos (by omega)) ⟨pk_in s 128 (by omega), pk_in (u * 11 + q) 1408 (by omega) (lz_ix11 _ _), ?_⟩
    rw [lz_cl11 (by omega), t2, c]
    exact pk_le (lz_hc d M (w p) q (sz u)) x (fun z => ⟨pk_in s 128 (by omega), H (sz u) (by omega) i4 z⟩) (fun z => ⟨pk_in s 128 (by omega), nm_e (hw u ⟨by omega, by omega, fun j hj => (hwu j hj).symm.trans (i3 j (by omega)), z⟩ hu)⟩)
theorem lz_pos {post : Int32 → St2 → Prop} (k : lz_K n nc w sz ph S T a1 a2 a3 a4 a5 a6 a7) (hT : ∀ j, T j < 4) (h1 : 1 ≤ M) (hM : M ≤ 10) (hd : ∀ s l, s ≤ M → l < 4 → d s l ≤ M) (h9 : ∀ s, s ≤ M → ∀ l, l < 4 → a9 (s * 4 + l) = nI (d s l))
    (hy : lz_Y (nc + 4) M d w sz y a10 a11) {x : Nat} (hx : x < 2 ^ 31)
    (H : ∀ (b10 b11 : Nat → Int32) (r : Int32), lz_tab (nc + 4) M d w sz b10 b11 → ((lz_hc d M T 0 n ≤ x ∧ r = -4) ∨ ∃ j, j < n ∧ x < lz_hc d M T 0 (j + 1) ∧ lz_hc d M T 0 j ≤ x ∧ r = nI (j + 1) - nI M) → post r (nI (nc + 4), nI n, nI nc, nI (ph nc), nI M, 1, a1, a2, a3, a4, a5, a6, a7, a8, a9, b10, b11)) :
    wpX_position post (nI (nc + 4), nI n, nI nc, nI (ph nc), nI M, y, a1, a2, a3, a4, a5, a6, a7, a8, a9, a10, a11) (nI x) := by
  have k' := k
  have hS : ∀ i, i ≤ nc + 1 → S i ≤ n := fun i hi => lz_K_S k hi
  obtain ⟨k1, k2, k3, k4, k5, k6, k7, k8, k9, k10, k11⟩ := k
  refine br_f (nI_pos hx) (br_f (nI_ne0 (by omega) (by omega)) (br_f (nI_ne0 (by omega) (by omega)) (lz_prep k' hM hd h9 hy (fun b10 b11 ht => ?_))))
  have E : ∃ f, wX_position_32 post (nI (nc + 4)) (nI n) (nI nc) (nI (ph nc)) (nI M) 1 a1 a2 a3 a4 a5 a6 a7 a8 a9 b10 b11 f (nI (lz_rn d T 0 (S 0))) (nI (x - lz_hc d M T 0 (S 0))) (nI 0) := by
    refine pk_loop (σ := Unit) (fun f i _ => wX_position_32 post (nI (nc + 4)) (nI n) (nI nc) (nI (ph nc)) (nI M) 1 a1 a2 a3 a4 a5 a6 a7 a8 a9 b10 b11 f (nI (lz_rn d T 0 (S i))) (nI (x - lz_hc d M T 0 (S i))) (nI i))
      (fun i _ => lz_hc d M T 0 (S i) ≤ x) (nc + 1) 0 () (by omega) (by rw [k7]; exact Nat.zero_le _) ?_ ?_
    · intro f _ hI
      rw [k9] at hI
      exact pk_lt nc (nc + 1) (fun _ => H _ _ _ ht (Or.inl ⟨hI, rfl⟩)) (fun z => absurd z (by omega))
    · intro f i _ hi hI hw
      have hi' : i ≤ nc := by omega
      have hq : lz_rn d T 0 (S i) ≤ M := lz_rn_b hd hT (Nat.zero_le _)
      have hpi := k5 i hi'
      have hz := k4 _ hpi
      have hSi := hS (i) (by omega)
      have e3 := k8 i hi'
      have hSj := hS (i + 1) (by omega)
      obtain ⟨t1, t2⟩ := ht (ph i) hpi _ hq
      have c1 := lz_hc_at (d := d) (m := M) (f := T) (s := S i) (k := sz (ph i)) 0 (k11 i hi')
      have c2 := lz_rn_at (d := d) (f := T) (s := S i) (k := sz (ph i)) 0 (k11 i hi')
      have cl := lz_hc_le d M (w (ph i)) (lz_rn d T 0 (S i)) (sz (ph i))
      rw [← e3] at c1 c2
      refine pk_lt nc i (fun z => absurd z (by omega)) (fun _ => lz_pa k' hi' ⟨pk_in (ph i * 11 + lz_rn d T 0 (S i)) 1408 (by omega) (lz_ix11 _ _), ?_⟩)
      rw [lz_cl11 (by omega), t1, t2]
      refine nm_e (pk_le (lz_hc d M (w (ph i)) (lz_rn d T 0 (S i)) (sz (ph i))) (x - lz_hc d M T 0 (S i)) (fun z => ?_) (fun z => ?_))
      · refine nm_r (pk_sub z) ⟨pk_in (ph i * 11 + lz_rn d T 0 (S i)) 1408 (by omega) (lz_ix11 _ _), nm_r (congrArg nI c2) (nm_r (nI_1 i) ?_)⟩
        have g := hw () (by omega)
        rw [show x - lz_hc d M T 0 (S i) - lz_hc d M (w (ph i)) (lz_rn d T 0 (S i)) (sz (ph i)) = x - lz_hc d M T 0 (S (i + 1)) by omega]
        exact g
      · refine ⟨pk_in i 121 (by omega), lz_ei k' hM ht hpi hq (by omega) z (fun e he g1 g2 => ?_)⟩
        have m1 := lz_hc_at (d := d) (m := M) (f := T) (s := S i) (k := e) 0 (fun j hj => k11 i hi' j (by omega))
        have m2 := lz_hc_at (d := d) (m := M) (f := T) (s := S i) (k := e + 1) 0 (fun j hj => k11 i hi' j (by omega))
        refine H _ _ _ ht (Or.inr ⟨S i + e, by omega, ?_, by omega, ?_⟩)
        · rw [show S i + e + 1 = S i + (e + 1) from rfl]
          omega
        · rw [nI_clamp (by omega), k10 i hi', nI_add]
          rfl
  rw [k7] at E
  exact E
theorem lz_freq {post : Int32 → Prop} (k : lz_K n nc w sz ph S T a1 a2 a3 a4 a5 a6 a7) {l x : Nat} (hl : l < 4) (hx : x < 2 ^ 31) (H : post (nI (lz_ct T l (min x n)))) : wpX_frequency post (nI (nc + 4), nI n, nI nc, nI (ph nc), m, y, a1, a2, a3, a4, a5, a6, a7, a8, a9, a10, a11) (nI l) (nI x) := by
  have k' := k
  have hS : ∀ i, i ≤ nc + 1 → S i ≤ n := fun i hi => lz_K_S k hi
  obtain ⟨k1, k2, k3, k4, k5, k6, k7, k8, k9, k10, k11⟩ := k
  have hc : min x n ≤ n := by omega
  refine br_f (nI_pos (by omega)) (br_t (nI_le (b := 3) (by omega) (by decide)) (lz_cp hx (by omega) ?_))
  obtain ⟨c, ec⟩ : ∃ c, c = min x n := ⟨_, rfl⟩
  rw [← ec] at H hc
  rw [← ec]
  have E : ∃ f, wX_frequency_23 post (nI l) (nI c) (nI (nc + 4)) (nI n) (nI nc) (nI (ph nc)) m y a1 a2 a3 a4 a5 a6 a7 a8 a9 a10 a11 f (nI (lz_ct T l (min c (S 0)))) (nI 0) := by
    refine pk_loop (σ := Unit) (fun f i _ => wX_frequency_23 post (nI l) (nI c) (nI (nc + 4)) (nI n) (nI nc) (nI (ph nc)) m y a1 a2 a3 a4 a5 a6 a7 a8 a9 a10 a11 f (nI (lz_ct T l (min c (S i)))) (nI i)) (fun _ _ => True) (nc + 1) 0 () (by omega) trivial ?_ ?_
    · intro f _ _
      refine pk_lt nc (nc + 1) (fun _ => ?_) (fun z => absurd z (by omega))
      rw [k9, show min c n = c by omega]
      exact H
    · intro f i _ hi _ hw
      have hi' : i ≤ nc := by omega
      have hpi := k5 i hi'
      have hSi := hS (i) (by omega)
      have e3 := k8 i hi'
      have hw := hw () trivial
      refine pk_lt nc i (fun z => absurd z (by omega)) (fun _ => ⟨pk_in i 121 (by omega), ?_⟩)
      rw [nI_clamp (by omega), k10 i hi']
      refine pk_le c (S i) (fun z => ?_) (fun z => lz_pa k' hi' ⟨pk_in i 121 (by omega), ?_⟩)
      · rw [show min c (S i) = c by omega]
        exact H
      · rw [pk_sub (by omega)]
        refine lz_bg k' hpi (by omega) (by omega) (fun p' hp' e1 e2 => ?_)
        have u6 := (k1 p' hp').2.2.2.2.2.1
        have a := lz_ct_at (f := T) (l := l) (s := S i) (k := sz p') (wp := w p') (fun j hj => (e2 j hj).trans (k11 i hi' j (by omega)))
        refine ⟨pk_in (p' * 4 + l) 512 (by omega) (lz_ix _ _), ?_⟩
        rw [lz_cl4 (by omega), u6 l hl, nI_add, show min c (S i) = S i by omega, a, show S i + sz p' = min c (S (i + 1)) by omega]
        exact nm_e (nm_r (nI_1 i) hw)
  rw [k7, Nat.min_zero] at E
  exact E
theorem lz_cw {post : Int32 → St2 → Prop} (k : lz_K n nc w sz ph S T a1 a2 a3 a4 a5 a6 a7) (hT : ∀ j, T j < 4) (h1 : 1 ≤ M) (hM : M ≤ 10) (hd : ∀ s l, s ≤ M → l < 4 → d s l ≤ M) (h9 : ∀ s, s ≤ M → ∀ l, l < 4 → a9 (s * 4 + l) = nI (d s l))
    (hy : lz_Y (nc + 4) M d w sz y a10 a11) {x : Nat} (hx : x < 2 ^ 31)
    (H : ∀ (y' : Int32) (b10 b11 : Nat → Int32), lz_Y (nc + 4) M d w sz y' b10 b11 → post (nI (lz_hc d M T 0 (min x n))) (nI (nc + 4), nI n, nI nc, nI (ph nc), nI M, y', a1, a2, a3, a4, a5, a6, a7, a8, a9, b10, b11)) :
    wpX_countWithin post (nI (nc + 4), nI n, nI nc, nI (ph nc), nI M, y, a1, a2, a3, a4, a5, a6, a7, a8, a9, a10, a11) (nI x) := by
  have k' := k
  have hS : ∀ i, i ≤ nc + 1 → S i ≤ n := fun i hi => lz_K_S k hi
  obtain ⟨k1, k2, k3, k4, k5, k6, k7, k8, k9, k10, k11⟩ := k
  have hc : min x n ≤ n := by omega
  unfold wpX_countWithin
  refine lz_cp hx (by omega) ?_
  obtain ⟨c, ec⟩ : ∃ c, c = min x n := ⟨_, rfl⟩
  rw [← ec] at H hc
  rw [← ec]
  refine br_f (nI_ne0 (by omega) (by omega)) (pk_eq c 0 (fun z => ?_) (fun z => lz_prep k' hM hd h9 hy (fun b10 b11 ht => ?_)))
  · have h := H y a10 a11 hy
    rw [z] at h
    exact h
  have H := H 1 b10 b11 (Or.inr ⟨rfl, ht⟩)
  have E : ∃ f, wX_countWithin_31 post (nI c) (nI (nc + 4)) (nI n) (nI nc) (nI (ph nc)) (nI M) 1 a1 a2 a3 a4 a5 a6 a7 a8 a9 b10 b11 f (nI (lz_rn d T 0 (min c (S 0)))) (nI (lz_hc d M T 0 (min c (S 0)))) (nI 0) := by
    refine pk_loop (σ := Unit) (fun f i _ => wX_countWithin_31 post (nI c) (nI (nc + 4)) (nI n) (nI nc) (nI (ph nc)) (nI M) 1 a1 a2 a3 a4 a5 a6 a7 a8 a9 b10 b11 f (nI (lz_rn d T 0 (min c (S i)))) (nI (lz_hc d M T 0 (min c (S i)))) (nI i)) (fun _ _ => True) (nc + 1) 0 () (by omega) trivial ?_ ?_
    · intro f _ _
      refine pk_lt nc (nc + 1) (fun _ => ?_) (fun z => absurd z (by omega))
      rw [k9, show min c n = c by omega]
      exact H
    · intro f i _ hi _ hw
      have hi' : i ≤ nc := by omega
      have hpi := k5 i hi'
      have hSi := hS (i) (by omega)
      have e3 := k8 i hi'
      have hw := hw () trivial
      have hq : lz_rn d T 0 (S i) ≤ M := lz_rn_b hd hT (Nat.zero_le _)
      refine pk_lt nc i (fun z => absurd z (by omega)) (fun _ => ⟨pk_in i 121 (by omega), ?_⟩)
      rw [nI_clamp (by omega), k10 i hi']
      refine pk_le c (S i) (fun z => ?_) (fun z => lz_pa k' hi' ⟨pk_in i 121 (by omega), ?_⟩)
      · rw [show min c (S i) = c by omega]
        exact H
      · rw [pk_sub (by omega)]
        refine lz_bg k' hpi (by omega) (by omega) (fun p' hp' e1 e2 => ?_)
        obtain ⟨t1, t2⟩ := ht p' hp' _ hq
        have r1 := lz_rn_at (d := d) (f := T) (s := S i) (k := sz p') (wp := w p') 0 (fun j hj => (e2 j hj).trans (k11 i hi' j (by omega)))
        have r2 := lz_hc_at (d := d) (m := M) (f := T) (s := S i) (k := sz p') (wp := w p') 0 (fun j hj => (e2 j hj).trans (k11 i hi' j (by omega)))
        rw [show S i + sz p' = min c (S (i + 1)) by omega] at r1 r2
        rw [show min c (S i) = S i by omega]
        refine ⟨pk_in (p' * 11 + lz_rn d T 0 (S i)) 1408 (by omega) (lz_ix11 _ _), ?_⟩
        rw [lz_cl11 (by omega), t1, t2, nI_add, r1, r2]
        exact nm_e ⟨pk_in (p' * 11 + lz_rn d T 0 (S i)) 1408 (by omega) (lz_ix11 _ _), nm_e (nm_r (nI_1 i) hw)⟩
  rw [k7, Nat.min_zero] at E
  exact E
theorem lz_cnt {post : Int32 → St2 → Prop} (k : lz_K n nc w sz ph S T a1 a2 a3 a4 a5 a6 a7) (hT : ∀ j, T j < 4) (h1 : 1 ≤ M) (hM : M ≤ 10) (hd : ∀ s l, s ≤ M → l < 4 → d s l ≤ M) (h9 : ∀ s, s ≤ M → ∀ l, l < 4 → a9 (s * 4 + l) = nI (d s l))
    (hy : lz_Y (nc + 4) M d w sz y a10 a11)
    (H : ∀ (y' : Int32) (b10 b11 : Nat → Int32), lz_Y (nc + 4) M d w sz y' b10 b11 → post (nI (lz_hc d M T 0 n)) (nI (nc + 4), nI n, nI nc, nI (ph nc), nI M, y', a1, a2, a3, a4, a5, a6, a7, a8, a9, b10, b11)) :
    wpX_count post (nI (nc + 4), nI n, nI nc, nI (ph nc), nI M, y, a1, a2, a3, a4, a5, a6, a7, a8, a9, a10, a11) := by
  have hn : n < 2 ^ 31 := by
    obtain ⟨_, _, _, _⟩ := k
    omega
  unfold wpX_count
  refine lz_cw k hT h1 hM hd h9 hy hn (fun y' b10 b11 h => ?_)
  have h := H y' b10 b11 h
  rw [show min n n = n by omega]
  exact h
theorem lz_ov {post : Int32 → St2 → Prop} (k : lz_K n nc w sz ph S T a1 a2 a3 a4 a5 a6 a7) (hT : ∀ j, T j < 4) (h1 : 1 ≤ M) (hM : M ≤ 10) (hd : ∀ s l, s ≤ M → l < 4 → d s l ≤ M) (h9 : ∀ s, s ≤ M → ∀ l, l < 4 → a9 (s * 4 + l) = nI (d s l))
    (hy : lz_Y (nc + 4) M d w sz y a10 a11)
    (H : ∀ (y' : Int32) (b10 b11 : Nat → Int32), lz_Y (nc + 4) M d w sz y' b10 b11 → post (nI (lz_rn d T 0 n)) (nI (nc + 4), nI n, nI nc, nI (ph nc), nI M, y', a1, a2, a3, a4, a5, a6, a7, a8, a9, b10, b11)) :
    wpX_overlap post (nI (nc + 4), nI n, nI nc, nI (ph nc), nI M, y, a1, a2, a3, a4, a5, a6, a7, a8, a9, a10, a11) := by
  have k' := k
  obtain ⟨k1, k2, k3, k4, k5, k6, k7, k8, k9, k10, k11⟩ := k
  refine br_f (nI_ne0 (by omega) (by omega)) (br_f (nI_ne0 (by omega) (by omega)) (lz_prep k' hM hd h9 hy (fun b10 b11 ht => ?_)))
  have H := H 1 b10 b11 (Or.inr ⟨rfl, ht⟩)
  have E : ∃ f, wX_overlap_24 post (nI (nc + 4)) (nI n) (nI nc) (nI (ph nc)) (nI M) 1 a1 a2 a3 a4 a5 a6 a7 a8 a9 b10 b11 f (nI (lz_rn d T 0 (S 0))) (nI 0) := by
    refine pk_loop (σ := Unit) (fun f i _ => wX_overlap_24 post (nI (nc + 4)) (nI n) (nI nc) (nI (ph nc)) (nI M) 1 a1 a2 a3 a4 a5 a6 a7 a8 a9 b10 b11 f (nI (lz_rn d T 0 (S i))) (nI i)) (fun _ _ => True) (nc + 1) 0 () (by omega) trivial ?_ ?_
    · intro f _ _
      refine pk_lt nc (nc + 1) (fun _ => ?_) (fun z => absurd z (by omega))
      rw [k9]
      exact H
    · intro f i _ hi _ hw
      have hi' : i ≤ nc := by omega
      have hpi := k5 i hi'
      have e3 := k8 i hi'
      have hw := hw () trivial
      have hq : lz_rn d T 0 (S i) ≤ M := lz_rn_b hd hT (Nat.zero_le _)
      obtain ⟨t1, t2⟩ := ht (ph i) hpi _ hq
      have c2 := lz_rn_at (d := d) (f := T) (s := S i) (k := sz (ph i)) 0 (k11 i hi')
      rw [← e3] at c2
      refine pk_lt nc i (fun z => absurd z (by omega)) (fun _ => lz_pa k' hi' ⟨pk_in (ph i * 11 + lz_rn d T 0 (S i)) 1408 (by omega) (lz_ix11 _ _), ?_⟩)
      rw [lz_cl11 (by omega), t1, c2]
      exact nm_e (nm_r (nI_1 i) hw)
  rw [k7] at E
  exact E
end
end
section
/-! ===== the law: text and end ===== -/
def lz_T (a b c : Nat) : Nat → Nat := fun i => if i % 3 = 0 then a else if i % 3 = 1 then b else c
theorem lz_T_b {a b c : Nat} (ha : a < 4) (hb : b < 4) (hc : c < 4) (j : Nat) : lz_T a b c j < 4 := by
  unfold lz_T
  split
  · exact ha
  · split
    · exact hb
    · exact hc
theorem lz_at {post : Int32 → Prop} {a b c i : Nat} (hi : i < 2 ^ 31) (H : post (nI (lz_T a b c i))) : wpL_at post () (nI a) (nI b) (nI c) (nI i) := by
  have e : nI i - nI i / 3 * 3 = nI (i % 3) := pk_rem (d := 3) hi (by decide) (by decide)
  unfold lz_T at H
  refine ⟨by decide, ?_⟩
  rw [e]
  refine pk_eq (i % 3) 0 (fun z => ?_) (fun z => ⟨by decide, pk_eq (i % 3) 1 (fun z1 => ?_) (fun z1 => ?_)⟩)
  · rw [if_pos z] at H
    exact H
  · rw [if_neg z, if_pos z1] at H
    exact H
  · rw [if_neg z, if_neg z1] at H
    exact H
/-- the law's object behind its making: ten letters, a pattern of three -/
def lz_L (a b c p q r nc : Nat) (w : Nat → Nat → Nat) (sz ph S : Nat → Nat) (a1 a2 a3 a4 a5 a6 a7 a8 a9 : Nat → Int32) : Prop :=
  lz_K 10 nc w sz ph S (lz_T a b c) a1 a2 a3 a4 a5 a6 a7 ∧ (a < 4 ∧ b < 4 ∧ c < 4) ∧ (p < 4 ∧ q < 4 ∧ r < 4) ∧ (∀ s, s ≤ 3 → ∀ l, l < 4 → a9 (s * 4 + l) = nI (lz_d p q r s l))
section
variable {post : Int32 → St0 → Prop} {mc ms kc ks : Nat} {a b c p q r L nc : Nat} {w : Nat → Nat → Nat} {sz ph S : Nat → Nat} {y : Int32} {a1 a2 a3 a4 a5 a6 a7 a8 a9 a10 a11 : Nat → Int32}
theorem lz_421 (g : lz_L a b c p q r nc w sz ph S a1 a2 a3 a4 a5 a6 a7 a8 a9) (hy : lz_Y (nc + 4) 3 (lz_d p q r) w sz y a10 a11) (hp : post 1 ()) {x14 z0 : Int32}
    (h14 : (x14 = 0 ∧ ¬ (b = p ∧ c = q ∧ a = r)) ∨ (x14 = 1 ∧ (b = p ∧ c = q ∧ a = r))) (hz : (z0 = 0 ∧ ¬ (c = p ∧ a = q)) ∨ (z0 = 1 ∧ (c = p ∧ a = q))) :
    wL_lawOf_421 post mc ms (nI a) (nI p) x14 z0 kc ks (nI (nc + 4)) (nI 10) (nI nc) (nI (ph nc)) (nI 3) y a1 a2 a3 a4 a5 a6 a7 a8 a9 a10 a11 := by
  obtain ⟨k, ⟨ha, hb, hc⟩, ⟨hp4, hq4, hr4⟩, h9⟩ := g
  have e : lz_rn (lz_d p q r) (lz_T a b c) 0 10 = lz_sg p q r b c a := lz_rn3 hp4 hq4 hr4 (lz_T_b ha hb hc) 10
  refine lz_ov k (lz_T_b ha hb hc) (by decide) (by decide) (fun s l hs _ => lz_d_b s l hs) h9 hy (fun y' b10 b11 _ => ?_)
  rw [e]
  unfold lz_sg
  rcases h14 with ⟨e1, e2⟩ | ⟨e1, e2⟩
  · subst e1
    rw [if_neg e2]
    refine br_t rfl ?_
    rcases hz with ⟨e3, e4⟩ | ⟨e3, e4⟩
    · subst e3
      rw [if_neg e4]
      refine br_t rfl (pk_eq a p (fun z => ?_) (fun z => ?_))
      · rw [if_pos z]
        exact br_t rfl hp
      · rw [if_neg z]
        exact br_t rfl hp
    · subst e3
      rw [if_pos e4]
      exact br_f (by decide) (br_t rfl hp)
  · subst e1
    rw [if_pos e2]
    exact br_f (by decide) (br_t rfl hp)
theorem lz_400 (g : lz_L a b c p q r nc w sz ph S a1 a2 a3 a4 a5 a6 a7 a8 a9) (hy : lz_Y (nc + 4) 3 (lz_d p q r) w sz y a10 a11) (hp : post 1 ()) {z0 : Int32}
    (h14 : (z0 = 0 ∧ ¬ (b = p ∧ c = q ∧ a = r)) ∨ (z0 = 1 ∧ (b = p ∧ c = q ∧ a = r))) :
    wL_lawOf_400 post mc ms (nI a) (nI c) (nI p) (nI q) z0 kc ks (nI (nc + 4)) (nI 10) (nI nc) (nI (ph nc)) (nI 3) y a1 a2 a3 a4 a5 a6 a7 a8 a9 a10 a11 := by
  obtain ⟨k, ⟨ha, hb, hc⟩, ⟨hp4, hq4, hr4⟩, h9⟩ := id g
  exact pk_eq c p (fun z => pk_eq a q (fun z1 => lz_421 g hy hp h14 (Or.inr ⟨rfl, z, z1⟩)) (fun z1 => lz_421 g hy hp h14 (Or.inl ⟨rfl, fun t => z1 t.2⟩))) (fun z => lz_421 g hy hp h14 (Or.inl ⟨rfl, fun t => z t.1⟩))
theorem lz_326 (g : lz_L a b c p q r nc w sz ph S a1 a2 a3 a4 a5 a6 a7 a8 a9) (hy : lz_Y (nc + 4) 3 (lz_d p q r) w sz y a10 a11) (hp : post 1 ()) (hL : L < 2 ^ 31) :
    wL_lawOf_326 post mc ms (nI a) (nI b) (nI c) (nI p) (nI q) (nI r) (nI (lz_hc (lz_d p q r) 3 (lz_T a b c) 0 10)) (nI (lz_hc (lz_d p q r) 3 (lz_T a b c) 0 (min L 10))) (nI (lz_ct (lz_T a b c) p (min L 10))) (nI L) kc ks (nI (nc + 4)) (nI 10) (nI nc) (nI (ph nc)) (nI 3) y a1 a2 a3 a4 a5 a6 a7 a8 a9 a10 a11 := by
  obtain ⟨k, ⟨ha, hb, hc⟩, ⟨hp4, hq4, hr4⟩, h9⟩ := id g
  have hT := lz_T_b ha hb hc
  have hd : ∀ s l, s ≤ 3 → l < 4 → lz_d p q r s l ≤ 3 := fun s l hs _ => lz_d_b s l hs
  have hh := lz_hc_le (lz_d p q r) 3 (lz_T a b c) 0 10
  refine lz_cnt k hT (by decide) (by decide) hd h9 hy (fun y1 b10 b11 hy1 => br_t rfl (lz_pos k hT (by decide) (by decide) hd h9 hy1 (by omega) (fun c10 c11 x ht hx => ?_)))
  have ex : x = -4 := by
    rcases hx with ⟨_, e⟩ | ⟨j, hj, j1, _, _⟩
    · exact e
    · have := lz_hc_mono (lz_d p q r) 3 (lz_T a b c) 0 (i := j + 1) (j := 10) (by omega)
      omega
  subst ex
  refine br_t rfl (lz_cw k hT (by decide) (by decide) hd h9 (Or.inr ⟨rfl, ht⟩) hL (fun y3 d10 d11 hy3 => br_t rfl (lz_freq k hp4 hL (br_t rfl ?_))))
  exact pk_eq b p (fun z1 => pk_eq c q (fun z2 => pk_eq a r (fun z3 => lz_400 g hy3 hp (Or.inr ⟨rfl, z1, z2, z3⟩)) (fun z3 => lz_400 g hy3 hp (Or.inl ⟨rfl, fun t => z3 t.2.2⟩))) (fun z2 => lz_400 g hy3 hp (Or.inl ⟨rfl, fun t => z2 t.2.1⟩))) (fun z1 => lz_400 g hy3 hp (Or.inl ⟨rfl, fun t => z1 t.1⟩))
theorem lz_309 (g : lz_L a b c p q r nc w sz ph S a1 a2 a3 a4 a5 a6 a7 a8 a9) (hy : lz_Y (nc + 4) 3 (lz_d p q r) w sz y a10 a11) (hp : post 1 ()) (hL : L < 2 ^ 31) :
    wL_lawOf_309 post mc ms (nI a) (nI b) (nI c) (nI p) (nI q) (nI r) (nI (lz_hc (lz_d p q r) 3 (lz_T a b c) 0 10)) (nI (lz_hc (lz_d p q r) 3 (lz_T a b c) 0 (min L 10))) (nI (lz_ct (lz_T a b c) p (min L 9))) (nI L) kc ks (nI (nc + 4)) (nI 10) (nI nc) (nI (ph nc)) (nI 3) y a1 a2 a3 a4 a5 a6 a7 a8 a9 a10 a11 := by
  obtain ⟨k, ⟨ha, hb, hc⟩, ⟨hp4, hq4, hr4⟩, h9⟩ := id g
  have R := lz_326 (mc := mc) (ms := ms) (kc := kc) (ks := ks) g hy hp hL
  refine pk_le L 9 (fun z => ?_) (fun z => ?_)
  · rw [show min L 9 = min L 10 by omega]
    exact R
  · have e : lz_ct (lz_T a b c) p (min L 10) = lz_ct (lz_T a b c) p (min L 9) + (if a = p then 1 else 0) := by
      rw [show min L 10 = 9 + 1 by omega, show min L 9 = 9 by omega]
      rfl
    refine pk_eq p a (fun z1 => nm_r (nI_1 _) ?_) (fun z1 => ?_)
    · rw [if_pos z1.symm] at e
      rw [← e]
      exact R
    · rw [if_neg (fun t => z1 t.symm), Nat.add_zero] at e
      rw [← e]
      exact R
end
end
section
/-! ===== the law: one turn, the loop, the top ===== -/
section
variable {post : Int32 → St0 → Prop} {mc ms kc ks : Nat} {a b c p q r L nc i : Nat} {w : Nat → Nat → Nat} {sz ph S : Nat → Nat} {y : Int32} {a1 a2 a3 a4 a5 a6 a7 a8 a9 a10 a11 : Nat → Int32} {J : Int32 → Int32 → Int32 → Int32 → Int32 → Int32 → Int32 → Int32 → Int32 → Int32 → (Nat → Int32) → (Nat → Int32) → (Nat → Int32) → (Nat → Int32) → (Nat → Int32) → (Nat → Int32) → (Nat → Int32) → (Nat → Int32) → (Nat → Int32) → (Nat → Int32) → (Nat → Int32) → Prop}
theorem lz_264 (g : lz_L a b c p q r nc w sz ph S a1 a2 a3 a4 a5 a6 a7 a8 a9) (hy : lz_Y (nc + 4) 3 (lz_d p q r) w sz y a10 a11) (hi : i < 8) {x10 x11 x12 x13 : Int32} (H : ∀ (y' : Int32) (b10 b11 : Nat → Int32), lz_Y (nc + 4) 3 (lz_d p q r) w sz y' b10 b11 → J (x10) (x11) (x12) (nI (i + 1)) (nI (nc + 4)) (nI 10) (nI nc) (nI (ph nc)) (nI 3) y' a1 a2 a3 a4 a5 a6 a7 a8 a9 b10 b11) :
    wL_lawOf_264 post mc ms J (nI a) (nI b) (nI c) (nI p) (nI q) (nI r) x10 x11 x12 x13 (nI i) kc ks (nI (nc + 4)) (nI 10) (nI nc) (nI (ph nc)) (nI 3) y a1 a2 a3 a4 a5 a6 a7 a8 a9 a10 a11 := by
  obtain ⟨k, _⟩ := g
  exact lz_la k (by omega) (lz_at (by omega) (br_t rfl (nm_r (nI_1 i) (H y a10 a11 hy))))
theorem lz_249 (g : lz_L a b c p q r nc w sz ph S a1 a2 a3 a4 a5 a6 a7 a8 a9) (hy : lz_Y (nc + 4) 3 (lz_d p q r) w sz y a10 a11) (hi : i < 8) (hL : L < 2 ^ 31) {x10 x11 x15 : Int32} (h15 : (x15 = 0 ∧ ¬ lz_T a b c i = p) ∨ (x15 = 1 ∧ lz_T a b c i = p)) (H : ∀ (y' : Int32) (b10 b11 : Nat → Int32), lz_Y (nc + 4) 3 (lz_d p q r) w sz y' b10 b11 → J (x10) (x11) (nI (lz_ct (lz_T a b c) p (min L (i + 1)))) (nI (i + 1)) (nI (nc + 4)) (nI 10) (nI nc) (nI (ph nc)) (nI 3) y' a1 a2 a3 a4 a5 a6 a7 a8 a9 b10 b11) :
    wL_lawOf_249 post mc ms J (nI a) (nI b) (nI c) (nI p) (nI q) (nI r) x10 x11 (nI (lz_ct (lz_T a b c) p (min L i))) (nI L) (nI i) x15 kc ks (nI (nc + 4)) (nI 10) (nI nc) (nI (ph nc)) (nI 3) y a1 a2 a3 a4 a5 a6 a7 a8 a9 a10 a11 := by
  have e : lz_ct (lz_T a b c) p (i + 1) = lz_ct (lz_T a b c) p i + (if lz_T a b c i = p then 1 else 0) := rfl
  rcases h15 with ⟨e1, e2⟩ | ⟨e1, e2⟩
  · subst e1
    rw [if_neg e2, Nat.add_zero] at e
    have e' : lz_ct (lz_T a b c) p (min L (i + 1)) = lz_ct (lz_T a b c) p (min L i) := by
      by_cases z : i < L
      · rw [show min L (i + 1) = i + 1 by omega, show min L i = i by omega]
        exact e
      · rw [show min L (i + 1) = min L i by omega]
    rw [e'] at H
    exact br_t rfl (lz_264 g hy hi H)
  · subst e1
    rw [if_pos e2] at e
    refine br_f (by decide) (pk_le L i (fun z => ?_) (fun z => nm_r (nI_1 _) ?_))
    · rw [show min L (i + 1) = min L i by omega] at H
      exact lz_264 g hy hi H
    · rw [show min L (i + 1) = i + 1 by omega, e] at H
      rw [show min L i = i by omega]
      exact lz_264 g hy hi H
theorem lz_232 (g : lz_L a b c p q r nc w sz ph S a1 a2 a3 a4 a5 a6 a7 a8 a9) (hy : lz_Y (nc + 4) 3 (lz_d p q r) w sz y a10 a11) (hi : i < 8) (hL : L < 2 ^ 31) {x10 x15 x16 : Int32} (h15 : (x15 = 0 ∧ ¬ lz_T a b c i = p) ∨ (x15 = 1 ∧ lz_T a b c i = p)) (h16 : (x16 = 0 ∧ ¬ (lz_T a b c i = p ∧ lz_T a b c (i + 1) = q ∧ lz_T a b c (i + 2) = r)) ∨ (x16 = 1 ∧ (lz_T a b c i = p ∧ lz_T a b c (i + 1) = q ∧ lz_T a b c (i + 2) = r))) (H : ∀ (y' : Int32) (b10 b11 : Nat → Int32), lz_Y (nc + 4) 3 (lz_d p q r) w sz y' b10 b11 → J (x10) (nI (lz_hc (lz_d p q r) 3 (lz_T a b c) 0 (min L (i + 3)))) (nI (lz_ct (lz_T a b c) p (min L (i + 1)))) (nI (i + 1)) (nI (nc + 4)) (nI 10) (nI nc) (nI (ph nc)) (nI 3) y' a1 a2 a3 a4 a5 a6 a7 a8 a9 b10 b11) :
    wL_lawOf_232 post mc ms J (nI a) (nI b) (nI c) (nI p) (nI q) (nI r) x10 (nI (lz_hc (lz_d p q r) 3 (lz_T a b c) 0 (min L (i + 2)))) (nI (lz_ct (lz_T a b c) p (min L i))) (nI L) (nI i) x15 x16 kc ks (nI (nc + 4)) (nI 10) (nI nc) (nI (ph nc)) (nI 3) y a1 a2 a3 a4 a5 a6 a7 a8 a9 a10 a11 := by
  obtain ⟨k, ⟨ha, hb, hc⟩, ⟨hp4, hq4, hr4⟩, h9⟩ := id g
  have e := lz_hc_hit hp4 hq4 hr4 (lz_T_b ha hb hc) i
  rcases h16 with ⟨e1, e2⟩ | ⟨e1, e2⟩
  · subst e1
    rw [if_neg e2, Nat.add_zero] at e
    have e' : lz_hc (lz_d p q r) 3 (lz_T a b c) 0 (min L (i + 3)) = lz_hc (lz_d p q r) 3 (lz_T a b c) 0 (min L (i + 2)) := by
      by_cases z : i + 2 < L
      · rw [show min L (i + 3) = i + 3 by omega, show min L (i + 2) = i + 2 by omega]
        exact e
      · rw [show min L (i + 3) = min L (i + 2) by omega]
    rw [e'] at H
    exact br_t rfl (lz_249 g hy hi hL h15 H)
  · subst e1
    rw [if_pos e2] at e
    refine br_f (by decide) (pk_lt L (i + 3) (fun z => ?_) (fun z => nm_r (nI_1 _) ?_) rfl (nI_add i 3))
    · rw [show min L (i + 3) = min L (i + 2) by omega] at H
      exact lz_249 g hy hi hL h15 H
    · rw [show min L (i + 3) = i + 3 by omega, e] at H
      rw [show min L (i + 2) = i + 2 by omega]
      exact lz_249 g hy hi hL h15 H
theorem lz_224 (g : lz_L a b c p q r nc w sz ph S a1 a2 a3 a4 a5 a6 a7 a8 a9) (hy : lz_Y (nc + 4) 3 (lz_d p q r) w sz y a10 a11) (hi : i < 8) (hL : L < 2 ^ 31) {x15 x16 : Int32} (h15 : (x15 = 0 ∧ ¬ lz_T a b c i = p) ∨ (x15 = 1 ∧ lz_T a b c i = p)) (h16 : (x16 = 0 ∧ ¬ (lz_T a b c i = p ∧ lz_T a b c (i + 1) = q ∧ lz_T a b c (i + 2) = r)) ∨ (x16 = 1 ∧ (lz_T a b c i = p ∧ lz_T a b c (i + 1) = q ∧ lz_T a b c (i + 2) = r))) (H : ∀ (y' : Int32) (b10 b11 : Nat → Int32), lz_Y (nc + 4) 3 (lz_d p q r) w sz y' b10 b11 → J (nI (lz_hc (lz_d p q r) 3 (lz_T a b c) 0 (i + 3))) (nI (lz_hc (lz_d p q r) 3 (lz_T a b c) 0 (min L (i + 3)))) (nI (lz_ct (lz_T a b c) p (min L (i + 1)))) (nI (i + 1)) (nI (nc + 4)) (nI 10) (nI nc) (nI (ph nc)) (nI 3) y' a1 a2 a3 a4 a5 a6 a7 a8 a9 b10 b11) :
    wL_lawOf_224 post mc ms J (nI a) (nI b) (nI c) (nI p) (nI q) (nI r) (nI (lz_hc (lz_d p q r) 3 (lz_T a b c) 0 (i + 2))) (nI (lz_hc (lz_d p q r) 3 (lz_T a b c) 0 (min L (i + 2)))) (nI (lz_ct (lz_T a b c) p (min L i))) (nI L) (nI i) x15 x16 kc ks (nI (nc + 4)) (nI 10) (nI nc) (nI (ph nc)) (nI 3) y a1 a2 a3 a4 a5 a6 a7 a8 a9 a10 a11 := by
  obtain ⟨k, ⟨ha, hb, hc⟩, ⟨hp4, hq4, hr4⟩, h9⟩ := id g
  have e := lz_hc_hit hp4 hq4 hr4 (lz_T_b ha hb hc) i
  rcases id h16 with ⟨e1, e2⟩ | ⟨e1, e2⟩
  · rw [if_neg e2, Nat.add_zero] at e
    rw [e] at H
    exact br_t e1 (lz_232 g hy hi hL h15 h16 H)
  · rw [if_pos e2] at e
    rw [e] at H
    exact br_f (by rw [e1]; decide) (nm_r (nI_1 _) (lz_232 g hy hi hL h15 h16 H))
theorem lz_204 (g : lz_L a b c p q r nc w sz ph S a1 a2 a3 a4 a5 a6 a7 a8 a9) (hy : lz_Y (nc + 4) 3 (lz_d p q r) w sz y a10 a11) (hi : i < 8) (hL : L < 2 ^ 31) {x15 x16 : Int32} (h15 : (x15 = 0 ∧ ¬ lz_T a b c i = p) ∨ (x15 = 1 ∧ lz_T a b c i = p)) (h16 : (x16 = 0 ∧ ¬ (lz_T a b c i = p ∧ lz_T a b c (i + 1) = q ∧ lz_T a b c (i + 2) = r)) ∨ (x16 = 1 ∧ (lz_T a b c i = p ∧ lz_T a b c (i + 1) = q ∧ lz_T a b c (i + 2) = r))) (H : ∀ (y' : Int32) (b10 b11 : Nat → Int32), lz_Y (nc + 4) 3 (lz_d p q r) w sz y' b10 b11 → J (nI (lz_hc (lz_d p q r) 3 (lz_T a b c) 0 (i + 3))) (nI (lz_hc (lz_d p q r) 3 (lz_T a b c) 0 (min L (i + 3)))) (nI (lz_ct (lz_T a b c) p (min L (i + 1)))) (nI (i + 1)) (nI (nc + 4)) (nI 10) (nI nc) (nI (ph nc)) (nI 3) y' a1 a2 a3 a4 a5 a6 a7 a8 a9 b10 b11) :
    wL_lawOf_204 post mc ms J (nI a) (nI b) (nI c) (nI p) (nI q) (nI r) (nI (lz_hc (lz_d p q r) 3 (lz_T a b c) 0 (i + 2))) (nI (lz_hc (lz_d p q r) 3 (lz_T a b c) 0 (min L (i + 2)))) (nI (lz_ct (lz_T a b c) p (min L i))) (nI L) (nI i) x15 x16 kc ks (nI (nc + 4)) (nI 10) (nI nc) (nI (ph nc)) (nI 3) y a1 a2 a3 a4 a5 a6 a7 a8 a9 a10 a11 := by
  obtain ⟨k, ⟨ha, hb, hc⟩, ⟨hp4, hq4, hr4⟩, h9⟩ := id g
  have hT := lz_T_b ha hb hc
  have e := lz_hc_hit hp4 hq4 hr4 hT i
  rcases id h16 with ⟨e1, e2⟩ | ⟨e1, e2⟩
  · exact br_t e1 (lz_224 g hy hi hL h15 h16 H)
  · rw [if_pos e2] at e
    have hh := lz_hc_le (lz_d p q r) 3 (lz_T a b c) 0 (i + 2)
    refine br_f (by rw [e1]; decide) (lz_pos (d := lz_d p q r) k hT (by decide) (by decide) (fun s l hs _ => lz_d_b s l hs) h9 hy (by omega) (fun c10 c11 x ht hx => ?_))
    have ex : x = nI i := by
      rcases hx with ⟨j0, _⟩ | ⟨j, hj, j1, j2, j3⟩
      · have := lz_hc_mono (lz_d p q r) 3 (lz_T a b c) 0 (i := i + 3) (j := 10) (by omega)
        omega
      · have m1 : i + 2 < j + 1 := by
          rcases Nat.lt_or_ge (i + 2) (j + 1) with z | z
          · exact z
          · have := lz_hc_mono (lz_d p q r) 3 (lz_T a b c) 0 z
            omega
        have m2 : j < i + 3 := by
          rcases Nat.lt_or_ge j (i + 3) with z | z
          · exact z
          · have := lz_hc_mono (lz_d p q r) 3 (lz_T a b c) 0 z
            omega
        rw [j3, show j + 1 = i + 3 by omega, pk_sub (by omega)]
        rfl
    exact br_t ex (lz_224 g (Or.inr ⟨rfl, ht⟩) hi hL h15 h16 H)
theorem lz_156 (g : lz_L a b c p q r nc w sz ph S a1 a2 a3 a4 a5 a6 a7 a8 a9) (hy : lz_Y (nc + 4) 3 (lz_d p q r) w sz y a10 a11) (hi : i < 8) (hL : L < 2 ^ 31) {x15 : Int32} (h15 : (x15 = 0 ∧ ¬ lz_T a b c i = p) ∨ (x15 = 1 ∧ lz_T a b c i = p)) (H : ∀ (y' : Int32) (b10 b11 : Nat → Int32), lz_Y (nc + 4) 3 (lz_d p q r) w sz y' b10 b11 → J (nI (lz_hc (lz_d p q r) 3 (lz_T a b c) 0 (i + 3))) (nI (lz_hc (lz_d p q r) 3 (lz_T a b c) 0 (min L (i + 3)))) (nI (lz_ct (lz_T a b c) p (min L (i + 1)))) (nI (i + 1)) (nI (nc + 4)) (nI 10) (nI nc) (nI (ph nc)) (nI 3) y' a1 a2 a3 a4 a5 a6 a7 a8 a9 b10 b11) :
    wL_lawOf_156 post mc ms J (nI a) (nI b) (nI c) (nI p) (nI q) (nI r) (nI (lz_hc (lz_d p q r) 3 (lz_T a b c) 0 (i + 2))) (nI (lz_hc (lz_d p q r) 3 (lz_T a b c) 0 (min L (i + 2)))) (nI (lz_ct (lz_T a b c) p (min L i))) (nI L) (nI i) x15 kc ks (nI (nc + 4)) (nI 10) (nI nc) (nI (ph nc)) (nI 3) y a1 a2 a3 a4 a5 a6 a7 a8 a9 a10 a11 := by
  obtain ⟨k, ⟨ha, hb, hc⟩, ⟨hp4, hq4, hr4⟩, h9⟩ := id g
  have hT := lz_T_b ha hb hc
  have F : ¬ (lz_T a b c i = p ∧ lz_T a b c (i + 1) = q ∧ lz_T a b c (i + 2) = r) → wL_lawOf_203 post mc ms J (nI a) (nI b) (nI c) (nI p) (nI q) (nI r) (nI (lz_hc (lz_d p q r) 3 (lz_T a b c) 0 (i + 2))) (nI (lz_hc (lz_d p q r) 3 (lz_T a b c) 0 (min L (i + 2)))) (nI (lz_ct (lz_T a b c) p (min L i))) (nI L) (nI i) x15 kc ks (nI (nc + 4)) (nI 10) (nI nc) (nI (ph nc)) (nI 3) y a1 a2 a3 a4 a5 a6 a7 a8 a9 a10 a11 := fun z => lz_204 g hy hi hL h15 (Or.inl ⟨rfl, z⟩) H
  rcases id h15 with ⟨e1, e2⟩ | ⟨e1, e2⟩
  · exact br_t e1 (F (fun t => e2 t.1))
  · have t1 := hT (i + 1)
    have t2 := hT (i + 2)
    refine br_f (by rw [e1]; decide) ?_
    rw [show nI i + 1 = nI (i + 1) from nI_1 i, show nI i + 2 = nI (i + 2) from nI_add i 2]
    exact lz_at (by omega) (pk_eq (lz_T a b c (i + 1)) q (fun z1 => lz_at (by omega) (pk_eq (lz_T a b c (i + 2)) r (fun z2 => lz_204 g hy hi hL h15 (Or.inr ⟨rfl, e2, z1, z2⟩) H) (fun z2 => F (fun t => z2 t.2.2)))) (fun z1 => F (fun t => z1 t.2.1)))
end
section
variable {post : Int32 → St0 → Prop} {mc ms kc ks : Nat} {a b c p q r L nc : Nat} {w : Nat → Nat → Nat} {sz ph S : Nat → Nat} {y : Int32} {a1 a2 a3 a4 a5 a6 a7 a8 a9 a10 a11 : Nat → Int32}
theorem lz_128 (g : lz_L a b c p q r nc w sz ph S a1 a2 a3 a4 a5 a6 a7 a8 a9) (hy : lz_Y (nc + 4) 3 (lz_d p q r) w sz y a10 a11) (hp : post 1 ()) (hL : L < 2 ^ 31) :
    ∃ f, wL_lawOf_128 post mc ms (nI a) (nI b) (nI c) (nI p) (nI q) (nI r) (nI L) kc ks f 0 0 0 0 (nI (nc + 4)) (nI 10) (nI nc) (nI (ph nc)) (nI 3) y a1 a2 a3 a4 a5 a6 a7 a8 a9 a10 a11 := by
  obtain ⟨k, ⟨ha, hb, hc⟩, ⟨hp4, hq4, hr4⟩, h9⟩ := id g
  have hT := lz_T_b ha hb hc
  have z2 := lz_hc2 hp4 hq4 hr4 hT
  have E : ∃ f, wL_lawOf_128 post mc ms (nI a) (nI b) (nI c) (nI p) (nI q) (nI r) (nI L) kc ks f (nI (lz_hc (lz_d p q r) 3 (lz_T a b c) 0 (0 + 2))) (nI (lz_hc (lz_d p q r) 3 (lz_T a b c) 0 (min L (0 + 2)))) (nI (lz_ct (lz_T a b c) p (min L 0))) (nI 0) (nI (nc + 4)) (nI 10) (nI nc) (nI (ph nc)) (nI 3) y a1 a2 a3 a4 a5 a6 a7 a8 a9 a10 a11 := by
    refine pk_loop (σ := Int32 × (Nat → Int32) × (Nat → Int32)) (fun f i s => wL_lawOf_128 post mc ms (nI a) (nI b) (nI c) (nI p) (nI q) (nI r) (nI L) kc ks f (nI (lz_hc (lz_d p q r) 3 (lz_T a b c) 0 (i + 2))) (nI (lz_hc (lz_d p q r) 3 (lz_T a b c) 0 (min L (i + 2)))) (nI (lz_ct (lz_T a b c) p (min L i))) (nI i) (nI (nc + 4)) (nI 10) (nI nc) (nI (ph nc)) (nI 3) s.1 a1 a2 a3 a4 a5 a6 a7 a8 a9 s.2.1 s.2.2)
      (fun _ s => lz_Y (nc + 4) 3 (lz_d p q r) w sz s.1 s.2.1 s.2.2) 8 0 (y, a10, a11) (by omega) hy ?_ ?_
    · intro f s hI
      have R := lz_309 (mc := mc) (ms := ms) (kc := kc) (ks := ks) g hI hp hL
      refine pk_le 8 8 (fun _ => pk_le L 8 (fun z => ?_) (fun z => ?_)) (fun z => absurd z (by omega))
      · rw [show min L 8 = min L 9 by omega]
        exact R
      · have e : lz_ct (lz_T a b c) p (min L 9) = lz_ct (lz_T a b c) p (min L 8) + (if c = p then 1 else 0) := by
          rw [show min L 9 = 8 + 1 by omega, show min L 8 = 8 by omega]
          rfl
        refine pk_eq p c (fun z1 => nm_r (nI_1 _) ?_) (fun z1 => ?_)
        · rw [if_pos z1.symm] at e
          rw [← e]
          exact R
        · rw [if_neg (fun t => z1 t.symm), Nat.add_zero] at e
          rw [← e]
          exact R
    · intro f i s hi hI hw
      have ti := hT i
      have N := fun (x15 : Int32) h15 => lz_156 (post := post) (mc := mc) (ms := ms) (kc := kc) (ks := ks) (L := L) (x15 := x15) g hI hi hL h15 (fun y' b10 b11 h => hw (y', b10, b11) h)
      exact pk_le 8 i (fun z => absurd z (by omega)) (fun _ => lz_at (by omega) (pk_eq (lz_T a b c i) p (fun z => N 1 (Or.inr ⟨rfl, z⟩)) (fun z => N 0 (Or.inl ⟨rfl, z⟩))))
  have z3 : lz_hc (lz_d p q r) 3 (lz_T a b c) 0 (min L (0 + 2)) = 0 := by
    have := lz_hc_mono (lz_d p q r) 3 (lz_T a b c) 0 (i := min L (0 + 2)) (j := 2) (by omega)
    omega
  rw [z3, Nat.zero_add, z2, Nat.min_zero] at E
  exact E
end
theorem lz_lawOf {post : Int32 → St0 → Prop} (hp : post 1 ()) (u v x : Int32) : wpL_lawOf post 100 5000 () u v x := by
  obtain ⟨a, ha, ea⟩ := pk_andE u (m := 3) 2 (by decide)
  obtain ⟨b, hb, eb⟩ := pk_andE (u >>> ((2 : Int32) &&& 31)) (m := 3) 2 (by decide)
  obtain ⟨c, hc, ec⟩ := pk_andE (u >>> ((4 : Int32) &&& 31)) (m := 3) 2 (by decide)
  obtain ⟨p, hp4, ep⟩ := pk_andE v (m := 3) 2 (by decide)
  obtain ⟨q, hq4, eq⟩ := pk_andE (v >>> ((2 : Int32) &&& 31)) (m := 3) 2 (by decide)
  obtain ⟨r, hr4, er⟩ := pk_andE (v >>> ((4 : Int32) &&& 31)) (m := 3) 2 (by decide)
  obtain ⟨L, hL, eL⟩ := pk_andE x (m := 15) 4 (by decide)
  have ha : a < 4 := ha
  have hb : b < 4 := hb
  have hc : c < 4 := hc
  have hp4 : p < 4 := hp4
  have hq4 : q < 4 := hq4
  have hr4 : r < 4 := hr4
  have hT := lz_T_b (a := a) (b := b) (c := c) ha hb hc
  have hv : ∀ j, lz_v p q r j < 4 := by
    intro j
    unfold lz_v
    split
    · exact hp4
    · split
      · exact hq4
      · exact hr4
  refine ⟨by decide, by decide, 50, 4700, by decide, by decide, lz_init (by decide) (by decide) (fun b1 b2 b3 b4 b5 D => nm_r ea (nm_r eb (nm_r ec (nm_r ep (nm_r eq (nm_r er ?_))))))⟩
  refine lz_app0 (T := lz_T a b c) D ha rfl (fun nc w sz ph S b1 b2 b3 b4 b5 b6 b7 k => ?_)
  refine lz_app k (by decide) hb rfl (fun nc w sz ph S b1 b2 b3 b4 b5 b6 b7 k => ?_)
  refine lz_app k (by decide) hc rfl (fun nc w sz ph S b1 b2 b3 b4 b5 b6 b7 k => ?_)
  refine br_t rfl (lz_rep (c := 7) k (by decide) hT (fun i _ => ?_) (fun nc w sz ph S y b1 b2 b3 b4 b5 b6 b7 k => br_t rfl ?_))
  · unfold lz_T
    rw [show (1 + 1 + 1 + i) % 3 = i % 3 by omega]
  refine lz_pat (k := 0) (v := lz_v p q r) (by decide) rfl hv (fun j hj => absurd hj (by omega)) (fun d8 d9 h8 _ => ?_)
  refine lz_pat (k := 1) (v := lz_v p q r) (by decide) rfl hv h8 (fun d8 d9 h8 _ => ?_)
  refine lz_pat (k := 2) (v := lz_v p q r) (by decide) rfl hv h8 (fun d8 d9 h8 h9 => ?_)
  refine br_t rfl (nm_r eL (lz_128 (L := L) (a := a) (b := b) (c := c) (p := p) (q := q) (r := r) ⟨k, ⟨ha, hb, hc⟩, ⟨hp4, hq4, hr4⟩, h9⟩ (Or.inl rfl) hp (by omega)))
theorem lz_cell {post : Int32 → Prop} {L : Nat} {xs : Nat → Int32} (hL : L ≤ 3) (i : Nat) (hi : i < 2 ^ 31) (H : ∀ x, post x) : wpL_cellAt post L xs () (nI i) :=
  pk_le L i (fun _ => H _) (fun z => ⟨pk_in i L z, H _⟩)
end
section
/-! ===== what is owed ===== -/
theorem i_vc (xs : Nat → Int32) (L : Nat) (hL : L ≤ 3) : wpL_law (fun r => r = 1) L xs := by
  refine lz_cell hL 0 (by decide) (fun x1 => lz_cell hL 1 (by decide) (fun x2 => lz_cell hL 2 (by decide) (fun x3 => ?_)))
  exact ⟨100, 5000, by decide, by decide, lz_lawOf rfl x1 x2 x3⟩
end
