section
section
variable {R K X : Nat} {a1 a2 a3 a4 a5 a6 a7 a8 a9 a10 a11 a12 : Nat → Int32} {b0 v0 d0 b1 v1 d1 : Nat → Int32} {L : Nat → Nat → Prop}

theorem dk_m16 (k : Nat) : nI k * 16 = nI (k * 16) := pk_mul k 16
theorem dk_m8 (k : Nat) : nI k * 8 = nI (k * 8) := pk_mul k 8
theorem dk_e16 (k x : Nat) : nI k * 16 + nI x = nI (k * 16 + x) := by rw [dk_m16, nI_add]
theorem dk_e8 (k x : Nat) : nI k * 8 + nI x = nI (k * 8 + x) := by rw [dk_m8, nI_add]
theorem dk_nm1 {n : Nat} (h : n < 2 ^ 31) : ¬ nI n = -1 := by
  intro e
  have h1 := nI_toInt h
  rw [e] at h1
  have h2 : (-1 : Int32).toInt = -1 := by decide
  omega
theorem dk_c (k : Nat) (h : k < 100) : (nI k).toNatClampNeg = k := nI_clamp (by omega)

/-- no entry of the journal is of this block -/
theorem dk_jno {post : Int32 → Prop} {x : Int32} {C : Nat} (hK : K < 3) (hC : C ≤ 16) (h3 : a3 K = nI C)
    (hn : ∀ i, K * 16 ≤ i → i < K * 16 + C → ¬ a4 i = x) (hp : post (-1)) :
    wpX_journaled post (nI R, a1, a2, a3, a4, a5, a6, a7, a8, a9, a10, a11, a12) (nI K) x := by
  unfold wpX_journaled
  dsimp only
  refine nm_r (dk_m16 K) ?_
  have hc : nI K * 16 + a3 (nI K).toNatClampNeg = nI (K * 16 + C) := by rw [dk_c K (by omega), h3, dk_e16]
  refine pk_loop (σ := Unit) (fun n i _ => wX_journaled_5 post (nI K) x (nI R) a1 a2 a3 a4 a5 a6 a7 a8 a9 a10 a11 a12 n (nI i)) (fun i _ => K * 16 ≤ i) (K * 16 + C) (K * 16) () (by omega) (Nat.le_refl _) (fun n _ hi => ?_) (fun n i _ hi hl hw => ?_)
  · exact ⟨pk_in K 3 hK, pk_le (K * 16 + C) (K * 16 + C) (fun _ => hp) (fun z => absurd z (by omega)) hc⟩
  · exact ⟨pk_in K 3 hK, pk_le (K * 16 + C) i (fun z => absurd z (by omega)) (fun _ => ⟨pk_in i 48 (by omega), br_f (by rw [dk_c i (by omega)]; exact hn i hl hi) (nm_r (nI_1 i) (hw () (by omega)))⟩) hc⟩

theorem dk_j0 {post : Int32 → Prop} {x : Int32} (hK : K < 3) (h3 : a3 K = 0) (hp : post (-1)) :
    wpX_journaled post (nI R, a1, a2, a3, a4, a5, a6, a7, a8, a9, a10, a11, a12) (nI K) x :=
  dk_jno (C := 0) hK (by omega) h3 (fun i h1 h2 => absurd h2 (by omega)) hp

theorem dk_cf {post : Int32 → Prop} {x : Int32} {e : Nat} (hK : K < 3) (hR : R ≤ 8) (h0 : K * 8 ≤ e) (he : e < K * 8 + R)
    (hn : ∀ i, K * 8 ≤ i → i < e → ¬ a9 i = x) (hx : a9 e = x) (hp : post (nI e)) :
    wpX_cached post (nI R, a1, a2, a3, a4, a5, a6, a7, a8, a9, a10, a11, a12) (nI K) x := by
  unfold wpX_cached
  dsimp only
  refine nm_r (dk_m8 K) ?_
  refine pk_loop (σ := Unit) (fun n i _ => wX_cached_5 post (nI K) x (nI R) a1 a2 a3 a4 a5 a6 a7 a8 a9 a10 a11 a12 n (nI i)) (fun i _ => K * 8 ≤ i) e (K * 8) () h0 (Nat.le_refl _) (fun n _ hi => ?_) (fun n i _ hi hl hw => ?_)
  · exact pk_le (K * 8 + R) e (fun z => absurd z (by omega)) (fun _ => ⟨pk_in e 24 (by omega), br_t (by rw [dk_c e (by omega)]; exact hx) hp⟩) (dk_e8 K R)
  · exact pk_le (K * 8 + R) i (fun z => absurd z (by omega)) (fun _ => ⟨pk_in i 24 (by omega), br_f (by rw [dk_c i (by omega)]; exact hn i hl hi) (nm_r (nI_1 i) (hw () (by omega)))⟩) (dk_e8 K R)

theorem dk_cn {post : Int32 → Prop} {x : Int32} (hK : K < 3) (hR : R ≤ 8)
    (hn : ∀ i, K * 8 ≤ i → i < K * 8 + R → ¬ a9 i = x) (hp : post (-1)) :
    wpX_cached post (nI R, a1, a2, a3, a4, a5, a6, a7, a8, a9, a10, a11, a12) (nI K) x := by
  unfold wpX_cached
  dsimp only
  refine nm_r (dk_m8 K) ?_
  refine pk_loop (σ := Unit) (fun n i _ => wX_cached_5 post (nI K) x (nI R) a1 a2 a3 a4 a5 a6 a7 a8 a9 a10 a11 a12 n (nI i)) (fun i _ => K * 8 ≤ i) (K * 8 + R) (K * 8) () (by omega) (Nat.le_refl _) (fun n _ hi => ?_) (fun n i _ hi hl hw => ?_)
  · exact pk_le (K * 8 + R) (K * 8 + R) (fun _ => hp) (fun z => absurd z (by omega)) (dk_e8 K R)
  · exact pk_le (K * 8 + R) i (fun z => absurd z (by omega)) (fun _ => ⟨pk_in i 24 (by omega), br_f (by rw [dk_c i (by omega)]; exact hn i hl hi) (nm_r (nI_1 i) (hw () (by omega)))⟩) (dk_e8 K R)

/-! the picture -/
def dk_E (a3 a7 : Nat → Int32) : Prop := ∀ k, k < 3 → a3 k = 0 ∧ a7 k = 0
def dk_lk (L : Nat → Nat → Prop) (a8 : Nat → Int32) : Prop := ∀ k, k < 3 → ∀ x, x < 16 → (a8 (k * 16 + x) = 0 ↔ ¬ L k x)
def dk_ca (b0 v0 d0 b1 v1 d1 a9 a10 a11 : Nat → Int32) : Prop := ∀ k, k < 3 →
  (a9 (k * 8) = b0 k ∧ a10 (k * 8) = v0 k ∧ a11 (k * 8) = d0 k) ∧ (a9 (k * 8 + 1) = b1 k ∧ a10 (k * 8 + 1) = v1 k ∧ a11 (k * 8 + 1) = d1 k) ∧
  ∀ i, k * 8 + 2 ≤ i → i < k * 8 + 8 → a9 i = -1 ∧ a11 i = 0
def dk_add (L : Nat → Nat → Prop) (K X : Nat) : Nat → Nat → Prop := fun k x => L k x ∨ (k = K ∧ x = X)
def dk_un (b0 d0 b1 d1 : Nat → Int32) (k : Nat) (x : Int32) : Prop := (b0 k = x ∧ ¬ d0 k = 0) ∨ (¬ b0 k = x ∧ b1 k = x ∧ ¬ d1 k = 0)
def dk_ct (d0 d1 : Nat → Int32) (k : Nat) : Int32 := (if d0 k = 0 then 0 else 1) + (if d1 k = 0 then 0 else 1)

theorem dk_look0 {post : Int32 → Prop} {x : Int32} (hK : K < 3) (hR2 : 2 ≤ R) (hR8 : R ≤ 8) (hC : dk_ca b0 v0 d0 b1 v1 d1 a9 a10 a11)
    (hx : b0 K = x) (hp : post (nI (K * 8))) : wpX_cached post (nI R, a1, a2, a3, a4, a5, a6, a7, a8, a9, a10, a11, a12) (nI K) x :=
  dk_cf (e := K * 8) hK hR8 (by omega) (by omega) (fun i h1 h2 => absurd h2 (by omega)) ((hC K hK).1.1.trans hx) hp
theorem dk_look1 {post : Int32 → Prop} {x : Int32} (hK : K < 3) (hR2 : 2 ≤ R) (hR8 : R ≤ 8) (hC : dk_ca b0 v0 d0 b1 v1 d1 a9 a10 a11)
    (hx : ¬ b0 K = x) (hx1 : b1 K = x) (hp : post (nI (K * 8 + 1))) : wpX_cached post (nI R, a1, a2, a3, a4, a5, a6, a7, a8, a9, a10, a11, a12) (nI K) x :=
  dk_cf (e := K * 8 + 1) hK hR8 (by omega) (by omega) (fun i h1 h2 => by
    have hi : i = K * 8 := by omega
    rw [hi, (hC K hK).1.1]
    exact hx) ((hC K hK).2.1.1.trans hx1) hp
theorem dk_lookN {post : Int32 → Prop} {x : Int32} (hK : K < 3) (hR8 : R ≤ 8) (hC : dk_ca b0 v0 d0 b1 v1 d1 a9 a10 a11)
    (hx : ¬ b0 K = x) (hx1 : ¬ b1 K = x) (hm : ¬ x = -1) (hp : post (-1)) : wpX_cached post (nI R, a1, a2, a3, a4, a5, a6, a7, a8, a9, a10, a11, a12) (nI K) x :=
  dk_cn hK hR8 (fun i h1 h2 => by
    by_cases hi : i = K * 8
    · rw [hi, (hC K hK).1.1]
      exact hx
    · by_cases hj : i = K * 8 + 1
      · rw [hj, (hC K hK).2.1.1]
        exact hx1
      · rw [((hC K hK).2.2 i (by omega) (by omega)).1]
        exact fun e => hm e.symm) hp

theorem dk_isu1 {post : Int32 → Prop} (hK : K < 3) (hR2 : 2 ≤ R) (hR8 : R ≤ 8) (hE : dk_E a3 a7) (hC : dk_ca b0 v0 d0 b1 v1 d1 a9 a10 a11)
    {x : Int32} (hu : dk_un b0 d0 b1 d1 K x) (hp : post 1) : wpX_isUnsafe post (nI R, a1, a2, a3, a4, a5, a6, a7, a8, a9, a10, a11, a12) (nI K) x := by
  unfold wpX_isUnsafe
  dsimp only
  refine dk_j0 hK (hE K hK).1 (br_t (by decide) ?_)
  rcases hu with ⟨h1, h2⟩ | ⟨h1, h2, h3⟩
  · exact dk_look0 hK hR2 hR8 hC h1 (br_f (nI_pos (by omega)) ⟨pk_in (K * 8) 24 (by omega), br_f (by rw [dk_c _ (by omega), (hC K hK).1.2.2]; exact h2) hp⟩)
  · exact dk_look1 hK hR2 hR8 hC h1 h2 (br_f (nI_pos (by omega)) ⟨pk_in (K * 8 + 1) 24 (by omega), br_f (by rw [dk_c _ (by omega), (hC K hK).2.1.2.2]; exact h3) hp⟩)

theorem dk_isu0 {post : Int32 → Prop} (hK : K < 3) (hR2 : 2 ≤ R) (hR8 : R ≤ 8) (hE : dk_E a3 a7) (hC : dk_ca b0 v0 d0 b1 v1 d1 a9 a10 a11)
    {x : Int32} (hm : ¬ x = -1) (hu : ¬ dk_un b0 d0 b1 d1 K x) (hp : post 0) : wpX_isUnsafe post (nI R, a1, a2, a3, a4, a5, a6, a7, a8, a9, a10, a11, a12) (nI K) x := by
  unfold wpX_isUnsafe
  dsimp only
  refine dk_j0 hK (hE K hK).1 (br_t (by decide) ?_)
  by_cases h0 : b0 K = x
  · have hd : d0 K = 0 := Classical.byContradiction (fun h => hu (Or.inl ⟨h0, h⟩))
    exact dk_look0 hK hR2 hR8 hC h0 (br_f (nI_pos (by omega)) ⟨pk_in (K * 8) 24 (by omega), br_t (by rw [dk_c _ (by omega), (hC K hK).1.2.2]; exact hd) hp⟩)
  · by_cases h1 : b1 K = x
    · have hd : d1 K = 0 := Classical.byContradiction (fun h => hu (Or.inr ⟨h0, h1, h⟩))
      exact dk_look1 hK hR2 hR8 hC h0 h1 (br_f (nI_pos (by omega)) ⟨pk_in (K * 8 + 1) 24 (by omega), br_t (by rw [dk_c _ (by omega), (hC K hK).2.1.2.2]; exact hd) hp⟩)
    · exact dk_lookN hK hR8 hC h0 h1 hm (br_t (by decide) hp)

theorem dk_uc_rest {post : Int32 → Prop} {c : Int32} {e : Nat} (hK : K < 3) (hR8 : R ≤ 8) (he : K * 8 ≤ e) (he2 : e ≤ K * 8 + R)
    (hd : ∀ i, e ≤ i → i < K * 8 + R → a11 i = 0) (hp : post c) :
    ∃ n, wX_unsafeCount_12 post (nI K) (nI R) a1 a2 a3 a4 a5 a6 a7 a8 a9 a10 a11 a12 n c (nI e) :=
  pk_loop (σ := Unit) (fun n i _ => wX_unsafeCount_12 post (nI K) (nI R) a1 a2 a3 a4 a5 a6 a7 a8 a9 a10 a11 a12 n c (nI i)) (fun i _ => e ≤ i) (K * 8 + R) e () he2 (Nat.le_refl _)
    (fun n _ hi => pk_le (K * 8 + R) (K * 8 + R) (fun _ => hp) (fun z => absurd z (by omega)) (dk_e8 K R))
    (fun n i _ hi hl hw => pk_le (K * 8 + R) i (fun z => absurd z (by omega)) (fun _ => ⟨pk_in i 24 (by omega), br_t (by rw [dk_c i (by omega)]; exact hd i hl hi) (nm_r (nI_1 i) (hw () (by omega)))⟩) (dk_e8 K R))

theorem dk_uc_step {post : Int32 → Prop} {c : Int32} {e : Nat} (hK : K < 3) (hR8 : R ≤ 8) (h3 : a3 K = 0) (he : K * 8 ≤ e) (he2 : e < K * 8 + R)
    (h : ∃ n, wX_unsafeCount_12 post (nI K) (nI R) a1 a2 a3 a4 a5 a6 a7 a8 a9 a10 a11 a12 n (c + (if a11 e = 0 then 0 else 1)) (nI (e + 1))) :
    ∃ n, wX_unsafeCount_12 post (nI K) (nI R) a1 a2 a3 a4 a5 a6 a7 a8 a9 a10 a11 a12 n c (nI e) := by
  obtain ⟨n, hn⟩ := h
  refine ⟨n + 1, pk_le (K * 8 + R) e (fun z => absurd z (by omega)) (fun _ => ⟨pk_in e 24 (by omega), ?_⟩) (dk_e8 K R)⟩
  rw [dk_c e (by omega)]
  by_cases hd : a11 e = 0
  · rw [if_pos hd, Int32.add_zero] at hn
    exact br_t hd (nm_r (nI_1 e) hn)
  · rw [if_neg hd] at hn
    exact br_f hd ⟨pk_in e 24 (by omega), dk_j0 hK h3 (br_f (by decide) (nm_e (nm_r (nI_1 e) hn)))⟩

theorem dk_uc {post : Int32 → Prop} (hK : K < 3) (hR2 : 2 ≤ R) (hR8 : R ≤ 8) (hE : dk_E a3 a7) (hC : dk_ca b0 v0 d0 b1 v1 d1 a9 a10 a11)
    (hp : post (dk_ct d0 d1 K)) : wpX_unsafeCount post (nI R, a1, a2, a3, a4, a5, a6, a7, a8, a9, a10, a11, a12) (nI K) := by
  unfold wpX_unsafeCount
  dsimp only
  have h3 := (hE K hK).1
  refine ⟨pk_in K 3 hK, nm_r (e' := 0) (by rw [dk_c K (by omega)]; exact h3) (nm_r (dk_m8 K) ?_)⟩
  refine dk_uc_step hK hR8 h3 (by omega) (by omega) (dk_uc_step hK hR8 h3 (by omega) (by omega) (dk_uc_rest hK hR8 (by omega) (by omega) (fun i h1 h2 => ((hC K hK).2.2 i (by omega) (by omega)).2) ?_))
  rw [(hC K hK).1.2.2, (hC K hK).2.1.2.2, Int32.zero_add]
  exact hp
end
end
section
section
variable {R K X A B C e : Nat} {x y : Int32} {a1 a2 a3 a4 a5 a6 a7 a8 a9 a10 a11 a12 : Nat → Int32} {b0 v0 d0 b1 v1 d1 : Nat → Int32} {L : Nat → Nat → Prop}

theorem dk_wj {post : St2 → Prop} {p1 p2 : Int32} (hK : K < 3) (hC : C < 16) (h3 : a3 K = nI C)
    (hn : ∀ i, K * 16 ≤ i → i < K * 16 + C → ¬ a4 i = p1)
    (hp : post (nI R, a1, a2, upd a3 K (nI (C + 1)), upd a4 (K * 16 + C) p1, upd a5 (K * 16 + C) p2, a6, a7, a8, a9, a10, a11, a12)) :
    wpX_writeJournal post (nI R, a1, a2, a3, a4, a5, a6, a7, a8, a9, a10, a11, a12) (nI K) p1 p2 := by
  unfold wpX_writeJournal
  dsimp only
  refine dk_jno hK (by omega) h3 hn (br_f (by decide) ⟨pk_in K 3 hK, nm_r (e' := nI (K * 16 + C)) (by rw [dk_c K (by omega), h3, dk_e16]) ⟨pk_in K 3 hK, pk_in K 3 hK, nm_r (e' := upd a3 K (nI (C + 1))) (by rw [dk_c K (by omega), h3, nI_1]) ?_⟩⟩)
  exact ⟨pk_in (K * 16 + C) 48 (by omega), nm_r (e' := upd a4 (K * 16 + C) p1) (by rw [dk_c (K * 16 + C) (by omega)]) ⟨pk_in (K * 16 + C) 48 (by omega), nm_r (e' := upd a5 (K * 16 + C) p2) (by rw [dk_c (K * 16 + C) (by omega)]) hp⟩⟩

theorem dk_fj_rest {post : St2 → Prop} (hK : K < 3) (hR8 : R ≤ 8) (he : K * 8 ≤ e) (he2 : e ≤ K * 8 + R)
    (hd : ∀ i, e ≤ i → i < K * 8 + R → a11 i = 0) (hp : post (nI R, a1, a2, a3, a4, a5, a6, a7, a8, a9, a10, a11, a12)) :
    ∃ n, wX_fillJournal_5 post (nI K) n (nI e) (nI R) a1 a2 a3 a4 a5 a6 a7 a8 a9 a10 a11 a12 :=
  pk_loop (σ := Unit) (fun n i _ => wX_fillJournal_5 post (nI K) n (nI i) (nI R) a1 a2 a3 a4 a5 a6 a7 a8 a9 a10 a11 a12) (fun i _ => e ≤ i) (K * 8 + R) e () he2 (Nat.le_refl _)
    (fun n _ hi => pk_le (K * 8 + R) (K * 8 + R) (fun _ => hp) (fun z => absurd z (by omega)) (dk_e8 K R))
    (fun n i _ hi hl hw => pk_le (K * 8 + R) i (fun z => absurd z (by omega)) (fun _ => ⟨pk_in i 24 (by omega), br_t (by rw [dk_c i (by omega)]; exact hd i hl hi) (nm_r (nI_1 i) (hw () (by omega)))⟩) (dk_e8 K R))

theorem dk_fj_step {post : St2 → Prop} (hK : K < 3) (hR8 : R ≤ 8) (he : K * 8 ≤ e) (he2 : e < K * 8 + R) (hC : C < 16) (h3 : a3 K = nI C)
    (hn : ∀ i, K * 16 ≤ i → i < K * 16 + C → ¬ a4 i = a9 e) (hd : ¬ a11 e = 0)
    (h : ∃ n, wX_fillJournal_5 post (nI K) n (nI (e + 1)) (nI R) a1 a2 (upd a3 K (nI (C + 1))) (upd a4 (K * 16 + C) (a9 e)) (upd a5 (K * 16 + C) (a10 e)) a6 a7 a8 a9 a10 (upd a11 e 0) a12) :
    ∃ n, wX_fillJournal_5 post (nI K) n (nI e) (nI R) a1 a2 a3 a4 a5 a6 a7 a8 a9 a10 a11 a12 := by
  obtain ⟨n, hw⟩ := h
  refine ⟨n + 1, pk_le (K * 8 + R) e (fun z => absurd z (by omega)) (fun _ => ⟨pk_in e 24 (by omega), ?_⟩) (dk_e8 K R)⟩
  rw [dk_c e (by omega)]
  exact br_f hd ⟨pk_in e 24 (by omega), pk_in e 24 (by omega), dk_wj hK hC h3 hn ⟨pk_in e 24 (by omega), nm_e (nm_r (nI_1 e) hw)⟩⟩

/-- a journal of two entries; the other two are empty -/
def dk_JR (K A B : Nat) (x y : Int32) (a3 a4 a5 a7 : Nat → Int32) : Prop :=
  (∀ k, k < 3 → k ≠ K → a3 k = 0 ∧ a7 k = 0) ∧ a3 K = nI 2 ∧ (a4 (K * 16) = nI A ∧ a4 (K * 16 + 1) = nI B) ∧ a5 (K * 16) = x ∧ a5 (K * 16 + 1) = y
def dk_sum (A B : Nat) (x y : Int32) : Int32 := ((((7 + nI 2) * 31 + nI A) * 31 + x) * 31 + nI B) * 31 + y

/-! single changes of the cells -/
theorem dk_ca_b0 (hC : dk_ca b0 v0 d0 b1 v1 d1 a9 a10 a11) : dk_ca (upd b0 K x) v0 d0 b1 v1 d1 (upd a9 (K * 8) x) a10 a11 := by
  intro k hk
  obtain ⟨⟨h1, h2, h3⟩, ⟨h4, h5, h6⟩, h7⟩ := hC k hk
  refine ⟨⟨?_, h2, h3⟩, ⟨?_, h5, h6⟩, fun i i1 i2 => ⟨?_, (h7 i i1 i2).2⟩⟩
  · by_cases e : k = K
    · rw [e, pk_us, pk_us]
    · rw [pk_un e, pk_un (by omega)]
      exact h1
  · rw [pk_un (by omega)]
    exact h4
  · rw [pk_un (by omega)]
    exact (h7 i i1 i2).1
theorem dk_ca_v0 (hC : dk_ca b0 v0 d0 b1 v1 d1 a9 a10 a11) : dk_ca b0 (upd v0 K x) d0 b1 v1 d1 a9 (upd a10 (K * 8) x) a11 := by
  intro k hk
  obtain ⟨⟨h1, h2, h3⟩, ⟨h4, h5, h6⟩, h7⟩ := hC k hk
  refine ⟨⟨h1, ?_, h3⟩, ⟨h4, ?_, h6⟩, h7⟩
  · by_cases e : k = K
    · rw [e, pk_us, pk_us]
    · rw [pk_un e, pk_un (by omega)]
      exact h2
  · rw [pk_un (by omega)]
    exact h5
theorem dk_ca_d0 (hC : dk_ca b0 v0 d0 b1 v1 d1 a9 a10 a11) : dk_ca b0 v0 (upd d0 K x) b1 v1 d1 a9 a10 (upd a11 (K * 8) x) := by
  intro k hk
  obtain ⟨⟨h1, h2, h3⟩, ⟨h4, h5, h6⟩, h7⟩ := hC k hk
  refine ⟨⟨h1, h2, ?_⟩, ⟨h4, h5, ?_⟩, fun i i1 i2 => ⟨(h7 i i1 i2).1, ?_⟩⟩
  · by_cases e : k = K
    · rw [e, pk_us, pk_us]
    · rw [pk_un e, pk_un (by omega)]
      exact h3
  · rw [pk_un (by omega)]
    exact h6
  · rw [pk_un (by omega)]
    exact (h7 i i1 i2).2
theorem dk_ca_b1 (hC : dk_ca b0 v0 d0 b1 v1 d1 a9 a10 a11) : dk_ca b0 v0 d0 (upd b1 K x) v1 d1 (upd a9 (K * 8 + 1) x) a10 a11 := by
  intro k hk
  obtain ⟨⟨h1, h2, h3⟩, ⟨h4, h5, h6⟩, h7⟩ := hC k hk
  refine ⟨⟨?_, h2, h3⟩, ⟨?_, h5, h6⟩, fun i i1 i2 => ⟨?_, (h7 i i1 i2).2⟩⟩
  · rw [pk_un (by omega)]
    exact h1
  · by_cases e : k = K
    · rw [e, pk_us, pk_us]
    · rw [pk_un e, pk_un (by omega)]
      exact h4
  · rw [pk_un (by omega)]
    exact (h7 i i1 i2).1
theorem dk_ca_v1 (hC : dk_ca b0 v0 d0 b1 v1 d1 a9 a10 a11) : dk_ca b0 v0 d0 b1 (upd v1 K x) d1 a9 (upd a10 (K * 8 + 1) x) a11 := by
  intro k hk
  obtain ⟨⟨h1, h2, h3⟩, ⟨h4, h5, h6⟩, h7⟩ := hC k hk
  refine ⟨⟨h1, ?_, h3⟩, ⟨h4, ?_, h6⟩, h7⟩
  · rw [pk_un (by omega)]
    exact h2
  · by_cases e : k = K
    · rw [e, pk_us, pk_us]
    · rw [pk_un e, pk_un (by omega)]
      exact h5
theorem dk_ca_d1 (hC : dk_ca b0 v0 d0 b1 v1 d1 a9 a10 a11) : dk_ca b0 v0 d0 b1 v1 (upd d1 K x) a9 a10 (upd a11 (K * 8 + 1) x) := by
  intro k hk
  obtain ⟨⟨h1, h2, h3⟩, ⟨h4, h5, h6⟩, h7⟩ := hC k hk
  refine ⟨⟨h1, h2, ?_⟩, ⟨h4, h5, ?_⟩, fun i i1 i2 => ⟨(h7 i i1 i2).1, ?_⟩⟩
  · rw [pk_un (by omega)]
    exact h3
  · by_cases e : k = K
    · rw [e, pk_us, pk_us]
    · rw [pk_un e, pk_un (by omega)]
      exact h6
  · rw [pk_un (by omega)]
    exact (h7 i i1 i2).2

theorem dk_fill {post : St2 → Prop} (hK : K < 3) (hR2 : 2 ≤ R) (hR8 : R ≤ 8) (hE : dk_E a3 a7) (hC : dk_ca b0 v0 d0 b1 v1 d1 a9 a10 a11)
    (hA : b0 K = nI A) (hB : b1 K = nI B) (A16 : A < 16) (B16 : B < 16) (hAB : A ≠ B) (hd0 : ¬ d0 K = 0) (hd1 : ¬ d1 K = 0)
    (H : ∀ a3' a4' a5' a11' : Nat → Int32, dk_JR K A B (v0 K) (v1 K) a3' a4' a5' a7 → dk_ca b0 v0 (upd d0 K 0) b1 v1 (upd d1 K 0) a9 a10 a11' →
      post (nI R, a1, a2, a3', a4', a5', a6, a7, a8, a9, a10, a11', a12)) :
    wpX_fillJournal post (nI R, a1, a2, a3, a4, a5, a6, a7, a8, a9, a10, a11, a12) (nI K) := by
  obtain ⟨⟨h1, h2, h3⟩, ⟨h4, h5, h6⟩, h7⟩ := hC K hK
  unfold wpX_fillJournal
  dsimp only
  refine nm_r (dk_m8 K) ?_
  refine dk_fj_step (C := 0) hK hR8 (by omega) (by omega) (by omega) (hE K hK).1 (fun i i1 i2 => absurd i2 (by omega)) (by rw [h3]; exact hd0) ?_
  refine dk_fj_step (C := 1) hK hR8 (by omega) (by omega) (by omega) pk_us (fun i i1 i2 => ?_) (by rw [pk_un (by omega), h6]; exact hd1) ?_
  · have hi : i = K * 16 + 0 := by omega
    rw [hi, pk_us, h1, h4, hA, hB]
    exact fun z => hAB ((nI_eq (by omega) (by omega)).mp z)
  refine dk_fj_rest hK hR8 (by omega) (by omega) (fun i i1 i2 => ?_) (H _ _ _ _ ⟨fun k hk n => ⟨?_, (hE k hk).2⟩, pk_us, ⟨?_, ?_⟩, ?_, ?_⟩ (dk_ca_d1 (dk_ca_d0 hC)))
  · rw [pk_un (by omega), pk_un (by omega)]
    exact (h7 i (by omega) (by omega)).2
  · rw [pk_un n, pk_un n]
    exact (hE k hk).1
  · rw [pk_un (by omega)]
    exact pk_us.trans (h1.trans hA)
  · exact pk_us.trans (h4.trans hB)
  · rw [pk_un (by omega)]
    exact pk_us.trans h2
  · exact pk_us.trans h5

theorem dk_so_end {post : Int32 → Prop} {c : Int32} (hK : K < 3) (hC : C ≤ 16) (h3 : a3 K = nI C) (hp : post c) :
    ∃ n, wX_sumOf_15 post (nI K) (nI R) a1 a2 a3 a4 a5 a6 a7 a8 a9 a10 a11 a12 n c (nI (K * 16 + C)) := by
  have hc : nI K * 16 + a3 (nI K).toNatClampNeg = nI (K * 16 + C) := by rw [dk_c K (by omega), h3, dk_e16]
  exact ⟨0 + 1, pk_in K 3 hK, pk_le (K * 16 + C) (K * 16 + C) (fun _ => hp) (fun z => absurd z (by omega)) hc⟩
theorem dk_so_step {post : Int32 → Prop} {c : Int32} (hK : K < 3) (hC : C ≤ 16) (h3 : a3 K = nI C) (he : e < K * 16 + C)
    (h : ∃ n, wX_sumOf_15 post (nI K) (nI R) a1 a2 a3 a4 a5 a6 a7 a8 a9 a10 a11 a12 n ((c * 31 + a4 e) * 31 + a5 e) (nI (e + 1))) :
    ∃ n, wX_sumOf_15 post (nI K) (nI R) a1 a2 a3 a4 a5 a6 a7 a8 a9 a10 a11 a12 n c (nI e) := by
  obtain ⟨n, hw⟩ := h
  have hc : nI K * 16 + a3 (nI K).toNatClampNeg = nI (K * 16 + C) := by rw [dk_c K (by omega), h3, dk_e16]
  refine ⟨n + 1, pk_in K 3 hK, pk_le (K * 16 + C) e (fun z => absurd z (by omega)) (fun _ => ⟨pk_in e 48 (by omega), ?_⟩) hc⟩
  rw [dk_c e (by omega)]
  exact nm_e ⟨pk_in e 48 (by omega), nm_e (nm_r (nI_1 e) hw)⟩
theorem dk_sumOf {post : Int32 → Prop} (hK : K < 3) (hJ : dk_JR K A B x y a3 a4 a5 a7) (hp : post (dk_sum A B x y)) :
    wpX_sumOf post (nI R, a1, a2, a3, a4, a5, a6, a7, a8, a9, a10, a11, a12) (nI K) := by
  obtain ⟨h0, h3, ⟨h4, h4'⟩, h5, h5'⟩ := hJ
  unfold wpX_sumOf
  dsimp only
  refine ⟨pk_in K 3 hK, nm_r (e' := 7 + nI 2) (by rw [dk_c K (by omega), h3]) (nm_r (dk_m16 K) ?_)⟩
  refine dk_so_step hK (C := 2) (by omega) h3 (by omega) (dk_so_step hK (C := 2) (by omega) h3 (by omega) (dk_so_end hK (C := 2) (by omega) h3 ?_))
  rw [h4, h4', h5, h5']
  exact hp

theorem dk_mark {post : St2 → Prop} (hK : K < 3) (hJ : dk_JR K A B x y a3 a4 a5 a7) (hp : post (nI R, a1, a2, a3, a4, a5, upd a6 K (dk_sum A B x y), upd a7 K 1, a8, a9, a10, a11, a12)) :
    wpX_markJournal post (nI R, a1, a2, a3, a4, a5, a6, a7, a8, a9, a10, a11, a12) (nI K) := by
  unfold wpX_markJournal
  dsimp only
  refine dk_sumOf hK hJ ?_
  rw [dk_c K (by omega)]
  exact ⟨pk_in K 3 hK, nm_e ⟨pk_in K 3 hK, nm_e hp⟩⟩
theorem dk_JR_m (hJ : dk_JR K A B x y a3 a4 a5 a7) : dk_JR K A B x y a3 a4 a5 (upd a7 K 1) :=
  ⟨fun k hk n => ⟨(hJ.1 k hk n).1, by rw [pk_un n]; exact (hJ.1 k hk n).2⟩, hJ.2⟩

theorem dk_wh0 {post : Int32 → Prop} (hK : K < 3) (h7 : a7 K = 0) (hp : post 0) : wpX_whole post (nI R, a1, a2, a3, a4, a5, a6, a7, a8, a9, a10, a11, a12) (nI K) := by
  unfold wpX_whole
  dsimp only
  rw [dk_c K (by omega)]
  exact ⟨pk_in K 3 hK, br_t h7 hp⟩
theorem dk_wh1 {post : Int32 → Prop} (hK : K < 3) (hJ : dk_JR K A B x y a3 a4 a5 a7) (h7 : a7 K = 1) (h6 : a6 K = dk_sum A B x y) (hp : post 1) :
    wpX_whole post (nI R, a1, a2, a3, a4, a5, a6, a7, a8, a9, a10, a11, a12) (nI K) := by
  unfold wpX_whole
  dsimp only
  rw [dk_c K (by omega)]
  exact ⟨pk_in K 3 hK, br_f (by rw [h7]; decide) (dk_sumOf hK hJ ⟨pk_in K 3 hK, br_t h6.symm hp⟩)⟩

theorem dk_ej {post : St2 → Prop} (hK : K < 3) (hp : post (nI R, a1, a2, upd a3 K 0, a4, a5, a6, upd a7 K 0, a8, a9, a10, a11, a12)) : wpX_emptyJournal post (nI R, a1, a2, a3, a4, a5, a6, a7, a8, a9, a10, a11, a12) (nI K) := by
  unfold wpX_emptyJournal
  dsimp only
  rw [dk_c K (by omega)]
  exact ⟨pk_in K 3 hK, nm_e ⟨pk_in K 3 hK, nm_e hp⟩⟩
theorem dk_E_e (h : ∀ k, k < 3 → k ≠ K → a3 k = 0 ∧ a7 k = 0) : dk_E (upd a3 K 0) (upd a7 K 0) := by
  intro k hk
  by_cases e : k = K
  · rw [e]
    exact ⟨pk_us, pk_us⟩
  · rw [pk_un e, pk_un e]
    exact h k hk e

theorem dk_bh_end {post : St2 → Prop} (hK : K < 3) (hC : C ≤ 16) (h3 : a3 K = nI C) (hp : post (nI R, a1, a2, upd a3 K 0, a4, a5, a6, upd a7 K 0, a8, a9, a10, a11, a12)) :
    ∃ n, wX_bringHome_5 post (nI K) (nI R) n (nI (K * 16 + C)) a1 a2 a3 a4 a5 a6 a7 a8 a9 a10 a11 a12 := by
  have hc : nI K * 16 + a3 (nI K).toNatClampNeg = nI (K * 16 + C) := by rw [dk_c K (by omega), h3, dk_e16]
  exact ⟨0 + 1, pk_in K 3 hK, pk_le (K * 16 + C) (K * 16 + C) (fun _ => dk_ej hK hp) (fun z => absurd z (by omega)) hc⟩
theorem dk_bh_step {post : St2 → Prop} (hK : K < 3) (hC : C ≤ 16) (h3 : a3 K = nI C) (he : e < K * 16 + C) (hX : a4 e = nI X) (X16 : X < 16)
    (h : ∃ n, wX_bringHome_5 post (nI K) (nI R) n (nI (e + 1)) a1 (upd a2 X (a5 e)) a3 a4 a5 a6 a7 a8 a9 a10 a11 a12) :
    ∃ n, wX_bringHome_5 post (nI K) (nI R) n (nI e) a1 a2 a3 a4 a5 a6 a7 a8 a9 a10 a11 a12 := by
  obtain ⟨n, hw⟩ := h
  have hc : nI K * 16 + a3 (nI K).toNatClampNeg = nI (K * 16 + C) := by rw [dk_c K (by omega), h3, dk_e16]
  refine ⟨n + 1, pk_in K 3 hK, pk_le (K * 16 + C) e (fun z => absurd z (by omega)) (fun _ => ⟨pk_in e 48 (by omega), pk_in e 48 (by omega), ?_⟩) hc⟩
  rw [dk_c e (by omega), hX, dk_c X (by omega)]
  exact ⟨pk_in X 16 X16, nm_e (nm_r (nI_1 e) hw)⟩
theorem dk_bh {post : St2 → Prop} (hK : K < 3) (hJ : dk_JR K A B x y a3 a4 a5 a7) (A16 : A < 16) (B16 : B < 16)
    (H : ∀ a3' a7' : Nat → Int32, dk_E a3' a7' → post (nI R, a1, upd (upd a2 A x) B y, a3', a4, a5, a6, a7', a8, a9, a10, a11, a12)) :
    wpX_bringHome post (nI R, a1, a2, a3, a4, a5, a6, a7, a8, a9, a10, a11, a12) (nI K) := by
  obtain ⟨h0, h3, ⟨h4, h4'⟩, h5, h5'⟩ := hJ
  unfold wpX_bringHome
  dsimp only
  refine nm_r (dk_m16 K) ?_
  refine dk_bh_step hK (C := 2) (by omega) h3 (by omega) h4 A16 (dk_bh_step hK (C := 2) (by omega) h3 (by omega) h4' B16 (dk_bh_end hK (C := 2) (by omega) h3 ?_))
  rw [h5, h5']
  exact H _ _ (dk_E_e h0)

theorem dk_ct2 {k : Nat} (h0 : ¬ d0 k = 0) (h1 : ¬ d1 k = 0) : dk_ct d0 d1 k = 2 := by
  unfold dk_ct
  rw [if_neg h0, if_neg h1]
  decide
theorem dk_ct1 {k : Nat} (h0 : ¬ d0 k = 0) (h1 : d1 k = 0) : dk_ct d0 d1 k = 1 := by
  unfold dk_ct
  rw [if_neg h0, if_pos h1]
  decide
theorem dk_ct0 {k : Nat} (h0 : d0 k = 0) (h1 : d1 k = 0) : dk_ct d0 d1 k = 0 := by
  unfold dk_ct
  rw [if_pos h0, if_pos h1]
  decide

theorem dk_ms {post : Int32 → St2 → Prop} (hK : K < 3) (hR2 : 2 ≤ R) (hR8 : R ≤ 8) (hE : dk_E a3 a7) (hC : dk_ca b0 v0 d0 b1 v1 d1 a9 a10 a11)
    (hA : b0 K = nI A) (hB : b1 K = nI B) (A16 : A < 16) (B16 : B < 16) (hAB : A ≠ B) (hd0 : ¬ d0 K = 0) (hd1 : ¬ d1 K = 0)
    (H : ∀ a3' a4' a5' a6' a7' a11' : Nat → Int32, dk_E a3' a7' → dk_ca b0 v0 (upd d0 K 0) b1 v1 (upd d1 K 0) a9 a10 a11' →
      post 2 (nI R, a1, upd (upd a2 A (v0 K)) B (v1 K), a3', a4', a5', a6', a7', a8, a9, a10, a11', a12)) :
    wpX_makeSafe post (nI R, a1, a2, a3, a4, a5, a6, a7, a8, a9, a10, a11, a12) (nI K) := by
  unfold wpX_makeSafe
  dsimp only
  refine dk_uc hK hR2 hR8 hE hC ?_
  rw [dk_ct2 hd0 hd1]
  refine dk_fill hK hR2 hR8 hE hC hA hB A16 B16 hAB hd0 hd1 (fun a3' a4' a5' a11' hJ hC' => ?_)
  dsimp only
  refine dk_mark hK hJ ?_
  dsimp only
  refine dk_bh hK (dk_JR_m hJ) A16 B16 (fun a3'' a7'' hE' => ?_)
  dsimp only
  exact H _ _ _ _ _ _ hE' hC'
end
end
section
section
variable {R K X A N o : Nat} {md : Int32} {a1 a2 a3 a4 a5 a6 a7 a8 a9 a10 a11 a12 : Nat → Int32} {b0 v0 d0 b1 v1 d1 : Nat → Int32} {L : Nat → Nat → Prop}

/-! take -/
theorem dk_tk_skip {post : St2 → Prop} {n : Nat} (ho : o < 3) (hX : X < 16) (hK : K < 3) (hz : o ≠ K → a8 (o * 16 + X) = 0)
    (h : wX_take_3 post (nI K) (nI X) md n (nI (o + 1)) (nI R) a1 a2 a3 a4 a5 a6 a7 a8 a9 a10 a11 a12) :
    wX_take_3 post (nI K) (nI X) md (n + 1) (nI o) (nI R) a1 a2 a3 a4 a5 a6 a7 a8 a9 a10 a11 a12 :=
  pk_le 3 o (fun z => absurd z (by omega)) (fun _ => pk_eq o K (fun e => nm_r (nI_1 o) h)
    (fun ne => ⟨pk_in (o * 16 + X) 48 (by omega) (dk_e16 o X), br_t (by rw [dk_e16, dk_c (o * 16 + X) (by omega)]; exact hz ne) (nm_r (nI_1 o) h)⟩))

theorem dk_lk_keep (hL : dk_lk L a8) (hK : K < 3) (hX : X < 16) (h : ¬ a8 (K * 16 + X) = 0) : dk_lk (dk_add L K X) a8 := by
  intro k hk x hx
  by_cases e : k = K ∧ x = X
  · rw [e.1, e.2]
    exact ⟨fun z => absurd z h, fun z => absurd (Or.inr ⟨rfl, rfl⟩) z⟩
  · refine (hL k hk x hx).trans ⟨fun z q => ?_, fun z q => z (Or.inl q)⟩
    rcases q with q | q
    · exact z q
    · exact e q
theorem dk_lk_set (hL : dk_lk L a8) (hX : X < 16) (h : ¬ md = 0) : dk_lk (dk_add L K X) (upd a8 (K * 16 + X) md) := by
  intro k hk x hx
  by_cases e : k = K ∧ x = X
  · rw [e.1, e.2, pk_us]
    exact ⟨fun z => absurd z h, fun z => absurd (Or.inr ⟨rfl, rfl⟩) z⟩
  · rw [pk_un (by omega)]
    refine (hL k hk x hx).trans ⟨fun z q => ?_, fun z q => z (Or.inl q)⟩
    rcases q with q | q
    · exact z q
    · exact e q

theorem dk_tk_end {post : St2 → Prop} {n : Nat} (hX : X < 16) (hK : K < 3) (hL : dk_lk L a8) (hm : ¬ md = 0) (hm' : ¬ md ≤ 0)
    (H : ∀ a8' : Nat → Int32, dk_lk (dk_add L K X) a8' → post (nI R, a1, a2, a3, a4, a5, a6, a7, a8', a9, a10, a11, a12)) :
    wX_take_3 post (nI K) (nI X) md (n + 1) (nI 3) (nI R) a1 a2 a3 a4 a5 a6 a7 a8 a9 a10 a11 a12 := by
  refine pk_le 3 3 (fun _ => ⟨pk_in (K * 16 + X) 48 (by omega) (dk_e16 K X), ?_⟩) (fun z => absurd z (by omega))
  rw [dk_e16, dk_c (K * 16 + X) (by omega)]
  exact br_c (fun g => H _ (dk_lk_keep hL hK hX (fun z => hm' (by rw [z] at g; exact g)))) (fun g => ⟨pk_in (K * 16 + X) 48 (by omega), nm_e (H _ (dk_lk_set hL hX hm))⟩)

theorem dk_take {post : St2 → Prop} (hX : X < 16) (hK : K < 3) (hL : dk_lk L a8) (hm : ¬ md = 0) (hm' : ¬ md ≤ 0)
    (hf : ∀ k, k < 3 → k ≠ K → ¬ L k X)
    (H : ∀ a8' : Nat → Int32, dk_lk (dk_add L K X) a8' → post (nI R, a1, a2, a3, a4, a5, a6, a7, a8', a9, a10, a11, a12)) :
    wpX_take post (nI R, a1, a2, a3, a4, a5, a6, a7, a8, a9, a10, a11, a12) (nI K) (nI X) md := by
  unfold wpX_take
  dsimp only
  have z : ∀ k, k < 3 → k ≠ K → a8 (k * 16 + X) = 0 := fun k hk ne => (hL k hk X hX).mpr (hf k hk ne)
  exact ⟨0 + 1 + 1 + 1 + 1, dk_tk_skip (o := 0) (by omega) hX hK (z 0 (by omega)) (dk_tk_skip (o := 1) (by omega) hX hK (z 1 (by omega)) (dk_tk_skip (o := 2) (by omega) hX hK (z 2 (by omega)) (dk_tk_end hX hK hL hm hm' H)))⟩

/-! bringIn -/
theorem dk_bi_hit0 {post : Int32 → St2 → Prop} (hK : K < 3) (hR2 : 2 ≤ R) (hR8 : R ≤ 8) (hC : dk_ca b0 v0 d0 b1 v1 d1 a9 a10 a11)
    (h0 : b0 K = nI X) (hp : post (nI (K * 8)) (nI R, a1, a2, a3, a4, a5, a6, a7, a8, a9, a10, a11, a12)) : wpX_bringIn post (nI R, a1, a2, a3, a4, a5, a6, a7, a8, a9, a10, a11, a12) (nI K) (nI X) := by
  unfold wpX_bringIn
  dsimp only
  exact dk_look0 hK hR2 hR8 hC h0 (br_f (nI_pos (by omega)) hp)
theorem dk_bi_hit1 {post : Int32 → St2 → Prop} (hK : K < 3) (hR2 : 2 ≤ R) (hR8 : R ≤ 8) (hC : dk_ca b0 v0 d0 b1 v1 d1 a9 a10 a11)
    (h0 : ¬ b0 K = nI X) (h1 : b1 K = nI X) (hp : post (nI (K * 8 + 1)) (nI R, a1, a2, a3, a4, a5, a6, a7, a8, a9, a10, a11, a12)) : wpX_bringIn post (nI R, a1, a2, a3, a4, a5, a6, a7, a8, a9, a10, a11, a12) (nI K) (nI X) := by
  unfold wpX_bringIn
  dsimp only
  exact dk_look1 hK hR2 hR8 hC h0 h1 (br_f (nI_pos (by omega)) hp)
theorem dk_bi_miss0 {post : Int32 → St2 → Prop} (hK : K < 3) (hX : X < 16) (hR2 : 2 ≤ R) (hR8 : R ≤ 8) (hE : dk_E a3 a7) (hC : dk_ca b0 v0 d0 b1 v1 d1 a9 a10 a11)
    (h0 : b0 K = -1) (h1 : ¬ b1 K = nI X)
    (hp : ∀ a9' a10' : Nat → Int32, dk_ca (upd b0 K (nI X)) (upd v0 K (a2 X)) d0 b1 v1 d1 a9' a10' a11 → post (nI (K * 8)) (nI R, a1, a2, a3, a4, a5, a6, a7, a8, a9', a10', a11, a12)) :
    wpX_bringIn post (nI R, a1, a2, a3, a4, a5, a6, a7, a8, a9, a10, a11, a12) (nI K) (nI X) := by
  unfold wpX_bringIn
  dsimp only
  refine dk_lookN hK hR8 hC (by rw [h0]; exact fun z => dk_nm1 (by omega) z.symm) h1 (dk_nm1 (by omega)) (br_t (by decide) ?_)
  unfold wpX_freeCell
  dsimp only
  refine dk_look0 hK hR2 hR8 hC h0 (br_f (nI_pos (by omega)) ?_)
  refine dk_j0 hK (hE K hK).1 ?_
  rw [dk_c (K * 8) (by omega), dk_c X (by omega)]
  exact ⟨pk_in (K * 8) 24 (by omega), nm_e (br_t (by decide) ⟨pk_in X 16 hX, pk_in (K * 8) 24 (by omega), nm_e (hp _ _ (dk_ca_v0 (dk_ca_b0 hC)))⟩)⟩
theorem dk_bi_miss1 {post : Int32 → St2 → Prop} (hK : K < 3) (hX : X < 16) (hR2 : 2 ≤ R) (hR8 : R ≤ 8) (hE : dk_E a3 a7) (hC : dk_ca b0 v0 d0 b1 v1 d1 a9 a10 a11)
    (h0 : ¬ b0 K = nI X) (h0' : ¬ b0 K = -1) (h1 : b1 K = -1)
    (hp : ∀ a9' a10' : Nat → Int32, dk_ca b0 v0 d0 (upd b1 K (nI X)) (upd v1 K (a2 X)) d1 a9' a10' a11 → post (nI (K * 8 + 1)) (nI R, a1, a2, a3, a4, a5, a6, a7, a8, a9', a10', a11, a12)) :
    wpX_bringIn post (nI R, a1, a2, a3, a4, a5, a6, a7, a8, a9, a10, a11, a12) (nI K) (nI X) := by
  unfold wpX_bringIn
  dsimp only
  refine dk_lookN hK hR8 hC h0 (by rw [h1]; exact fun z => dk_nm1 (by omega) z.symm) (dk_nm1 (by omega)) (br_t (by decide) ?_)
  unfold wpX_freeCell
  dsimp only
  refine dk_look1 hK hR2 hR8 hC h0' h1 (br_f (nI_pos (by omega)) ?_)
  refine dk_j0 hK (hE K hK).1 ?_
  rw [dk_c (K * 8 + 1) (by omega), dk_c X (by omega)]
  exact ⟨pk_in (K * 8 + 1) 24 (by omega), nm_e (br_t (by decide) ⟨pk_in X 16 hX, pk_in (K * 8 + 1) 24 (by omega), nm_e (hp _ _ (dk_ca_v1 (dk_ca_b1 hC)))⟩)⟩

/-! readBlock -/
theorem dk_rb_hit0 {post : Int32 → St2 → Prop} (hK : K < 3) (hX : X < 16) (hR2 : 2 ≤ R) (hR8 : R ≤ 8) (hL : dk_lk L a8) (hC : dk_ca b0 v0 d0 b1 v1 d1 a9 a10 a11)
    (hf : ∀ k, k < 3 → k ≠ K → ¬ L k X) (h0 : b0 K = nI X)
    (H : ∀ a8' : Nat → Int32, dk_lk (dk_add L K X) a8' → post (v0 K) (nI R, a1, a2, a3, a4, a5, a6, a7, a8', a9, a10, a11, a12)) : wpX_readBlock post (nI R, a1, a2, a3, a4, a5, a6, a7, a8, a9, a10, a11, a12) (nI K) (nI X) := by
  unfold wpX_readBlock
  dsimp only
  refine dk_take hX hK hL (by decide) (by decide) hf (fun a8' hL' => ?_)
  dsimp only
  refine dk_bi_hit0 hK hR2 hR8 hC h0 ?_
  dsimp only
  rw [dk_c (K * 8) (by omega), (hC K hK).1.2.1]
  exact ⟨pk_in (K * 8) 24 (by omega), H _ hL'⟩
theorem dk_rb_hit1 {post : Int32 → St2 → Prop} (hK : K < 3) (hX : X < 16) (hR2 : 2 ≤ R) (hR8 : R ≤ 8) (hL : dk_lk L a8) (hC : dk_ca b0 v0 d0 b1 v1 d1 a9 a10 a11)
    (hf : ∀ k, k < 3 → k ≠ K → ¬ L k X) (h0 : ¬ b0 K = nI X) (h1 : b1 K = nI X)
    (H : ∀ a8' : Nat → Int32, dk_lk (dk_add L K X) a8' → post (v1 K) (nI R, a1, a2, a3, a4, a5, a6, a7, a8', a9, a10, a11, a12)) : wpX_readBlock post (nI R, a1, a2, a3, a4, a5, a6, a7, a8, a9, a10, a11, a12) (nI K) (nI X) := by
  unfold wpX_readBlock
  dsimp only
  refine dk_take hX hK hL (by decide) (by decide) hf (fun a8' hL' => ?_)
  dsimp only
  refine dk_bi_hit1 hK hR2 hR8 hC h0 h1 ?_
  dsimp only
  rw [dk_c (K * 8 + 1) (by omega), (hC K hK).2.1.2.1]
  exact ⟨pk_in (K * 8 + 1) 24 (by omega), H _ hL'⟩
theorem dk_rb_miss0 {post : Int32 → St2 → Prop} (hK : K < 3) (hX : X < 16) (hR2 : 2 ≤ R) (hR8 : R ≤ 8) (hE : dk_E a3 a7) (hL : dk_lk L a8) (hC : dk_ca b0 v0 d0 b1 v1 d1 a9 a10 a11)
    (hf : ∀ k, k < 3 → k ≠ K → ¬ L k X) (h0 : b0 K = -1) (h1 : ¬ b1 K = nI X)
    (H : ∀ a8' a9' a10' : Nat → Int32, dk_lk (dk_add L K X) a8' → dk_ca (upd b0 K (nI X)) (upd v0 K (a2 X)) d0 b1 v1 d1 a9' a10' a11 → post (a2 X) (nI R, a1, a2, a3, a4, a5, a6, a7, a8', a9', a10', a11, a12)) :
    wpX_readBlock post (nI R, a1, a2, a3, a4, a5, a6, a7, a8, a9, a10, a11, a12) (nI K) (nI X) := by
  unfold wpX_readBlock
  dsimp only
  refine dk_take hX hK hL (by decide) (by decide) hf (fun a8' hL' => ?_)
  dsimp only
  refine dk_bi_miss0 hK hX hR2 hR8 hE hC h0 h1 (fun a9' a10' hC' => ?_)
  dsimp only
  rw [dk_c (K * 8) (by omega), (hC' K hK).1.2.1, pk_us]
  exact ⟨pk_in (K * 8) 24 (by omega), H _ _ _ hL' hC'⟩

/-! writeBlock -/
theorem dk_wb_hit0 {post : St2 → Prop} {V : Int32} (hK : K < 3) (hX : X < 16) (hR2 : 2 ≤ R) (hR8 : R ≤ 8) (hL : dk_lk L a8) (hC : dk_ca b0 v0 d0 b1 v1 d1 a9 a10 a11)
    (hf : ∀ k, k < 3 → k ≠ K → ¬ L k X) (h0 : b0 K = nI X)
    (H : ∀ a8' a10' a11' : Nat → Int32, dk_lk (dk_add L K X) a8' → dk_ca b0 (upd v0 K V) (upd d0 K 1) b1 v1 d1 a9 a10' a11' → post (nI R, a1, a2, a3, a4, a5, a6, a7, a8', a9, a10', a11', a12)) :
    wpX_writeBlock post (nI R, a1, a2, a3, a4, a5, a6, a7, a8, a9, a10, a11, a12) (nI K) (nI X) V := by
  unfold wpX_writeBlock
  dsimp only
  refine dk_take hX hK hL (by decide) (by decide) hf (fun a8' hL' => ?_)
  dsimp only
  refine dk_bi_hit0 hK hR2 hR8 hC h0 ?_
  dsimp only
  rw [dk_c (K * 8) (by omega)]
  exact ⟨pk_in (K * 8) 24 (by omega), nm_e ⟨pk_in (K * 8) 24 (by omega), nm_e (H _ _ _ hL' (dk_ca_d0 (dk_ca_v0 hC)))⟩⟩
theorem dk_wb_hit1 {post : St2 → Prop} {V : Int32} (hK : K < 3) (hX : X < 16) (hR2 : 2 ≤ R) (hR8 : R ≤ 8) (hL : dk_lk L a8) (hC : dk_ca b0 v0 d0 b1 v1 d1 a9 a10 a11)
    (hf : ∀ k, k < 3 → k ≠ K → ¬ L k X) (h0 : ¬ b0 K = nI X) (h1 : b1 K = nI X)
    (H : ∀ a8' a10' a11' : Nat → Int32, dk_lk (dk_add L K X) a8' → dk_ca b0 v0 d0 b1 (upd v1 K V) (upd d1 K 1) a9 a10' a11' → post (nI R, a1, a2, a3, a4, a5, a6, a7, a8', a9, a10', a11', a12)) :
    wpX_writeBlock post (nI R, a1, a2, a3, a4, a5, a6, a7, a8, a9, a10, a11, a12) (nI K) (nI X) V := by
  unfold wpX_writeBlock
  dsimp only
  refine dk_take hX hK hL (by decide) (by decide) hf (fun a8' hL' => ?_)
  dsimp only
  refine dk_bi_hit1 hK hR2 hR8 hC h0 h1 ?_
  dsimp only
  rw [dk_c (K * 8 + 1) (by omega)]
  exact ⟨pk_in (K * 8 + 1) 24 (by omega), nm_e ⟨pk_in (K * 8 + 1) 24 (by omega), nm_e (H _ _ _ hL' (dk_ca_d1 (dk_ca_v1 hC)))⟩⟩
theorem dk_uu (f : Nat → Int32) (k : Nat) (x y : Int32) : upd (upd f k x) k y = upd f k y := by
  funext j
  unfold upd
  split <;> rfl
theorem dk_wb_miss0 {post : St2 → Prop} {V : Int32} (hK : K < 3) (hX : X < 16) (hR2 : 2 ≤ R) (hR8 : R ≤ 8) (hE : dk_E a3 a7) (hL : dk_lk L a8) (hC : dk_ca b0 v0 d0 b1 v1 d1 a9 a10 a11)
    (hf : ∀ k, k < 3 → k ≠ K → ¬ L k X) (h0 : b0 K = -1) (h1 : ¬ b1 K = nI X)
    (H : ∀ a8' a9' a10' a11' : Nat → Int32, dk_lk (dk_add L K X) a8' → dk_ca (upd b0 K (nI X)) (upd v0 K V) (upd d0 K 1) b1 v1 d1 a9' a10' a11' → post (nI R, a1, a2, a3, a4, a5, a6, a7, a8', a9', a10', a11', a12)) :
    wpX_writeBlock post (nI R, a1, a2, a3, a4, a5, a6, a7, a8, a9, a10, a11, a12) (nI K) (nI X) V := by
  unfold wpX_writeBlock
  dsimp only
  refine dk_take hX hK hL (by decide) (by decide) hf (fun a8' hL' => ?_)
  dsimp only
  refine dk_bi_miss0 hK hX hR2 hR8 hE hC h0 h1 (fun a9' a10' hC' => ?_)
  dsimp only
  rw [dk_c (K * 8) (by omega)]
  have hC2 := dk_ca_d0 (K := K) (x := 1) (dk_ca_v0 (K := K) (x := V) hC')
  rw [dk_uu] at hC2
  exact ⟨pk_in (K * 8) 24 (by omega), nm_e ⟨pk_in (K * 8) 24 (by omega), nm_e (H _ _ _ _ hL' hC2)⟩⟩
theorem dk_wb_miss1 {post : St2 → Prop} {V : Int32} (hK : K < 3) (hX : X < 16) (hR2 : 2 ≤ R) (hR8 : R ≤ 8) (hE : dk_E a3 a7) (hL : dk_lk L a8) (hC : dk_ca b0 v0 d0 b1 v1 d1 a9 a10 a11)
    (hf : ∀ k, k < 3 → k ≠ K → ¬ L k X) (h0 : ¬ b0 K = nI X) (h0' : ¬ b0 K = -1) (h1 : b1 K = -1)
    (H : ∀ a8' a9' a10' a11' : Nat → Int32, dk_lk (dk_add L K X) a8' → dk_ca b0 v0 d0 (upd b1 K (nI X)) (upd v1 K V) (upd d1 K 1) a9' a10' a11' → post (nI R, a1, a2, a3, a4, a5, a6, a7, a8', a9', a10', a11', a12)) :
    wpX_writeBlock post (nI R, a1, a2, a3, a4, a5, a6, a7, a8, a9, a10, a11, a12) (nI K) (nI X) V := by
  unfold wpX_writeBlock
  dsimp only
  refine dk_take hX hK hL (by decide) (by decide) hf (fun a8' hL' => ?_)
  dsimp only
  refine dk_bi_miss1 hK hX hR2 hR8 hE hC h0 h0' h1 (fun a9' a10' hC' => ?_)
  dsimp only
  rw [dk_c (K * 8 + 1) (by omega)]
  have hC2 := dk_ca_d1 (K := K) (x := 1) (dk_ca_v1 (K := K) (x := V) hC')
  rw [dk_uu] at hC2
  exact ⟨pk_in (K * 8 + 1) 24 (by omega), nm_e ⟨pk_in (K * 8 + 1) 24 (by omega), nm_e (H _ _ _ _ hL' hC2)⟩⟩

/-! the one reader that makes another node step back -/
theorem dk_sb {post : St2 → Prop} (hN : N < 3) (hX : X < 16) (hR2 : 2 ≤ R) (hR8 : R ≤ 8) (hE : dk_E a3 a7) (hC : dk_ca b0 v0 d0 b1 v1 d1 a9 a10 a11)
    (hA : b0 N = nI A) (hB : b1 N = nI X) (A16 : A < 16) (hAX : A ≠ X) (hd0 : ¬ d0 N = 0) (hd1 : ¬ d1 N = 0)
    (H : ∀ a3' a4' a5' a6' a7' a11' : Nat → Int32, dk_E a3' a7' → dk_ca b0 v0 (upd d0 N 0) b1 v1 (upd d1 N 0) a9 a10 a11' →
      post (nI R, a1, upd (upd a2 A (v0 N)) X (v1 N), a3', a4', a5', a6', a7', upd a8 (N * 16 + X) 1, a9, a10, a11', a12)) :
    wpX_stepBack post (nI R, a1, a2, a3, a4, a5, a6, a7, a8, a9, a10, a11, a12) (nI N) (nI X) 1 := by
  unfold wpX_stepBack
  dsimp only
  refine dk_isu1 hN hR2 hR8 hE hC (Or.inr ⟨by rw [hA]; exact fun z => hAX ((nI_eq (by omega) (by omega)).mp z), hB, hd1⟩) (br_f (by decide) ?_)
  refine dk_ms hN hR2 hR8 hE hC hA hB A16 hX hAX hd0 hd1 (fun a3' a4' a5' a6' a7' a11' hE' hC' => ?_)
  dsimp only
  unfold wX_stepBack_19
  rw [dk_e16, dk_c (N * 16 + X) (by omega)]
  exact br_f (by decide) ⟨pk_in (N * 16 + X) 48 (by omega), nm_e (H _ _ _ _ _ _ hE' hC')⟩

theorem dk_lk_one (hL : dk_lk L a8) (h : L N X) (hX : X < 16) : dk_lk L (upd a8 (N * 16 + X) 1) := by
  intro k hk x hx
  by_cases e : k = N ∧ x = X
  · rw [e.1, e.2, pk_us]
    exact ⟨fun z => absurd z (by decide), fun z => absurd h z⟩
  · rw [pk_un (by omega)]
    exact hL k hk x hx

theorem dk_take_one {post : St2 → Prop} (hN : N < 3) (hK : K < 3) (hNK : N ≠ K) (hX : X < 16) (hR2 : 2 ≤ R) (hR8 : R ≤ 8) (hE : dk_E a3 a7) (hL : dk_lk L a8) (hC : dk_ca b0 v0 d0 b1 v1 d1 a9 a10 a11)
    (hl : L N X) (hf : ∀ k, k < 3 → k ≠ K → k ≠ N → ¬ L k X)
    (hA : b0 N = nI A) (hB : b1 N = nI X) (A16 : A < 16) (hAX : A ≠ X) (hd0 : ¬ d0 N = 0) (hd1 : ¬ d1 N = 0)
    (H : ∀ a3' a4' a5' a6' a7' a8' a11' : Nat → Int32, dk_E a3' a7' → dk_lk (dk_add L K X) a8' → dk_ca b0 v0 (upd d0 N 0) b1 v1 (upd d1 N 0) a9 a10 a11' →
      post (nI R, a1, upd (upd a2 A (v0 N)) X (v1 N), a3', a4', a5', a6', a7', a8', a9, a10, a11', a12)) :
    wpX_take post (nI R, a1, a2, a3, a4, a5, a6, a7, a8, a9, a10, a11, a12) (nI K) (nI X) 1 := by
  unfold wpX_take
  dsimp only
  have z : ∀ k, k < 3 → k ≠ N → k ≠ K → a8 (k * 16 + X) = 0 := fun k hk n1 n2 => (hL k hk X hX).mpr (hf k hk n2 n1)
  have z' : ∀ k, k < 3 → k ≠ N → k ≠ K → upd a8 (N * 16 + X) 1 (k * 16 + X) = 0 := fun k hk n1 n2 => by
    rw [pk_un (by omega)]
    exact z k hk n1 n2
  have hn0 : ¬ a8 (N * 16 + X) = 0 := fun q => (hL N hN X hX).mp q hl
  have step : ∀ n, (∀ a3' a4' a5' a6' a7' a11' : Nat → Int32, dk_E a3' a7' → dk_ca b0 v0 (upd d0 N 0) b1 v1 (upd d1 N 0) a9 a10 a11' →
      wX_take_3 post (nI K) (nI X) 1 n (nI (N + 1)) (nI R) a1 (upd (upd a2 A (v0 N)) X (v1 N)) a3' a4' a5' a6' a7' (upd a8 (N * 16 + X) 1) a9 a10 a11' a12) →
      wX_take_3 post (nI K) (nI X) 1 (n + 1) (nI N) (nI R) a1 a2 a3 a4 a5 a6 a7 a8 a9 a10 a11 a12 := fun n h =>
    pk_le 3 N (fun q => absurd q (by omega)) (fun _ => pk_eq N K (fun e => absurd e hNK) (fun _ => ⟨pk_in (N * 16 + X) 48 (by omega) (dk_e16 N X),
      br_f (by rw [dk_e16, dk_c (N * 16 + X) (by omega)]; exact hn0)
        (dk_sb hN hX hR2 hR8 hE hC hA hB A16 hAX hd0 hd1 (fun a3' a4' a5' a6' a7' a11' hE' hC' => nm_r (nI_1 N) (h a3' a4' a5' a6' a7' a11' hE' hC')))⟩))
  have fin : ∀ (n : Nat) (a3' a4' a5' a6' a7' a11' : Nat → Int32), dk_E a3' a7' → dk_ca b0 v0 (upd d0 N 0) b1 v1 (upd d1 N 0) a9 a10 a11' →
      wX_take_3 post (nI K) (nI X) 1 (n + 1) (nI 3) (nI R) a1 (upd (upd a2 A (v0 N)) X (v1 N)) a3' a4' a5' a6' a7' (upd a8 (N * 16 + X) 1) a9 a10 a11' a12 :=
    fun n a3' a4' a5' a6' a7' a11' hE' hC' => dk_tk_end hX hK (dk_lk_one hL hl hX) (by decide) (by decide) (fun a8' hL' => H _ _ _ _ _ _ _ hE' hL' hC')
  refine ⟨0 + 1 + 1 + 1 + 1, ?_⟩
  have hN3 : N = 0 ∨ N = 1 ∨ N = 2 := by omega
  rcases hN3 with hq | hq | hq
  · subst hq
    exact step _ (fun a3' a4' a5' a6' a7' a11' hE' hC' => dk_tk_skip (o := 1) (by omega) hX hK (z' 1 (by omega) (by omega)) (dk_tk_skip (o := 2) (by omega) hX hK (z' 2 (by omega) (by omega)) (fin _ _ _ _ _ _ _ hE' hC')))
  · subst hq
    exact dk_tk_skip (o := 0) (by omega) hX hK (z 0 (by omega) (by omega)) (step _ (fun a3' a4' a5' a6' a7' a11' hE' hC' => dk_tk_skip (o := 2) (by omega) hX hK (z' 2 (by omega) (by omega)) (fin _ _ _ _ _ _ _ hE' hC')))
  · subst hq
    exact dk_tk_skip (o := 0) (by omega) hX hK (z 0 (by omega) (by omega)) (dk_tk_skip (o := 1) (by omega) hX hK (z 1 (by omega) (by omega)) (step _ (fun a3' a4' a5' a6' a7' a11' hE' hC' => fin _ _ _ _ _ _ _ hE' hC')))

theorem dk_rb_one {post : Int32 → St2 → Prop} (hN : N < 3) (hK : K < 3) (hNK : N ≠ K) (hX : X < 16) (hR2 : 2 ≤ R) (hR8 : R ≤ 8) (hE : dk_E a3 a7) (hL : dk_lk L a8) (hC : dk_ca b0 v0 d0 b1 v1 d1 a9 a10 a11)
    (hl : L N X) (hf : ∀ k, k < 3 → k ≠ K → k ≠ N → ¬ L k X)
    (hA : b0 N = nI A) (hB : b1 N = nI X) (A16 : A < 16) (hAX : A ≠ X) (hd0 : ¬ d0 N = 0) (hd1 : ¬ d1 N = 0)
    (h0 : ¬ b0 K = nI X) (h0' : ¬ b0 K = -1) (h1 : b1 K = -1)
    (H : ∀ a3' a4' a5' a6' a7' a8' a9' a10' a11' : Nat → Int32, dk_E a3' a7' → dk_lk (dk_add L K X) a8' → dk_ca b0 v0 (upd d0 N 0) (upd b1 K (nI X)) (upd v1 K (v1 N)) (upd d1 N 0) a9' a10' a11' →
      post (v1 N) (nI R, a1, upd (upd a2 A (v0 N)) X (v1 N), a3', a4', a5', a6', a7', a8', a9', a10', a11', a12)) :
    wpX_readBlock post (nI R, a1, a2, a3, a4, a5, a6, a7, a8, a9, a10, a11, a12) (nI K) (nI X) := by
  unfold wpX_readBlock
  dsimp only
  refine dk_take_one hN hK hNK hX hR2 hR8 hE hL hC hl hf hA hB A16 hAX hd0 hd1 (fun a3' a4' a5' a6' a7' a8' a11' hE' hL' hC' => ?_)
  dsimp only
  refine dk_bi_miss1 hK hX hR2 hR8 hE' hC' h0 h0' h1 (fun a9' a10' hC2 => ?_)
  dsimp only
  rw [pk_us] at hC2
  rw [dk_c (K * 8 + 1) (by omega), (hC2 K hK).2.1.2.1, pk_us]
  exact ⟨pk_in (K * 8 + 1) 24 (by omega), H _ _ _ _ _ _ _ _ _ hE' hL' hC2⟩
end
end
section
section
variable {R K X A B e : Nat} {x y : Int32} {a1 a2 a3 a4 a5 a6 a7 a8 a9 a10 a11 a12 : Nat → Int32} {b0 v0 d0 b1 v1 d1 : Nat → Int32} {L : Nat → Nat → Prop}

theorem dk_dc {post : St2 → Prop} (he : e < 24) (hp : post (nI R, a1, a2, a3, a4, a5, a6, a7, a8, upd a9 e (-1), a10, upd a11 e 0, a12)) : wpX_dropCell post (nI R, a1, a2, a3, a4, a5, a6, a7, a8, a9, a10, a11, a12) (nI e) := by
  unfold wpX_dropCell
  dsimp only
  rw [dk_c e (by omega)]
  exact ⟨pk_in e 24 he, nm_e ⟨pk_in e 24 he, nm_e hp⟩⟩

def dk_del (L : Nat → Nat → Prop) (K : Nat) : Nat → Nat → Prop := fun k x => k ≠ K ∧ L k x

theorem dk_d59 {post : St2 → Prop} (hK : K < 3) (hL : dk_lk L a8) (H : ∀ a8' : Nat → Int32, dk_lk (dk_del L K) a8' → post (nI R, a1, a2, a3, a4, a5, a6, a7, a8', a9, a10, a11, a12)) :
    ∃ n, wX_die_59 post (nI K) (nI R) n 0 a1 a2 a3 a4 a5 a6 a7 a8 a9 a10 a11 a12 := by
  refine pk_loop (fun n i s => wX_die_59 post (nI K) (nI R) n (nI i) a1 a2 a3 a4 a5 a6 a7 s a9 a10 a11 a12)
    (fun i s => (∀ x, x < i → s (K * 16 + x) = 0) ∧ ∀ k, k < 3 → k ≠ K → ∀ x, x < 16 → s (k * 16 + x) = a8 (k * 16 + x)) 16 0 a8 (by omega)
    ⟨fun x hx => absurd hx (by omega), fun k _ _ x _ => rfl⟩ (fun n s h => ?_) (fun n i s hi h hw => ?_)
  · refine pk_le 16 16 (fun _ => H s (fun k hk x hx => ?_)) (fun z => absurd z (by omega))
    by_cases e : k = K
    · rw [e]
      exact ⟨fun _ q => q.1 rfl, fun _ => h.1 x hx⟩
    · rw [h.2 k hk e x hx]
      exact (hL k hk x hx).trans ⟨fun q z => q z.2, fun q z => q ⟨e, z⟩⟩
  · refine pk_le 16 i (fun z => absurd z (by omega)) (fun _ => ⟨pk_in (K * 16 + i) 48 (by omega) (dk_e16 K i), ?_⟩)
    rw [dk_e16, dk_c (K * 16 + i) (by omega)]
    refine nm_e (nm_r (nI_1 i) (hw _ ⟨fun x hx => ?_, fun k hk n x hx => ?_⟩))
    · by_cases q : x = i
      · rw [q, pk_us]
      · rw [pk_un (by omega)]
        exact h.1 x (by omega)
    · rw [pk_un (by omega)]
      exact h.2 k hk n x hx

theorem dk_d12 {post : St2 → Prop} (hK : K < 3) (hC : dk_ca b0 v0 d0 b1 v1 d1 a9 a10 a11)
    (H : ∀ (n : Nat) (a9' a11' : Nat → Int32), dk_ca (upd b0 K (-1)) v0 (upd d0 K 0) (upd b1 K (-1)) v1 (upd d1 K 0) a9' a10 a11' →
      wX_die_12 post (nI K) (n + 1) (nI (K * 8 + 8)) (nI R) (upd a1 K 0) a2 a3 a4 a5 a6 a7 a8 a9' a10 a11' a12) :
    wpX_die post (nI R, a1, a2, a3, a4, a5, a6, a7, a8, a9, a10, a11, a12) (nI K) := by
  unfold wpX_die
  dsimp only
  refine ⟨pk_in K 3 hK, nm_r (e' := upd a1 K 0) (by rw [dk_c K (by omega)]) (nm_r (dk_m8 K) ?_)⟩
  refine pk_loop (σ := (Nat → Int32) × (Nat → Int32)) (fun n i s => wX_die_12 post (nI K) n (nI i) (nI R) (upd a1 K 0) a2 a3 a4 a5 a6 a7 a8 (s.1) a10 (s.2) a12)
    (fun i s => K * 8 ≤ i ∧ (∀ j, K * 8 ≤ j → j < i → s.1 j = -1 ∧ s.2 j = 0) ∧ (∀ j, j < K * 8 ∨ i ≤ j → s.1 j = a9 j ∧ s.2 j = a11 j)) (K * 8 + 8) (K * 8) (a9, a11) (by omega)
    ⟨Nat.le_refl _, fun j h1 h2 => absurd h2 (by omega), fun j _ => ⟨rfl, rfl⟩⟩ (fun n s h => ?_) (fun n i s hi h hw => ?_)
  · obtain ⟨_, g1, g2⟩ := h
    refine H n s.1 s.2 (fun k hk => ?_)
    obtain ⟨⟨h1, h2, h3⟩, ⟨h4, h5, h6⟩, h7⟩ := hC k hk
    by_cases q : k = K
    · rw [q] at h2 h5 ⊢
      rw [pk_us, pk_us, pk_us, pk_us]
      exact ⟨⟨(g1 (K * 8) (by omega) (by omega)).1, h2, (g1 (K * 8) (by omega) (by omega)).2⟩, ⟨(g1 (K * 8 + 1) (by omega) (by omega)).1, h5, (g1 (K * 8 + 1) (by omega) (by omega)).2⟩, fun i i1 i2 => g1 i (by omega) (by omega)⟩
    · rw [pk_un q, pk_un q, pk_un q, pk_un q]
      refine ⟨⟨(g2 (k * 8) (by omega)).1.trans h1, h2, (g2 (k * 8) (by omega)).2.trans h3⟩, ⟨(g2 (k * 8 + 1) (by omega)).1.trans h4, h5, (g2 (k * 8 + 1) (by omega)).2.trans h6⟩, fun i i1 i2 => ?_⟩
      rw [(g2 i (by omega)).1, (g2 i (by omega)).2]
      exact h7 i i1 i2
  · obtain ⟨g0, g1, g2⟩ := h
    refine pk_le (K * 8 + 8) i (fun z => absurd z (by omega)) (fun _ => dk_dc (by omega) (nm_r (nI_1 i) (hw (upd s.1 i (-1), upd s.2 i 0) ⟨by omega, fun j j1 j2 => ?_, fun j hj => ?_⟩))) (dk_e8 K 8)
    · show upd s.1 i (-1) j = -1 ∧ upd s.2 i 0 j = 0
      by_cases q : j = i
      · rw [q, pk_us, pk_us]
        exact ⟨rfl, rfl⟩
      · rw [pk_un q, pk_un q]
        exact g1 j j1 (by omega)
    · show upd s.1 i (-1) j = a9 j ∧ upd s.2 i 0 j = a11 j
      rw [pk_un (by omega), pk_un (by omega)]
      exact g2 j (by omega)

theorem dk_die0 {post : St2 → Prop} (hK : K < 3) (hE : dk_E a3 a7) (hL : dk_lk L a8) (hC : dk_ca b0 v0 d0 b1 v1 d1 a9 a10 a11)
    (H : ∀ a3' a7' a8' a9' a11' : Nat → Int32, dk_E a3' a7' → dk_lk (dk_del L K) a8' → dk_ca (upd b0 K (-1)) v0 (upd d0 K 0) (upd b1 K (-1)) v1 (upd d1 K 0) a9' a10 a11' →
      post (nI R, upd a1 K 0, a2, a3', a4, a5, a6, a7', a8', a9', a10, a11', a12)) :
    wpX_die post (nI R, a1, a2, a3, a4, a5, a6, a7, a8, a9, a10, a11, a12) (nI K) :=
  dk_d12 hK hC (fun n a9' a11' hC' => pk_le (K * 8 + 8) (K * 8 + 8) (fun _ => dk_wh0 hK (hE K hK).2 (br_t rfl (dk_ej hK
    (dk_d59 hK hL (fun a8' hL' => H _ _ _ _ _ (dk_E_e (fun k hk _ => hE k hk)) hL' hC'))))) (fun z => absurd z (by omega)) (dk_e8 K 8))

theorem dk_die1 {post : St2 → Prop} (hK : K < 3) (hJ : dk_JR K A B x y a3 a4 a5 a7) (h7 : a7 K = 1) (h6 : a6 K = dk_sum A B x y) (A16 : A < 16) (B16 : B < 16) (hL : dk_lk L a8) (hC : dk_ca b0 v0 d0 b1 v1 d1 a9 a10 a11)
    (H : ∀ a3' a7' a8' a9' a11' : Nat → Int32, dk_E a3' a7' → dk_lk (dk_del L K) a8' → dk_ca (upd b0 K (-1)) v0 (upd d0 K 0) (upd b1 K (-1)) v1 (upd d1 K 0) a9' a10 a11' →
      post (nI R, upd a1 K 0, upd (upd a2 A x) B y, a3', a4, a5, a6, a7', a8', a9', a10, a11', a12)) :
    wpX_die post (nI R, a1, a2, a3, a4, a5, a6, a7, a8, a9, a10, a11, a12) (nI K) :=
  dk_d12 hK hC (fun n a9' a11' hC' => pk_le (K * 8 + 8) (K * 8 + 8) (fun _ => dk_wh1 hK hJ h7 h6 (br_f (by decide) (dk_bh hK hJ A16 B16 (fun a3' a7' hE' =>
    dk_d59 hK hL (fun a8' hL' => H _ _ _ _ _ hE' hL' hC'))))) (fun z => absurd z (by omega)) (dk_e8 K 8))

theorem dk_bn {post : Int32 → Prop} {u : St0} (hK : K < 3) (hp : post 0) : wpX_badNode post u (nI K) :=
  br_f (nI_pos (by omega)) (br_t (nI_lt (b := 3) hK (by decide)) hp)
theorem dk_bb {post : Int32 → Prop} {u : St0} (hX : X < 16) (hp : post 0) : wpX_badBlock post u (nI X) :=
  br_f (nI_pos (by omega)) (br_t (nI_lt (b := 16) hX (by decide)) hp)

theorem dk_crash {post : Int32 → St2 → Prop} {c : Int32} (hK : K < 3) (hR2 : 2 ≤ R) (hR8 : R ≤ 8) (hE : dk_E a3 a7) (hL : dk_lk L a8) (hC : dk_ca b0 v0 d0 b1 v1 d1 a9 a10 a11)
    (hr : ¬ a1 K = 0) (hc : dk_ct d0 d1 K = c)
    (H : ∀ a3' a7' a8' a9' a11' : Nat → Int32, dk_E a3' a7' → dk_lk (dk_del L K) a8' → dk_ca (upd b0 K (-1)) v0 (upd d0 K 0) (upd b1 K (-1)) v1 (upd d1 K 0) a9' a10 a11' →
      post c (nI R, upd a1 K 0, a2, a3', a4, a5, a6, a7', a8', a9', a10, a11', a12)) :
    wpX_crash post (nI R, a1, a2, a3, a4, a5, a6, a7, a8, a9, a10, a11, a12) (nI K) := by
  subst hc
  unfold wpX_crash
  dsimp only
  refine dk_bn hK (br_t rfl ⟨pk_in K 3 hK, br_f (by rw [dk_c K (by omega)]; exact hr) ?_⟩)
  refine dk_uc hK hR2 hR8 hE hC ?_
  exact dk_die0 hK hE hL hC H

theorem dk_cis {post : Int32 → St2 → Prop} (hK : K < 3) (hR2 : 2 ≤ R) (hR8 : R ≤ 8) (hE : dk_E a3 a7) (hL : dk_lk L a8) (hC : dk_ca b0 v0 d0 b1 v1 d1 a9 a10 a11)
    (hr : ¬ a1 K = 0) (hA : b0 K = nI A) (hB : b1 K = nI B) (A16 : A < 16) (B16 : B < 16) (hAB : A ≠ B) (hd0 : ¬ d0 K = 0) (hd1 : ¬ d1 K = 0)
    (hx : v0 K = x) (hy : v1 K = y)
    (H : ∀ a3' a4' a5' a6' a7' a8' a9' a11' : Nat → Int32, dk_E a3' a7' → dk_lk (dk_del L K) a8' → dk_ca (upd b0 K (-1)) v0 (upd d0 K 0) (upd b1 K (-1)) v1 (upd d1 K 0) a9' a10 a11' →
      post 2 (nI R, upd a1 K 0, upd (upd a2 A x) B y, a3', a4', a5', a6', a7', a8', a9', a10, a11', a12)) :
    wpX_crashInSync post (nI R, a1, a2, a3, a4, a5, a6, a7, a8, a9, a10, a11, a12) (nI K) 1 := by
  subst hx hy
  unfold wpX_crashInSync
  dsimp only
  refine dk_bn hK (br_t rfl ⟨pk_in K 3 hK, br_f (by rw [dk_c K (by omega)]; exact hr) ?_⟩)
  refine dk_uc hK hR2 hR8 hE hC ?_
  rw [dk_ct2 hd0 hd1]
  refine dk_fill hK hR2 hR8 hE hC hA hB A16 B16 hAB hd0 hd1 (fun a3' a4' a5' a11' hJ hC' => ?_)
  dsimp only
  refine br_f (by decide) ?_
  refine dk_mark hK hJ ?_
  dsimp only
  unfold wX_crashInSync_41
  refine dk_die1 hK (dk_JR_m hJ) pk_us pk_us A16 B16 hL hC' (fun a3' a7' a8' a9' a11' hE' hL' hC2 => ?_)
  dsimp only
  rw [dk_uu, dk_uu] at hC2
  exact H _ _ _ _ _ _ _ _ hE' hL' hC2

/-! powerCut -/
theorem dk_ca_eq {b0' v0' d0' b1' v1' d1' : Nat → Int32} (hC : dk_ca b0 v0 d0 b1 v1 d1 a9 a10 a11)
    (h : ∀ k, k < 3 → b0' k = b0 k ∧ v0' k = v0 k ∧ d0' k = d0 k ∧ b1' k = b1 k ∧ v1' k = v1 k ∧ d1' k = d1 k) : dk_ca b0' v0' d0' b1' v1' d1' a9 a10 a11 := by
  intro k hk
  obtain ⟨e1, e2, e3, e4, e5, e6⟩ := h k hk
  rw [e1, e2, e3, e4, e5, e6]
  exact hC k hk
theorem dk_lk_eq {L' : Nat → Nat → Prop} (hL : dk_lk L a8) (h : ∀ k, k < 3 → ∀ x, x < 16 → (L' k x ↔ L k x)) : dk_lk L' a8 :=
  fun k hk x hx => (hL k hk x hx).trans (not_congr (h k hk x hx).symm)

theorem dk_pc_step {post : Int32 → St2 → Prop} {n : Nat} {c : Int32} (hK : K < 3) (hR2 : 2 ≤ R) (hR8 : R ≤ 8) (hE : dk_E a3 a7) (hL : dk_lk L a8) (hC : dk_ca b0 v0 d0 b1 v1 d1 a9 a10 a11)
    (H : ∀ a3' a7' a8' a9' a11' : Nat → Int32, dk_E a3' a7' → dk_lk (dk_del L K) a8' → dk_ca (upd b0 K (-1)) v0 (upd d0 K 0) (upd b1 K (-1)) v1 (upd d1 K 0) a9' a10 a11' →
      wX_powerCut_4 post n (c + dk_ct d0 d1 K) (nI (K + 1)) (nI R) (upd a1 K 0) a2 a3' a4 a5 a6 a7' a8' a9' a10 a11' a12) :
    wX_powerCut_4 post (n + 1) c (nI K) (nI R) a1 a2 a3 a4 a5 a6 a7 a8 a9 a10 a11 a12 :=
  pk_le 3 K (fun z => absurd z (by omega)) (fun _ => dk_uc hK hR2 hR8 hE hC (nm_e (dk_die0 hK hE hL hC (fun a3' a7' a8' a9' a11' hE' hL' hC' =>
    nm_r (nI_1 K) (H a3' a7' a8' a9' a11' hE' hL' hC')))))

theorem dk_pc30 {post : Int32 → St2 → Prop} {c : Int32} (H : ∀ a1' : Nat → Int32, (∀ k, k < 3 → a1' k = 1) → post c (nI R, a1', a2, a3, a4, a5, a6, a7, a8, a9, a10, a11, a12)) :
    ∃ n, wX_powerCut_30 post c (nI R) n 0 a1 a2 a3 a4 a5 a6 a7 a8 a9 a10 a11 a12 :=
  pk_loop (fun n i s => wX_powerCut_30 post c (nI R) n (nI i) s a2 a3 a4 a5 a6 a7 a8 a9 a10 a11 a12) (fun i s => ∀ k, k < i → s k = 1) 3 0 a1 (by omega) (fun k hk => absurd hk (by omega))
    (fun n s h => pk_le 3 3 (fun _ => H s h) (fun z => absurd z (by omega)))
    (fun n i s hi h hw => pk_le 3 i (fun z => absurd z (by omega)) (fun _ => ⟨pk_in i 3 hi, nm_r (e' := upd s i 1) (by rw [dk_c i (by omega)]) (nm_r (nI_1 i) (hw _ (fun k hk => by
      by_cases q : k = i
      · rw [q, pk_us]
      · rw [pk_un q]
        exact h k (by omega))))⟩))

theorem dk_pc {post : Int32 → St2 → Prop} {c : Int32} (hR2 : 2 ≤ R) (hR8 : R ≤ 8) (hE : dk_E a3 a7) (hL : dk_lk L a8) (hC : dk_ca b0 v0 d0 b1 v1 d1 a9 a10 a11)
    (hc : dk_ct d0 d1 0 + dk_ct d0 d1 1 + dk_ct d0 d1 2 = c)
    (H : ∀ a1' a3' a7' a8' a9' a11' : Nat → Int32, (∀ k, k < 3 → a1' k = 1) → dk_E a3' a7' → dk_lk (fun _ _ => False) a8' → dk_ca (fun _ => -1) v0 (fun _ => 0) (fun _ => -1) v1 (fun _ => 0) a9' a10 a11' →
      post c (nI R, a1', a2, a3', a4, a5, a6, a7', a8', a9', a10, a11', a12)) :
    wpX_powerCut post (nI R, a1, a2, a3, a4, a5, a6, a7, a8, a9, a10, a11, a12) := by
  subst hc
  unfold wpX_powerCut
  dsimp only
  refine ⟨0 + 1 + 1 + 1 + 1, ?_⟩
  refine dk_pc_step (K := 0) (by omega) hR2 hR8 hE hL hC (fun p3 p7 p8 p9 p11 hE1 hL1 hC1 => ?_)
  refine dk_pc_step (K := 1) (by omega) hR2 hR8 hE1 hL1 hC1 (fun q3 q7 q8 q9 q11 hE2 hL2 hC2 => ?_)
  refine dk_pc_step (K := 2) (by omega) hR2 hR8 hE2 hL2 hC2 (fun r3 r7 r8 r9 r11 hE3 hL3 hC3 => ?_)
  refine pk_le 3 3 (fun _ => dk_pc30 (fun a1' h1 => ?_)) (fun z => absurd z (by omega))
  have e1 : dk_ct (upd d0 0 0) (upd d1 0 0) 1 = dk_ct d0 d1 1 := by
    unfold dk_ct
    rw [pk_un (by omega), pk_un (by omega)]
  have e2 : dk_ct (upd (upd d0 0 0) 1 0) (upd (upd d1 0 0) 1 0) 2 = dk_ct d0 d1 2 := by
    unfold dk_ct
    rw [pk_un (by omega), pk_un (by omega), pk_un (by omega), pk_un (by omega)]
  rw [e1, e2, Int32.zero_add]
  refine H _ _ _ _ _ _ h1 hE3 (dk_lk_eq hL3 (fun k hk x hx => ⟨fun z => absurd z id, fun z => ?_⟩)) (dk_ca_eq hC3 (fun k hk => ?_))
  · obtain ⟨z1, z2, z3, _⟩ := z
    omega
  · have hk3 : k = 0 ∨ k = 1 ∨ k = 2 := by omega
    rcases hk3 with q | q | q <;> subst q <;> exact ⟨rfl, rfl, rfl, rfl, rfl, rfl⟩
end
end
section
section
variable {R K X A B N o : Nat} {x y : Int32} {a1 a2 a3 a4 a5 a6 a7 a8 a9 a10 a11 a12 : Nat → Int32} {b0 v0 d0 b1 v1 d1 : Nat → Int32} {L : Nat → Nat → Prop}

/-! write -/
theorem dk_w_hit0 {post : Int32 → St2 → Prop} {V c : Int32} (hK : K < 3) (hX : X < 16) (hR2 : 2 ≤ R) (hR8 : R ≤ 8) (hE : dk_E a3 a7) (hL : dk_lk L a8) (hC : dk_ca b0 v0 d0 b1 v1 d1 a9 a10 a11)
    (hr : ¬ a1 K = 0) (hf : ∀ k, k < 3 → k ≠ K → ¬ L k X) (h0 : b0 K = nI X)
    (hc : dk_ct (upd d0 K 1) d1 K = c)
    (H : ∀ a8' a10' a11' : Nat → Int32, dk_lk (dk_add L K X) a8' → dk_ca b0 (upd v0 K V) (upd d0 K 1) b1 v1 d1 a9 a10' a11' → post c (nI R, a1, a2, a3, a4, a5, a6, a7, a8', a9, a10', a11', a12)) :
    wpX_write post (nI R, a1, a2, a3, a4, a5, a6, a7, a8, a9, a10, a11, a12) (nI K) (nI X) V := by
  subst hc
  unfold wpX_write
  dsimp only
  refine dk_bn hK (br_t rfl (dk_bb hX (br_t rfl ⟨pk_in K 3 hK, br_f (by rw [dk_c K (by omega)]; exact hr) ?_⟩)))
  refine dk_wb_hit0 hK hX hR2 hR8 hL hC hf h0 (fun a8' a10' a11' hL' hC' => ?_)
  dsimp only
  exact dk_uc hK hR2 hR8 hE hC' (H _ _ _ hL' hC')
theorem dk_w_miss0 {post : Int32 → St2 → Prop} {V c : Int32} (hK : K < 3) (hX : X < 16) (hR2 : 2 ≤ R) (hR8 : R ≤ 8) (hE : dk_E a3 a7) (hL : dk_lk L a8) (hC : dk_ca b0 v0 d0 b1 v1 d1 a9 a10 a11)
    (hr : ¬ a1 K = 0) (hf : ∀ k, k < 3 → k ≠ K → ¬ L k X) (h0 : b0 K = -1) (h1 : ¬ b1 K = nI X)
    (hc : dk_ct (upd d0 K 1) d1 K = c)
    (H : ∀ a8' a9' a10' a11' : Nat → Int32, dk_lk (dk_add L K X) a8' → dk_ca (upd b0 K (nI X)) (upd v0 K V) (upd d0 K 1) b1 v1 d1 a9' a10' a11' → post c (nI R, a1, a2, a3, a4, a5, a6, a7, a8', a9', a10', a11', a12)) :
    wpX_write post (nI R, a1, a2, a3, a4, a5, a6, a7, a8, a9, a10, a11, a12) (nI K) (nI X) V := by
  subst hc
  unfold wpX_write
  dsimp only
  refine dk_bn hK (br_t rfl (dk_bb hX (br_t rfl ⟨pk_in K 3 hK, br_f (by rw [dk_c K (by omega)]; exact hr) ?_⟩)))
  refine dk_wb_miss0 hK hX hR2 hR8 hE hL hC hf h0 h1 (fun a8' a9' a10' a11' hL' hC' => ?_)
  dsimp only
  exact dk_uc hK hR2 hR8 hE hC' (H _ _ _ _ hL' hC')
theorem dk_w_miss1 {post : Int32 → St2 → Prop} {V c : Int32} (hK : K < 3) (hX : X < 16) (hR2 : 2 ≤ R) (hR8 : R ≤ 8) (hE : dk_E a3 a7) (hL : dk_lk L a8) (hC : dk_ca b0 v0 d0 b1 v1 d1 a9 a10 a11)
    (hr : ¬ a1 K = 0) (hf : ∀ k, k < 3 → k ≠ K → ¬ L k X) (h0 : ¬ b0 K = nI X) (h0' : ¬ b0 K = -1) (h1 : b1 K = -1)
    (hc : dk_ct d0 (upd d1 K 1) K = c)
    (H : ∀ a8' a9' a10' a11' : Nat → Int32, dk_lk (dk_add L K X) a8' → dk_ca b0 v0 d0 (upd b1 K (nI X)) (upd v1 K V) (upd d1 K 1) a9' a10' a11' → post c (nI R, a1, a2, a3, a4, a5, a6, a7, a8', a9', a10', a11', a12)) :
    wpX_write post (nI R, a1, a2, a3, a4, a5, a6, a7, a8, a9, a10, a11, a12) (nI K) (nI X) V := by
  subst hc
  unfold wpX_write
  dsimp only
  refine dk_bn hK (br_t rfl (dk_bb hX (br_t rfl ⟨pk_in K 3 hK, br_f (by rw [dk_c K (by omega)]; exact hr) ?_⟩)))
  refine dk_wb_miss1 hK hX hR2 hR8 hE hL hC hf h0 h0' h1 (fun a8' a9' a10' a11' hL' hC' => ?_)
  dsimp only
  exact dk_uc hK hR2 hR8 hE hC' (H _ _ _ _ hL' hC')
theorem dk_w_down {post : Int32 → St2 → Prop} {V : Int32} (hK : K < 3) (hX : X < 16) (hr : a1 K = 0) (hp : post (-3) (nI R, a1, a2, a3, a4, a5, a6, a7, a8, a9, a10, a11, a12)) :
    wpX_write post (nI R, a1, a2, a3, a4, a5, a6, a7, a8, a9, a10, a11, a12) (nI K) (nI X) V := by
  unfold wpX_write
  dsimp only
  exact dk_bn hK (br_t rfl (dk_bb hX (br_t rfl ⟨pk_in K 3 hK, br_t (by rw [dk_c K (by omega)]; exact hr) hp⟩)))

/-! sync, read -/
theorem dk_sync {post : Int32 → St2 → Prop} (hK : K < 3) (hR2 : 2 ≤ R) (hR8 : R ≤ 8) (hE : dk_E a3 a7) (hC : dk_ca b0 v0 d0 b1 v1 d1 a9 a10 a11) (hr : ¬ a1 K = 0)
    (hA : b0 K = nI A) (hB : b1 K = nI B) (A16 : A < 16) (B16 : B < 16) (hAB : A ≠ B) (hd0 : ¬ d0 K = 0) (hd1 : ¬ d1 K = 0)
    (hx : v0 K = x) (hy : v1 K = y)
    (H : ∀ a3' a4' a5' a6' a7' a11' : Nat → Int32, dk_E a3' a7' → dk_ca b0 v0 (upd d0 K 0) b1 v1 (upd d1 K 0) a9 a10 a11' →
      post 2 (nI R, a1, upd (upd a2 A x) B y, a3', a4', a5', a6', a7', a8, a9, a10, a11', a12)) :
    wpX_sync post (nI R, a1, a2, a3, a4, a5, a6, a7, a8, a9, a10, a11, a12) (nI K) := by
  subst hx hy
  unfold wpX_sync
  dsimp only
  refine dk_bn hK (br_t rfl ⟨pk_in K 3 hK, br_f (by rw [dk_c K (by omega)]; exact hr) ?_⟩)
  exact dk_ms hK hR2 hR8 hE hC hA hB A16 B16 hAB hd0 hd1 H
theorem dk_read1 {post : Int32 → St2 → Prop} (hN : N < 3) (hK : K < 3) (hNK : N ≠ K) (hX : X < 16) (hR2 : 2 ≤ R) (hR8 : R ≤ 8) (hE : dk_E a3 a7) (hL : dk_lk L a8) (hC : dk_ca b0 v0 d0 b1 v1 d1 a9 a10 a11)
    (hr : ¬ a1 K = 0) (hl : L N X) (hf : ∀ k, k < 3 → k ≠ K → k ≠ N → ¬ L k X)
    (hA : b0 N = nI A) (hB : b1 N = nI X) (A16 : A < 16) (hAX : A ≠ X) (hd0 : ¬ d0 N = 0) (hd1 : ¬ d1 N = 0)
    (h0 : ¬ b0 K = nI X) (h0' : ¬ b0 K = -1) (h1 : b1 K = -1)
    (hx : v0 N = x) (hy : v1 N = y)
    (H : ∀ a3' a4' a5' a6' a7' a8' a9' a10' a11' : Nat → Int32, dk_E a3' a7' → dk_lk (dk_add L K X) a8' → dk_ca b0 v0 (upd d0 N 0) (upd b1 K (nI X)) (upd v1 K y) (upd d1 N 0) a9' a10' a11' →
      post y (nI R, a1, upd (upd a2 A x) X y, a3', a4', a5', a6', a7', a8', a9', a10', a11', a12)) :
    wpX_read post (nI R, a1, a2, a3, a4, a5, a6, a7, a8, a9, a10, a11, a12) (nI K) (nI X) := by
  subst hx hy
  unfold wpX_read
  dsimp only
  refine dk_bn hK (br_t rfl (dk_bb hX (br_t rfl ⟨pk_in K 3 hK, br_f (by rw [dk_c K (by omega)]; exact hr) ?_⟩)))
  exact dk_rb_one hN hK hNK hX hR2 hR8 hE hL hC hl hf hA hB A16 hAX hd0 hd1 h0 h0' h1 H

/-! swap -/
theorem dk_hf (hf : ∀ k, k < 3 → k ≠ K → ¬ L k X) : ∀ k, k < 3 → k ≠ K → ¬ dk_add L K A k X := fun k hk n z => by
  rcases z with z | z
  · exact hf k hk n z
  · exact n z.1
theorem dk_swap_ab {post : Int32 → St2 → Prop} (hK : K < 3) (A16 : A < 16) (B16 : B < 16) (hR2 : 2 ≤ R) (hR8 : R ≤ 8) (hE : dk_E a3 a7) (hL : dk_lk L a8) (hC : dk_ca b0 v0 d0 b1 v1 d1 a9 a10 a11)
    (hr : ¬ a1 K = 0) (hfA : ∀ k, k < 3 → k ≠ K → ¬ L k A) (hfB : ∀ k, k < 3 → k ≠ K → ¬ L k B) (hA : b0 K = nI A) (hB : b1 K = nI B) (hAB : A ≠ B)
    (hx : v0 K = x) (hy : v1 K = y)
    (H : ∀ a8' a10' a11' : Nat → Int32, dk_lk (dk_add (dk_add (dk_add (dk_add L K A) K B) K A) K B) a8' → dk_ca b0 (upd v0 K y) (upd d0 K 1) b1 (upd v1 K x) (upd d1 K 1) a9 a10' a11' →
      post 2 (nI R, a1, a2, a3, a4, a5, a6, a7, a8', a9, a10', a11', a12)) :
    wpX_swap post (nI R, a1, a2, a3, a4, a5, a6, a7, a8, a9, a10, a11, a12) (nI K) (nI A) (nI B) := by
  subst hx hy
  have hne : ¬ b0 K = nI B := by
    rw [hA]
    exact fun z => hAB ((nI_eq (by omega) (by omega)).mp z)
  unfold wpX_swap
  dsimp only
  refine dk_bn hK (br_t rfl (dk_bb A16 (br_t rfl (dk_bb B16 (br_t rfl ⟨pk_in K 3 hK, br_f (by rw [dk_c K (by omega)]; exact hr) ?_⟩)))))
  refine dk_rb_hit0 hK A16 hR2 hR8 hL hC hfA hA (fun p8 hL1 => ?_)
  dsimp only
  refine dk_rb_hit1 hK B16 hR2 hR8 hL1 hC (dk_hf hfB) hne hB (fun q8 hL2 => ?_)
  dsimp only
  refine dk_wb_hit0 hK A16 hR2 hR8 hL2 hC (dk_hf (dk_hf hfA)) hA (fun r8 r10 r11 hL3 hC3 => ?_)
  dsimp only
  refine dk_wb_hit1 hK B16 hR2 hR8 hL3 hC3 (dk_hf (dk_hf (dk_hf hfB))) hne hB (fun s8 s10 s11 hL4 hC4 => ?_)
  dsimp only
  refine dk_uc hK hR2 hR8 hE hC4 ?_
  rw [dk_ct2 (by rw [pk_us]; decide) (by rw [pk_us]; decide)]
  exact H _ _ _ hL4 hC4
theorem dk_swap_hit {post : Int32 → St2 → Prop} {c : Int32} (hK : K < 3) (A16 : A < 16) (hR2 : 2 ≤ R) (hR8 : R ≤ 8) (hE : dk_E a3 a7) (hL : dk_lk L a8) (hC : dk_ca b0 v0 d0 b1 v1 d1 a9 a10 a11)
    (hr : ¬ a1 K = 0) (hfA : ∀ k, k < 3 → k ≠ K → ¬ L k A) (hA : b0 K = nI A)
    (hc : dk_ct (upd d0 K 1) d1 K = c)
    (H : ∀ a8' a10' a11' : Nat → Int32, dk_lk (dk_add (dk_add (dk_add (dk_add L K A) K A) K A) K A) a8' → dk_ca b0 (upd v0 K (v0 K)) (upd d0 K 1) b1 v1 d1 a9 a10' a11' →
      post c (nI R, a1, a2, a3, a4, a5, a6, a7, a8', a9, a10', a11', a12)) :
    wpX_swap post (nI R, a1, a2, a3, a4, a5, a6, a7, a8, a9, a10, a11, a12) (nI K) (nI A) (nI A) := by
  subst hc
  unfold wpX_swap
  dsimp only
  refine dk_bn hK (br_t rfl (dk_bb A16 (br_t rfl (dk_bb A16 (br_t rfl ⟨pk_in K 3 hK, br_f (by rw [dk_c K (by omega)]; exact hr) ?_⟩)))))
  refine dk_rb_hit0 hK A16 hR2 hR8 hL hC hfA hA (fun p8 hL1 => ?_)
  dsimp only
  refine dk_rb_hit0 hK A16 hR2 hR8 hL1 hC (dk_hf hfA) hA (fun q8 hL2 => ?_)
  dsimp only
  refine dk_wb_hit0 hK A16 hR2 hR8 hL2 hC (dk_hf (dk_hf hfA)) hA (fun r8 r10 r11 hL3 hC3 => ?_)
  dsimp only
  refine dk_wb_hit0 hK A16 hR2 hR8 hL3 hC3 (dk_hf (dk_hf (dk_hf hfA))) hA (fun s8 s10 s11 hL4 hC4 => ?_)
  dsimp only
  rw [dk_uu, dk_uu] at hC4
  exact dk_uc hK hR2 hR8 hE hC4 (H _ _ _ hL4 hC4)
theorem dk_swap_miss {post : Int32 → St2 → Prop} {c : Int32} (hK : K < 3) (A16 : A < 16) (hR2 : 2 ≤ R) (hR8 : R ≤ 8) (hE : dk_E a3 a7) (hL : dk_lk L a8) (hC : dk_ca b0 v0 d0 b1 v1 d1 a9 a10 a11)
    (hr : ¬ a1 K = 0) (hfA : ∀ k, k < 3 → k ≠ K → ¬ L k A) (h0 : b0 K = -1) (h1 : ¬ b1 K = nI A)
    (hc : dk_ct (upd d0 K 1) d1 K = c)
    (H : ∀ a8' a9' a10' a11' : Nat → Int32, dk_lk (dk_add (dk_add (dk_add (dk_add L K A) K A) K A) K A) a8' → dk_ca (upd b0 K (nI A)) (upd v0 K (a2 A)) (upd d0 K 1) b1 v1 d1 a9' a10' a11' →
      post c (nI R, a1, a2, a3, a4, a5, a6, a7, a8', a9', a10', a11', a12)) :
    wpX_swap post (nI R, a1, a2, a3, a4, a5, a6, a7, a8, a9, a10, a11, a12) (nI K) (nI A) (nI A) := by
  subst hc
  unfold wpX_swap
  dsimp only
  refine dk_bn hK (br_t rfl (dk_bb A16 (br_t rfl (dk_bb A16 (br_t rfl ⟨pk_in K 3 hK, br_f (by rw [dk_c K (by omega)]; exact hr) ?_⟩)))))
  refine dk_rb_miss0 hK A16 hR2 hR8 hE hL hC hfA h0 h1 (fun p8 p9 p10 hL1 hC1 => ?_)
  dsimp only
  refine dk_rb_hit0 hK A16 hR2 hR8 hL1 hC1 (dk_hf hfA) pk_us (fun q8 hL2 => ?_)
  dsimp only
  refine dk_wb_hit0 hK A16 hR2 hR8 hL2 hC1 (dk_hf (dk_hf hfA)) pk_us (fun r8 r10 r11 hL3 hC3 => ?_)
  dsimp only
  refine dk_wb_hit0 hK A16 hR2 hR8 hL3 hC3 (dk_hf (dk_hf (dk_hf hfA))) pk_us (fun s8 s10 s11 hL4 hC4 => ?_)
  dsimp only
  rw [dk_uu, dk_uu, dk_uu] at hC4
  exact dk_uc hK hR2 hR8 hE hC4 (H _ _ _ _ hL4 hC4)

/-! questions -/
theorem dk_ow_skip {post : Int32 → Prop} {n : Nat} (ho : o < 3) (hR2 : 2 ≤ R) (hR8 : R ≤ 8) (hE : dk_E a3 a7) (hC : dk_ca b0 v0 d0 b1 v1 d1 a9 a10 a11)
    (hm : ¬ x = -1) (hu : ¬ dk_un b0 d0 b1 d1 o x) (h : wX_ownerOf_2 post x (nI R) a1 a2 a3 a4 a5 a6 a7 a8 a9 a10 a11 a12 n (nI (o + 1))) : wX_ownerOf_2 post x (nI R) a1 a2 a3 a4 a5 a6 a7 a8 a9 a10 a11 a12 (n + 1) (nI o) :=
  pk_le 3 o (fun z => absurd z (by omega)) (fun _ => dk_isu0 ho hR2 hR8 hE hC hm hu (br_t rfl (nm_r (nI_1 o) h)))
theorem dk_ow_hit {post : Int32 → Prop} {n : Nat} (ho : o < 3) (hR2 : 2 ≤ R) (hR8 : R ≤ 8) (hE : dk_E a3 a7) (hC : dk_ca b0 v0 d0 b1 v1 d1 a9 a10 a11)
    (hu : dk_un b0 d0 b1 d1 o x) (hp : post (nI o)) : wX_ownerOf_2 post x (nI R) a1 a2 a3 a4 a5 a6 a7 a8 a9 a10 a11 a12 (n + 1) (nI o) :=
  pk_le 3 o (fun z => absurd z (by omega)) (fun _ => dk_isu1 ho hR2 hR8 hE hC hu (br_f (by decide) hp))
theorem dk_own0 {post : Int32 → Prop} (hR2 : 2 ≤ R) (hR8 : R ≤ 8) (hE : dk_E a3 a7) (hC : dk_ca b0 v0 d0 b1 v1 d1 a9 a10 a11)
    (hm : ¬ x = -1) (hu : ∀ k, k < 3 → ¬ dk_un b0 d0 b1 d1 k x) (hp : post (-4)) : wpX_ownerOf post (nI R, a1, a2, a3, a4, a5, a6, a7, a8, a9, a10, a11, a12) x := by
  unfold wpX_ownerOf
  dsimp only
  exact ⟨0 + 1 + 1 + 1 + 1, dk_ow_skip (o := 0) (by omega) hR2 hR8 hE hC hm (hu 0 (by omega)) (dk_ow_skip (o := 1) (by omega) hR2 hR8 hE hC hm (hu 1 (by omega))
    (dk_ow_skip (o := 2) (by omega) hR2 hR8 hE hC hm (hu 2 (by omega)) (pk_le 3 3 (fun _ => hp) (fun z => absurd z (by omega)))))⟩
theorem dk_own1 {post : Int32 → Prop} (hR2 : 2 ≤ R) (hR8 : R ≤ 8) (hE : dk_E a3 a7) (hC : dk_ca b0 v0 d0 b1 v1 d1 a9 a10 a11)
    (hm : ¬ x = -1) (hK : K < 3) (hk : dk_un b0 d0 b1 d1 K x) (hu : ∀ k, k < 3 → k ≠ K → ¬ dk_un b0 d0 b1 d1 k x) (hp : post (nI K)) : wpX_ownerOf post (nI R, a1, a2, a3, a4, a5, a6, a7, a8, a9, a10, a11, a12) x := by
  unfold wpX_ownerOf
  dsimp only
  refine ⟨0 + 1 + 1 + 1 + 1, ?_⟩
  have hK3 : K = 0 ∨ K = 1 ∨ K = 2 := by omega
  rcases hK3 with q | q | q
  · subst q
    exact dk_ow_hit (o := 0) hK hR2 hR8 hE hC hk hp
  · subst q
    exact dk_ow_skip (o := 0) (by omega) hR2 hR8 hE hC hm (hu 0 (by omega) (by omega)) (dk_ow_hit (o := 1) hK hR2 hR8 hE hC hk hp)
  · subst q
    exact dk_ow_skip (o := 0) (by omega) hR2 hR8 hE hC hm (hu 0 (by omega) (by omega)) (dk_ow_skip (o := 1) (by omega) hR2 hR8 hE hC hm (hu 1 (by omega) (by omega)) (dk_ow_hit (o := 2) hK hR2 hR8 hE hC hk hp))
theorem dk_owner0 {post : Int32 → Prop} (hR2 : 2 ≤ R) (hR8 : R ≤ 8) (hE : dk_E a3 a7) (hC : dk_ca b0 v0 d0 b1 v1 d1 a9 a10 a11) (hX : X < 16)
    (hu : ∀ k, k < 3 → ¬ dk_un b0 d0 b1 d1 k (nI X)) (hp : post (-4)) : wpX_owner post (nI R, a1, a2, a3, a4, a5, a6, a7, a8, a9, a10, a11, a12) (nI X) := by
  unfold wpX_owner
  dsimp only
  exact dk_bb hX (br_t rfl (dk_own0 hR2 hR8 hE hC (dk_nm1 (by omega)) hu hp))
theorem dk_owner1 {post : Int32 → Prop} (hR2 : 2 ≤ R) (hR8 : R ≤ 8) (hE : dk_E a3 a7) (hC : dk_ca b0 v0 d0 b1 v1 d1 a9 a10 a11) (hX : X < 16)
    (hK : K < 3) (hk : dk_un b0 d0 b1 d1 K (nI X)) (hu : ∀ k, k < 3 → k ≠ K → ¬ dk_un b0 d0 b1 d1 k (nI X)) (hp : post (nI K)) : wpX_owner post (nI R, a1, a2, a3, a4, a5, a6, a7, a8, a9, a10, a11, a12) (nI X) := by
  unfold wpX_owner
  dsimp only
  exact dk_bb hX (br_t rfl (dk_own1 hR2 hR8 hE hC (dk_nm1 (by omega)) hK hk hu hp))
theorem dk_safe {post : Int32 → Prop} (hX : X < 16) (hv : a2 X = y) (hp : post y) : wpX_safe post (nI R, a1, a2, a3, a4, a5, a6, a7, a8, a9, a10, a11, a12) (nI X) := by
  subst hv
  unfold wpX_safe
  dsimp only
  refine dk_bb hX (br_t rfl ⟨pk_in X 16 hX, ?_⟩)
  rw [dk_c X (by omega)]
  exact hp
theorem dk_cont0 {post : Int32 → Prop} (hR2 : 2 ≤ R) (hR8 : R ≤ 8) (hE : dk_E a3 a7) (hC : dk_ca b0 v0 d0 b1 v1 d1 a9 a10 a11) (hX : X < 16)
    (hu : ∀ k, k < 3 → ¬ dk_un b0 d0 b1 d1 k (nI X)) (hv : a2 X = y) (hp : post y) : wpX_content post (nI R, a1, a2, a3, a4, a5, a6, a7, a8, a9, a10, a11, a12) (nI X) := by
  subst hv
  unfold wpX_content
  dsimp only
  refine dk_bb hX (br_t rfl (dk_own0 hR2 hR8 hE hC (dk_nm1 (by omega)) hu (br_f (by decide) ⟨pk_in X 16 hX, ?_⟩)))
  rw [dk_c X (by omega)]
  exact hp
theorem dk_cont1 {post : Int32 → Prop} (hR2 : 2 ≤ R) (hR8 : R ≤ 8) (hE : dk_E a3 a7) (hC : dk_ca b0 v0 d0 b1 v1 d1 a9 a10 a11) (hX : X < 16)
    (hK : K < 3) (h0 : b0 K = nI X) (hd : ¬ d0 K = 0) (hu : ∀ k, k < 3 → k ≠ K → ¬ dk_un b0 d0 b1 d1 k (nI X)) (hv : v0 K = y) (hp : post y) : wpX_content post (nI R, a1, a2, a3, a4, a5, a6, a7, a8, a9, a10, a11, a12) (nI X) := by
  subst hv
  unfold wpX_content
  dsimp only
  refine dk_bb hX (br_t rfl (dk_own1 hR2 hR8 hE hC (dk_nm1 (by omega)) hK (Or.inl ⟨h0, hd⟩) hu (br_t (nI_pos' (by omega)) ?_)))
  refine dk_look0 hK hR2 hR8 hC h0 (br_f (nI_pos (by omega)) ⟨pk_in (K * 8) 24 (by omega), ?_⟩)
  rw [dk_c (K * 8) (by omega), (hC K hK).1.2.1]
  exact hp
theorem dk_cont2 {post : Int32 → Prop} (hR2 : 2 ≤ R) (hR8 : R ≤ 8) (hE : dk_E a3 a7) (hC : dk_ca b0 v0 d0 b1 v1 d1 a9 a10 a11) (hX : X < 16)
    (hK : K < 3) (h0 : ¬ b0 K = nI X) (h1 : b1 K = nI X) (hd : ¬ d1 K = 0) (hu : ∀ k, k < 3 → k ≠ K → ¬ dk_un b0 d0 b1 d1 k (nI X)) (hv : v1 K = y) (hp : post y) : wpX_content post (nI R, a1, a2, a3, a4, a5, a6, a7, a8, a9, a10, a11, a12) (nI X) := by
  subst hv
  unfold wpX_content
  dsimp only
  refine dk_bb hX (br_t rfl (dk_own1 hR2 hR8 hE hC (dk_nm1 (by omega)) hK (Or.inr ⟨h0, h1, hd⟩) hu (br_t (nI_pos' (by omega)) ?_)))
  refine dk_look1 hK hR2 hR8 hC h0 h1 (br_f (nI_pos (by omega)) ⟨pk_in (K * 8 + 1) 24 (by omega), ?_⟩)
  rw [dk_c (K * 8 + 1) (by omega), (hC K hK).2.1.2.1]
  exact hp
theorem dk_up1 {post : Int32 → Prop} (hK : K < 3) (hr : ¬ a1 K = 0) (hp : post 1) : wpX_up post (nI R, a1, a2, a3, a4, a5, a6, a7, a8, a9, a10, a11, a12) (nI K) := by
  unfold wpX_up
  dsimp only
  exact dk_bn hK (br_t rfl ⟨pk_in K 3 hK, br_f (by rw [dk_c K (by omega)]; exact hr) hp⟩)
theorem dk_up0 {post : Int32 → Prop} (hK : K < 3) (hr : a1 K = 0) (hp : post 0) : wpX_up post (nI R, a1, a2, a3, a4, a5, a6, a7, a8, a9, a10, a11, a12) (nI K) := by
  unfold wpX_up
  dsimp only
  exact dk_bn hK (br_t rfl ⟨pk_in K 3 hK, br_t (by rw [dk_c K (by omega)]; exact hr) hp⟩)
theorem dk_rest1 {post : Int32 → St2 → Prop} (hK : K < 3) (hr : a1 K = 0) (hp : post 1 (nI R, upd a1 K 1, a2, a3, a4, a5, a6, a7, a8, a9, a10, a11, a12)) : wpX_restart post (nI R, a1, a2, a3, a4, a5, a6, a7, a8, a9, a10, a11, a12) (nI K) := by
  unfold wpX_restart
  dsimp only
  refine dk_bn hK (br_t rfl ⟨pk_in K 3 hK, br_t (by rw [dk_c K (by omega)]; exact hr) ?_⟩)
  unfold wX_restart_23
  exact ⟨pk_in K 3 hK, nm_r (e' := upd a1 K 1) (by rw [dk_c K (by omega)]) hp⟩
theorem dk_rest0 {post : Int32 → St2 → Prop} (hK : K < 3) (hr : ¬ a1 K = 0) (hp : post 0 (nI R, upd a1 K 1, a2, a3, a4, a5, a6, a7, a8, a9, a10, a11, a12)) : wpX_restart post (nI R, a1, a2, a3, a4, a5, a6, a7, a8, a9, a10, a11, a12) (nI K) := by
  unfold wpX_restart
  dsimp only
  refine dk_bn hK (br_t rfl ⟨pk_in K 3 hK, br_f (by rw [dk_c K (by omega)]; exact hr) ?_⟩)
  unfold wX_restart_23
  exact ⟨pk_in K 3 hK, nm_r (e' := upd a1 K 1) (by rw [dk_c K (by omega)]) hp⟩
theorem dk_unsafe {post : Int32 → Prop} {c : Int32} (hK : K < 3) (hR2 : 2 ≤ R) (hR8 : R ≤ 8) (hE : dk_E a3 a7) (hC : dk_ca b0 v0 d0 b1 v1 d1 a9 a10 a11)
    (hc : dk_ct d0 d1 K = c) (hp : post c) : wpX_unsafe post (nI R, a1, a2, a3, a4, a5, a6, a7, a8, a9, a10, a11, a12) (nI K) := by
  subst hc
  unfold wpX_unsafe
  dsimp only
  exact dk_bn hK (br_t rfl (dk_uc hK hR2 hR8 hE hC hp))

/-! the constructor -/
theorem dk_i141 {post : St2 → Prop} {mc ms kc ks : Nat} (H : ∀ a1' : Nat → Int32, (∀ k, k < 3 → a1' k = 1) → post (nI R, a1', a2, a3, a4, a5, a6, a7, a8, a9, a10, a11, a12)) :
    ∃ n, wX_init_141 post mc ms kc ks (nI R) n 0 a1 a2 a3 a4 a5 a6 a7 a8 a9 a10 a11 a12 :=
  pk_loop (fun n i s => wX_init_141 post mc ms kc ks (nI R) n (nI i) s a2 a3 a4 a5 a6 a7 a8 a9 a10 a11 a12) (fun i s => ∀ k, k < i → s k = 1) 3 0 a1 (by omega) (fun k hk => absurd hk (by omega))
    (fun n s h => pk_le 3 3 (fun _ => H s h) (fun z => absurd z (by omega)))
    (fun n i s hi h hw => pk_le 3 i (fun z => absurd z (by omega)) (fun _ => ⟨pk_in i 3 hi, nm_r (e' := upd s i 1) (by rw [dk_c i (by omega)]) (nm_r (nI_1 i) (hw _ (fun k hk => by
      by_cases q : k = i
      · rw [q, pk_us]
      · rw [pk_un q]
        exact h k (by omega))))⟩))
theorem dk_i120 {post : St2 → Prop} {mc ms kc ks : Nat} (H : ∀ a1' a9' : Nat → Int32, (∀ k, k < 3 → a1' k = 1) → (∀ i, i < 24 → a9' i = -1) → post (nI R, a1', a2, a3, a4, a5, a6, a7, a8, a9', a10, a11, a12)) :
    ∃ n, wX_init_120 post mc ms kc ks (nI R) n 0 a1 a2 a3 a4 a5 a6 a7 a8 a9 a10 a11 a12 :=
  pk_loop (fun n i s => wX_init_120 post mc ms kc ks (nI R) n (nI i) a1 a2 a3 a4 a5 a6 a7 a8 s a10 a11 a12) (fun i s => ∀ k, k < i → s k = -1) 24 0 a9 (by omega) (fun k hk => absurd hk (by omega))
    (fun n s h => pk_le 24 24 (fun _ => dk_i141 (fun a1' h1 => H a1' s h1 h)) (fun z => absurd z (by omega)))
    (fun n i s hi h hw => pk_le 24 i (fun z => absurd z (by omega)) (fun _ => ⟨pk_in i 24 hi, nm_r (e' := upd s i (-1)) (by rw [dk_c i (by omega)]) (nm_r (nI_1 i) (hw _ (fun k hk => by
      by_cases q : k = i
      · rw [q, pk_us]
      · rw [pk_un q]
        exact h k (by omega))))⟩))
theorem dk_room (x : Int32) (h : 2 ≤ x) (h8 : x ≤ 8) : ∃ r : Nat, 2 ≤ r ∧ r ≤ 8 ∧ x = nI r := by
  have e2 : (2 : Int32).toInt = 2 := by decide
  have e0 : (0 : Int32).toInt = 0 := by decide
  have h' := Int32.le_iff_toInt_le.mp h
  obtain ⟨j, hj, e⟩ := nI_of2 (x := x) (M := 8) (n := 8) (by decide) (fun z => by
    have z' := Int32.lt_iff_toInt_lt.mp z
    omega) h8
  refine ⟨j, ?_, hj, e⟩
  have ej := nI_toInt (n := j) (by omega)
  rw [← e] at ej
  omega
theorem dk_init {post : St2 → Prop} {p0 : Int32} {f : St1}
    (H : ∀ (R : Nat) (a1' a9' : Nat → Int32), 2 ≤ R → R ≤ 8 → (∀ k, k < 3 → a1' k = 1) → (∀ i, i < 24 → a9' i = -1) →
      post (nI R, a1', fun _ => 0, fun _ => 0, fun _ => 0, fun _ => 0, fun _ => 0, fun _ => 0, fun _ => 0, a9', fun _ => 0, fun _ => 0, fun _ => 0)) :
    wpX_init post 12 247 f p0 := by
  have go : ∀ x : Int32, 2 ≤ x → wX_init_104 post 12 247 x 12 247 f (fun _ => 0) (fun _ => 0) (fun _ => 0) (fun _ => 0) (fun _ => 0) (fun _ => 0) (fun _ => 0) (fun _ => 0) (fun _ => 0) (fun _ => 0) (fun _ => 0) (fun _ => 0) := by
    intro x hx
    unfold wX_init_104
    refine br_c (fun h8 => ?_) (fun _ => dk_i120 (R := 8) (fun a1' a9' h1 h9 => H 8 a1' a9' (by omega) (by omega) h1 h9))
    obtain ⟨r, r2, r8, e⟩ := dk_room x hx h8
    rw [e]
    exact dk_i120 (fun a1' a9' h1 h9 => H r a1' a9' r2 r8 h1 h9)
  unfold wpX_init
  refine ⟨by omega, by omega, by omega, by omega, by omega, by omega, by omega, by omega, by omega, by omega, by omega, by omega, by omega, by omega, by omega, by omega, by omega, by omega, by omega, by omega, by omega, by omega, by omega, by omega, ?_⟩
  exact br_c (fun h => go p0 h) (fun _ => go 2 (by decide))
end
end
section
section
variable {R : Nat} {a1 a2 a3 a4 a5 a6 a7 a8 a9 a10 a11 a12 : Nat → Int32} {u v w x7 x8 x9 x10 x11 : Int32} {mc ms kc ks : Nat}

theorem dk_t0 {post : Int32 → St0 → Prop}
    (hca : ∀ P : Int32 → Prop, P u → wpX_content P (nI R, a1, a2, a3, a4, a5, a6, a7, a8, a9, a10, a11, a12) x9) (hcb : ∀ P : Int32 → Prop, P v → wpX_content P (nI R, a1, a2, a3, a4, a5, a6, a7, a8, a9, a10, a11, a12) x10)
    (hsa : ∀ P : Int32 → Prop, P u → wpX_safe P (nI R, a1, a2, a3, a4, a5, a6, a7, a8, a9, a10, a11, a12) x9)
    (hoa : ∀ P : Int32 → Prop, P (-4) → wpX_owner P (nI R, a1, a2, a3, a4, a5, a6, a7, a8, a9, a10, a11, a12) x9) (hob : ∀ P : Int32 → Prop, P (-4) → wpX_owner P (nI R, a1, a2, a3, a4, a5, a6, a7, a8, a9, a10, a11, a12) x10)
    (hcc : ∀ P : Int32 → Prop, P w → wpX_content P (nI R, a1, a2, a3, a4, a5, a6, a7, a8, a9, a10, a11, a12) x11) (hoc : ∀ P : Int32 → Prop, P x8 → wpX_owner P (nI R, a1, a2, a3, a4, a5, a6, a7, a8, a9, a10, a11, a12) x11)
    (hup : ∀ P : Int32 → Prop, P 0 → wpX_up P (nI R, a1, a2, a3, a4, a5, a6, a7, a8, a9, a10, a11, a12) x7)
    (h : wL_lawOf_527 post mc ms u v w x7 x8 x9 0 0 0 0 kc ks (nI R) a1 a2 a3 a4 a5 a6 a7 a8 a9 a10 a11 a12) :
    wL_lawOf_325 post mc ms u v w x7 x8 x9 x10 x11 0 2 kc ks (nI R) a1 a2 a3 a4 a5 a6 a7 a8 a9 a10 a11 a12 := by
  unfold wL_lawOf_325
  refine br_f (by decide) (br_f (by decide) ?_)
  unfold wL_lawOf_344
  refine br_f (by decide) ?_
  unfold wL_lawOf_369
  refine br_t rfl (hca _ (br_t rfl ?_))
  unfold wL_lawOf_391
  refine br_t rfl (hcb _ (br_t rfl ?_))
  unfold wL_lawOf_411
  refine br_t rfl (hsa _ (br_t rfl ?_))
  unfold wL_lawOf_433
  refine br_t rfl (hoa _ (br_t rfl (hob _ (br_t rfl (hcc _ (br_f (by decide) ?_))))))
  unfold wL_lawOf_481
  refine br_t rfl (hoc _ (br_f (by decide) ?_))
  unfold wL_lawOf_504
  refine br_t rfl (hup _ (br_t (by decide) ?_))
  exact h
theorem dk_t1 {post : Int32 → St0 → Prop}
    (hca : ∀ P : Int32 → Prop, P v → wpX_content P (nI R, a1, a2, a3, a4, a5, a6, a7, a8, a9, a10, a11, a12) x9) (hcb : ∀ P : Int32 → Prop, P u → wpX_content P (nI R, a1, a2, a3, a4, a5, a6, a7, a8, a9, a10, a11, a12) x10)
    (hsa : ∀ P : Int32 → Prop, P v → wpX_safe P (nI R, a1, a2, a3, a4, a5, a6, a7, a8, a9, a10, a11, a12) x9)
    (hoa : ∀ P : Int32 → Prop, P (-4) → wpX_owner P (nI R, a1, a2, a3, a4, a5, a6, a7, a8, a9, a10, a11, a12) x9) (hob : ∀ P : Int32 → Prop, P (-4) → wpX_owner P (nI R, a1, a2, a3, a4, a5, a6, a7, a8, a9, a10, a11, a12) x10)
    (hcc : ∀ P : Int32 → Prop, P w → wpX_content P (nI R, a1, a2, a3, a4, a5, a6, a7, a8, a9, a10, a11, a12) x11) (hoc : ∀ P : Int32 → Prop, P x8 → wpX_owner P (nI R, a1, a2, a3, a4, a5, a6, a7, a8, a9, a10, a11, a12) x11)
    (hup : ∀ P : Int32 → Prop, P 0 → wpX_up P (nI R, a1, a2, a3, a4, a5, a6, a7, a8, a9, a10, a11, a12) x7)
    (h : wL_lawOf_527 post mc ms u v w x7 x8 x9 1 1 0 0 kc ks (nI R) a1 a2 a3 a4 a5 a6 a7 a8 a9 a10 a11 a12) :
    wL_lawOf_325 post mc ms u v w x7 x8 x9 x10 x11 1 2 kc ks (nI R) a1 a2 a3 a4 a5 a6 a7 a8 a9 a10 a11 a12 := by
  unfold wL_lawOf_325
  refine br_t rfl ?_
  unfold wL_lawOf_339
  unfold wL_lawOf_344
  refine br_f (by decide) ?_
  unfold wL_lawOf_369
  refine br_t rfl (hca _ (br_f (by decide) ?_))
  unfold wL_lawOf_391
  refine br_t rfl (hcb _ (br_f (by decide) ?_))
  unfold wL_lawOf_411
  refine br_t rfl (hsa _ (br_f (by decide) ?_))
  unfold wL_lawOf_433
  refine br_t rfl (hoa _ (br_t rfl (hob _ (br_t rfl (hcc _ (br_f (by decide) ?_))))))
  unfold wL_lawOf_481
  refine br_t rfl (hoc _ (br_f (by decide) ?_))
  unfold wL_lawOf_504
  refine br_t rfl (hup _ (br_t (by decide) ?_))
  exact h
theorem dk_t2 {post : Int32 → St0 → Prop}
    (hca : ∀ P : Int32 → Prop, P u → wpX_content P (nI R, a1, a2, a3, a4, a5, a6, a7, a8, a9, a10, a11, a12) x9) (hcb : ∀ P : Int32 → Prop, P v → wpX_content P (nI R, a1, a2, a3, a4, a5, a6, a7, a8, a9, a10, a11, a12) x10)
    (hsa : ∀ P : Int32 → Prop, P u → wpX_safe P (nI R, a1, a2, a3, a4, a5, a6, a7, a8, a9, a10, a11, a12) x9)
    (hoa : ∀ P : Int32 → Prop, P (-4) → wpX_owner P (nI R, a1, a2, a3, a4, a5, a6, a7, a8, a9, a10, a11, a12) x9) (hob : ∀ P : Int32 → Prop, P (-4) → wpX_owner P (nI R, a1, a2, a3, a4, a5, a6, a7, a8, a9, a10, a11, a12) x10)
    (hcc : ∀ P : Int32 → Prop, P 0 → wpX_content P (nI R, a1, a2, a3, a4, a5, a6, a7, a8, a9, a10, a11, a12) x11) (hoc : ∀ P : Int32 → Prop, P (-4) → wpX_owner P (nI R, a1, a2, a3, a4, a5, a6, a7, a8, a9, a10, a11, a12) x11)
    (hup : ∀ P : Int32 → Prop, P 1 → wpX_up P (nI R, a1, a2, a3, a4, a5, a6, a7, a8, a9, a10, a11, a12) x7)
    (h : wL_lawOf_527 post mc ms u v w x7 x8 x9 2 0 1 1 kc ks (nI R) a1 a2 a3 a4 a5 a6 a7 a8 a9 a10 a11 a12) :
    wL_lawOf_325 post mc ms u v w x7 x8 x9 x10 x11 2 3 kc ks (nI R) a1 a2 a3 a4 a5 a6 a7 a8 a9 a10 a11 a12 := by
  unfold wL_lawOf_325
  refine br_f (by decide) (br_f (by decide) ?_)
  unfold wL_lawOf_344
  refine br_t (by decide) (br_t rfl ?_)
  unfold wL_lawOf_369
  refine br_t rfl (hca _ (br_t rfl ?_))
  unfold wL_lawOf_391
  refine br_t rfl (hcb _ (br_t rfl ?_))
  unfold wL_lawOf_411
  refine br_t rfl (hsa _ (br_t rfl ?_))
  unfold wL_lawOf_433
  refine br_t rfl (hoa _ (br_t rfl (hob _ (br_t rfl (hcc _ (br_t rfl ?_))))))
  unfold wL_lawOf_481
  refine br_t rfl (hoc _ (br_t rfl ?_))
  unfold wL_lawOf_504
  refine br_t rfl (hup _ (br_f (by decide) ?_))
  exact h
theorem dk_t3 {post : Int32 → St0 → Prop}
    (hca : ∀ P : Int32 → Prop, P v → wpX_content P (nI R, a1, a2, a3, a4, a5, a6, a7, a8, a9, a10, a11, a12) x9) (hcb : ∀ P : Int32 → Prop, P u → wpX_content P (nI R, a1, a2, a3, a4, a5, a6, a7, a8, a9, a10, a11, a12) x10)
    (hsa : ∀ P : Int32 → Prop, P v → wpX_safe P (nI R, a1, a2, a3, a4, a5, a6, a7, a8, a9, a10, a11, a12) x9)
    (hoa : ∀ P : Int32 → Prop, P (-4) → wpX_owner P (nI R, a1, a2, a3, a4, a5, a6, a7, a8, a9, a10, a11, a12) x9) (hob : ∀ P : Int32 → Prop, P (-4) → wpX_owner P (nI R, a1, a2, a3, a4, a5, a6, a7, a8, a9, a10, a11, a12) x10)
    (hcc : ∀ P : Int32 → Prop, P w → wpX_content P (nI R, a1, a2, a3, a4, a5, a6, a7, a8, a9, a10, a11, a12) x11) (hoc : ∀ P : Int32 → Prop, P x8 → wpX_owner P (nI R, a1, a2, a3, a4, a5, a6, a7, a8, a9, a10, a11, a12) x11)
    (hup : ∀ P : Int32 → Prop, P 1 → wpX_up P (nI R, a1, a2, a3, a4, a5, a6, a7, a8, a9, a10, a11, a12) x7)
    (h : wL_lawOf_527 post mc ms u v w x7 x8 x9 3 1 1 1 kc ks (nI R) a1 a2 a3 a4 a5 a6 a7 a8 a9 a10 a11 a12) :
    wL_lawOf_325 post mc ms u v w x7 x8 x9 x10 x11 3 u kc ks (nI R) a1 a2 a3 a4 a5 a6 a7 a8 a9 a10 a11 a12 := by
  unfold wL_lawOf_325
  refine br_f (by decide) (br_t rfl ?_)
  unfold wL_lawOf_339
  unfold wL_lawOf_344
  refine br_t (by decide) (br_f (by decide) ?_)
  unfold wL_lawOf_369
  refine br_t rfl (hca _ (br_f (by decide) ?_))
  unfold wL_lawOf_391
  refine br_t rfl (hcb _ (br_f (by decide) ?_))
  unfold wL_lawOf_411
  refine br_t rfl (hsa _ (br_f (by decide) ?_))
  unfold wL_lawOf_433
  refine br_t rfl (hoa _ (br_t rfl (hob _ (br_t rfl (hcc _ (br_f (by decide) ?_))))))
  unfold wL_lawOf_481
  refine br_t rfl (hoc _ (br_f (by decide) ?_))
  unfold wL_lawOf_504
  refine br_t rfl (hup _ (br_f (by decide) ?_))
  exact h
end
end
section
section
variable {n m a b c R X : Nat} {p q r x y : Int32} {P Q : Nat → Prop} {a1 a2 a3 a4 a5 a6 a7 a8 a9 a10 a11 a12 : Nat → Int32}

/-- a number for each node: p for n, q for m, r for the third -/
def dk_f (n m : Nat) (p q r : Int32) : Nat → Int32 := fun k => if k = n then p else if k = m then q else r
def dk_g (n m : Nat) (P Q : Nat → Prop) : Nat → Nat → Prop := fun k x => (k = n ∧ P x) ∨ (k = m ∧ Q x)
theorem dk_f_n : dk_f n m p q r n = p := if_pos rfl
theorem dk_f_m (h : n ≠ m) : dk_f n m p q r m = q := by
  unfold dk_f
  rw [if_neg (Ne.symm h), if_pos rfl]
theorem dk_f_o {k : Nat} (h : k ≠ n) (h' : k ≠ m) : dk_f n m p q r k = r := by
  unfold dk_f
  rw [if_neg h, if_neg h']
theorem dk_u_n : upd (dk_f n m p q r) n x = dk_f n m x q r := by
  funext k
  by_cases e : k = n
  · rw [e, pk_us, dk_f_n]
  · rw [pk_un e]
    unfold dk_f
    rw [if_neg e, if_neg e]
theorem dk_u_m (h : n ≠ m) : upd (dk_f n m p q r) m x = dk_f n m p x r := by
  funext k
  by_cases e : k = m
  · rw [e, pk_us, dk_f_m h]
  · rw [pk_un e]
    unfold dk_f
    rw [if_neg e, if_neg e]
theorem dk_g_n : dk_add (dk_g n m P Q) n X = dk_g n m (fun x => P x ∨ x = X) Q := by
  funext k x
  apply propext
  constructor
  · intro h
    rcases h with (h | h) | h
    · exact Or.inl ⟨h.1, Or.inl h.2⟩
    · exact Or.inr h
    · exact Or.inl ⟨h.1, Or.inr h.2⟩
  · intro h
    rcases h with ⟨h1, h2⟩ | h
    · rcases h2 with h2 | h2
      · exact Or.inl (Or.inl ⟨h1, h2⟩)
      · exact Or.inr ⟨h1, h2⟩
    · exact Or.inl (Or.inr h)
theorem dk_g_m : dk_add (dk_g n m P Q) m X = dk_g n m P (fun x => Q x ∨ x = X) := by
  funext k x
  apply propext
  constructor
  · intro h
    rcases h with (h | h) | h
    · exact Or.inl h
    · exact Or.inr ⟨h.1, Or.inl h.2⟩
    · exact Or.inr ⟨h.1, Or.inr h.2⟩
  · intro h
    rcases h with h | ⟨h1, h2⟩
    · exact Or.inl (Or.inl h)
    · rcases h2 with h2 | h2
      · exact Or.inl (Or.inr ⟨h1, h2⟩)
      · exact Or.inr ⟨h1, h2⟩
theorem dk_g_d (h : n ≠ m) (hL : dk_lk (dk_del (dk_g n m P Q) n) a8) : dk_lk (dk_g n m (fun x => x = 16) Q) a8 := by
  refine dk_lk_eq hL (fun k hk x hx => ⟨fun z => ?_, fun z => ?_⟩)
  · rcases z with z | z
    · have := z.2
      omega
    · exact ⟨fun e => h (e.symm.trans z.1), Or.inr z⟩
  · rcases z.2 with z' | z'
    · exact absurd z'.1 z.1
    · exact Or.inr z'
theorem dk_g_0 (hL : dk_lk (fun _ _ => False) a8) : dk_lk (dk_g n m (fun x => x = 16) (fun x => x = 16)) a8 := by
  refine dk_lk_eq hL (fun k hk x hx => ⟨fun z => ?_, fun z => absurd z id⟩)
  rcases z with z | z
  · have := z.2
    omega
  · have := z.2
    omega
theorem dk_gfn (h : ¬ Q X) : ∀ k, k < 3 → k ≠ n → ¬ dk_g n m P Q k X := fun k _ ne z => by
  rcases z with z | z
  · exact ne z.1
  · exact h z.2
theorem dk_gfm (h : ¬ P X) : ∀ k, k < 3 → k ≠ m → ¬ dk_g n m P Q k X := fun k _ ne z => by
  rcases z with z | z
  · exact h z.2
  · exact ne z.1
theorem dk_gfo : ∀ k, k < 3 → k ≠ m → k ≠ n → ¬ dk_g n m P Q k X := fun k _ ne ne' z => by
  rcases z with z | z
  · exact ne' z.1
  · exact ne z.1

/-- a block that is newer than home, by the two cells -/
def dk_v (p d p' d' x : Int32) : Prop := (p = x ∧ ¬ d = 0) ∨ (¬ p = x ∧ p' = x ∧ ¬ d' = 0)
theorem dk_v_cl {p' : Int32} : ¬ dk_v p 0 p' 0 x := fun z => by
  rcases z with z | z
  · exact z.2 rfl
  · exact z.2.2 rfl
theorem dk_v_no {p' d d' : Int32} (h : ¬ p = x) (h' : ¬ p' = x) : ¬ dk_v p d p' d' x := fun z => by
  rcases z with z | z
  · exact h z.1
  · exact h' z.2.1
theorem dk_v_c1 {p' d : Int32} (h : ¬ p = x) : ¬ dk_v p d p' 0 x := fun z => by
  rcases z with z | z
  · exact h z.1
  · exact z.2.2 rfl
section
variable {d e p' q' d' e' : Int32}
theorem dk_un_n : dk_un (dk_f n m p q (-1)) (dk_f n m d e 0) (dk_f n m p' q' (-1)) (dk_f n m d' e' 0) n x ↔ dk_v p d p' d' x := by
  unfold dk_un
  rw [dk_f_n, dk_f_n, dk_f_n, dk_f_n]
  exact Iff.rfl
theorem dk_un_m (h : n ≠ m) : dk_un (dk_f n m p q (-1)) (dk_f n m d e 0) (dk_f n m p' q' (-1)) (dk_f n m d' e' 0) m x ↔ dk_v q e q' e' x := by
  unfold dk_un
  rw [dk_f_m h, dk_f_m h, dk_f_m h, dk_f_m h]
  exact Iff.rfl
theorem dk_un_o {k : Nat} (h : k ≠ n) (h' : k ≠ m) : ¬ dk_un (dk_f n m p q (-1)) (dk_f n m d e 0) (dk_f n m p' q' (-1)) (dk_f n m d' e' 0) k x := by
  unfold dk_un
  rw [dk_f_o h h', dk_f_o h h', dk_f_o h h', dk_f_o h h']
  exact dk_v_cl
theorem dk_un0 (h : n ≠ m) (hn : ¬ dk_v p d p' d' x) (hm : ¬ dk_v q e q' e' x) :
    ∀ k, k < 3 → ¬ dk_un (dk_f n m p q (-1)) (dk_f n m d e 0) (dk_f n m p' q' (-1)) (dk_f n m d' e' 0) k x := fun k _ => by
  by_cases e1 : k = n
  · rw [e1]
    exact fun z => hn (dk_un_n.mp z)
  · by_cases e2 : k = m
    · rw [e2]
      exact fun z => hm ((dk_un_m h).mp z)
    · exact dk_un_o e1 e2
theorem dk_unN (h : n ≠ m) (hm : ¬ dk_v q e q' e' x) :
    ∀ k, k < 3 → k ≠ n → ¬ dk_un (dk_f n m p q (-1)) (dk_f n m d e 0) (dk_f n m p' q' (-1)) (dk_f n m d' e' 0) k x := fun k _ e1 => by
  by_cases e2 : k = m
  · rw [e2]
    exact fun z => hm ((dk_un_m h).mp z)
  · exact dk_un_o e1 e2
theorem dk_unM (hn : ¬ dk_v p d p' d' x) :
    ∀ k, k < 3 → k ≠ m → ¬ dk_un (dk_f n m p q (-1)) (dk_f n m d e 0) (dk_f n m p' q' (-1)) (dk_f n m d' e' 0) k x := fun k _ e2 => by
  by_cases e1 : k = n
  · rw [e1]
    exact fun z => hn (dk_un_n.mp z)
  · exact dk_un_o e1 e2
theorem dk_ct_n : dk_ct (dk_f n m d e 0) (dk_f n m d' e' 0) n = (if d = 0 then 0 else 1) + (if d' = 0 then 0 else 1) := by
  unfold dk_ct
  rw [dk_f_n, dk_f_n]
theorem dk_ct_m (h : n ≠ m) : dk_ct (dk_f n m d e 0) (dk_f n m d' e' 0) m = (if e = 0 then 0 else 1) + (if e' = 0 then 0 else 1) := by
  unfold dk_ct
  rw [dk_f_m h, dk_f_m h]
end
theorem dk_ct3 (hn : n < 3) (hm : m < 3) (h : n ≠ m) : dk_ct (dk_f n m 1 1 0) (dk_f n m 1 0 0) 0 + dk_ct (dk_f n m 1 1 0) (dk_f n m 1 0 0) 1 + dk_ct (dk_f n m 1 1 0) (dk_f n m 1 0 0) 2 = 3 := by
  have hn3 : n = 0 ∨ n = 1 ∨ n = 2 := by omega
  have hm3 : m = 0 ∨ m = 1 ∨ m = 2 := by omega
  rcases hn3 with e | e | e <;> rcases hm3 with e' | e' | e' <;> subst e <;> subst e' <;> first | exact absurd rfl h | decide
end
end
section
section
variable {n m a b c R : Nat} {u v w y0 : Int32} {P Q : Nat → Prop} {a1 a2 a3 a4 a5 a6 a7 a8 a9 a10 a11 a12 : Nat → Int32} {v0 v1 : Nat → Int32} {mc ms kc ks : Nat}

theorem dk_m1 {k : Nat} (h : k < 16) : ¬ (-1 : Int32) = nI k := fun z => dk_nm1 (by omega) z.symm
theorem dk_ne {k j : Nat} (h : k < 16) (h' : j < 16) (e : k ≠ j) : ¬ nI k = nI j := fun z => e ((nI_eq (by omega) (by omega)).mp z)

theorem dk_z0 {post : Int32 → St0 → Prop} (hp : post 1 ()) (hn : n < 3) (hm : m < 3) (hnm : n ≠ m) (ha : a < 16) (hb : b < 16) (hc : c < 16) (hca : c ≠ a) (hcb : c ≠ b)
    (hR2 : 2 ≤ R) (hR8 : R ≤ 8) (hE : dk_E a3 a7) (hL : dk_lk (dk_g n m P Q) a8) (hQ : ¬ Q a)
    (hC : dk_ca (dk_f n m (-1) (nI c) (-1)) (dk_f n m y0 w 0) (dk_f n m 0 1 0) (dk_f n m (-1) (-1) (-1)) v1 (dk_f n m 0 0 0) a9 a10 a11)
    (hrn : a1 n = 0) (hrm : ¬ a1 m = 0) (hya : a2 a = u) (hyb : a2 b = v) :
    wL_lawOf_325 post mc ms u v w (nI n) (nI m) (nI a) (nI b) (nI c) 0 2 kc ks (nI R) a1 a2 a3 a4 a5 a6 a7 a8 a9 a10 a11 a12 := by
  have ua : ∀ k, k < 3 → ¬ dk_un (dk_f n m (-1) (nI c) (-1)) (dk_f n m 0 1 0) (dk_f n m (-1) (-1) (-1)) (dk_f n m 0 0 0) k (nI a) :=
    dk_un0 hnm dk_v_cl (dk_v_no (dk_ne hc ha hca) (dk_m1 ha))
  have ub : ∀ k, k < 3 → ¬ dk_un (dk_f n m (-1) (nI c) (-1)) (dk_f n m 0 1 0) (dk_f n m (-1) (-1) (-1)) (dk_f n m 0 0 0) k (nI b) :=
    dk_un0 hnm dk_v_cl (dk_v_no (dk_ne hc hb hcb) (dk_m1 hb))
  have uc : ∀ k, k < 3 → k ≠ m → ¬ dk_un (dk_f n m (-1) (nI c) (-1)) (dk_f n m 0 1 0) (dk_f n m (-1) (-1) (-1)) (dk_f n m 0 0 0) k (nI c) :=
    dk_unM dk_v_cl
  refine dk_t0 (fun P hP => dk_cont0 hR2 hR8 hE hC ha ua hya hP) (fun P hP => dk_cont0 hR2 hR8 hE hC hb ub hyb hP) (fun P hP => dk_safe ha hya hP)
    (fun P hP => dk_owner0 hR2 hR8 hE hC ha ua hP) (fun P hP => dk_owner0 hR2 hR8 hE hC hb ub hP)
    (fun P hP => dk_cont1 hR2 hR8 hE hC hc hm (dk_f_m hnm) (by rw [dk_f_m hnm]; decide) uc (dk_f_m hnm) hP)
    (fun P hP => dk_owner1 hR2 hR8 hE hC hc hm ((dk_un_m hnm).mpr (Or.inl ⟨rfl, by decide⟩)) uc hP)
    (fun P hP => dk_up0 hn hrn hP) ?_
  unfold wL_lawOf_527
  refine br_t rfl (dk_up1 hm hrm (br_f (by decide) ?_))
  refine dk_w_down hn ha hrn ?_
  dsimp only
  refine br_f (by decide) ?_
  unfold wL_lawOf_565
  refine br_t rfl (dk_rest1 hn hrn ?_)
  dsimp only
  refine br_f (by decide) ?_
  unfold wL_lawOf_588
  refine br_t rfl ?_
  refine dk_swap_miss (c := 1) hn ha hR2 hR8 hE hL hC (by rw [pk_us]; decide) (dk_gfn hQ) dk_f_n (by rw [dk_f_n]; exact dk_m1 ha) (by rw [dk_u_n, dk_ct_n]; decide) (fun p8 p9 p10 p11 hL1 hC1 => ?_)
  dsimp only
  rw [dk_u_n, dk_u_n, dk_u_n] at hC1
  refine br_t rfl ?_
  refine dk_cont1 (y := u) hR2 hR8 hE hC1 ha hn dk_f_n (by rw [dk_f_n]; decide) (dk_unN hnm (dk_v_no (dk_ne hc ha hca) (dk_m1 ha))) (dk_f_n.trans hya) ?_
  refine br_t (by decide) (br_t rfl ?_)
  unfold wL_lawOf_636
  refine br_t rfl ?_
  refine dk_unsafe (c := 1) hn hR2 hR8 hE hC1 (by rw [dk_ct_n]; decide) (br_t rfl ?_)
  refine dk_unsafe (c := 1) hm hR2 hR8 hE hC1 (by rw [dk_ct_m hnm]; decide) (br_f (by decide) ?_)
  unfold wL_lawOf_670
  exact br_t rfl hp

theorem dk_z1 {post : Int32 → St0 → Prop} (hp : post 1 ()) (hn : n < 3) (hm : m < 3) (hnm : n ≠ m) (ha : a < 16) (hb : b < 16) (hc : c < 16) (hca : c ≠ a) (hcb : c ≠ b)
    (hR2 : 2 ≤ R) (hR8 : R ≤ 8) (hE : dk_E a3 a7) (hL : dk_lk (dk_g n m P Q) a8) (hQ : ¬ Q a)
    (hC : dk_ca (dk_f n m (-1) (nI c) (-1)) (dk_f n m y0 w 0) (dk_f n m 0 1 0) (dk_f n m (-1) (-1) (-1)) v1 (dk_f n m 0 0 0) a9 a10 a11)
    (hrn : a1 n = 0) (hrm : ¬ a1 m = 0) (hya : a2 a = v) (hyb : a2 b = u) :
    wL_lawOf_325 post mc ms u v w (nI n) (nI m) (nI a) (nI b) (nI c) 1 2 kc ks (nI R) a1 a2 a3 a4 a5 a6 a7 a8 a9 a10 a11 a12 := by
  have ua : ∀ k, k < 3 → ¬ dk_un (dk_f n m (-1) (nI c) (-1)) (dk_f n m 0 1 0) (dk_f n m (-1) (-1) (-1)) (dk_f n m 0 0 0) k (nI a) :=
    dk_un0 hnm dk_v_cl (dk_v_no (dk_ne hc ha hca) (dk_m1 ha))
  have ub : ∀ k, k < 3 → ¬ dk_un (dk_f n m (-1) (nI c) (-1)) (dk_f n m 0 1 0) (dk_f n m (-1) (-1) (-1)) (dk_f n m 0 0 0) k (nI b) :=
    dk_un0 hnm dk_v_cl (dk_v_no (dk_ne hc hb hcb) (dk_m1 hb))
  have uc : ∀ k, k < 3 → k ≠ m → ¬ dk_un (dk_f n m (-1) (nI c) (-1)) (dk_f n m 0 1 0) (dk_f n m (-1) (-1) (-1)) (dk_f n m 0 0 0) k (nI c) :=
    dk_unM dk_v_cl
  refine dk_t1 (fun P hP => dk_cont0 hR2 hR8 hE hC ha ua hya hP) (fun P hP => dk_cont0 hR2 hR8 hE hC hb ub hyb hP) (fun P hP => dk_safe ha hya hP)
    (fun P hP => dk_owner0 hR2 hR8 hE hC ha ua hP) (fun P hP => dk_owner0 hR2 hR8 hE hC hb ub hP)
    (fun P hP => dk_cont1 hR2 hR8 hE hC hc hm (dk_f_m hnm) (by rw [dk_f_m hnm]; decide) uc (dk_f_m hnm) hP)
    (fun P hP => dk_owner1 hR2 hR8 hE hC hc hm ((dk_un_m hnm).mpr (Or.inl ⟨rfl, by decide⟩)) uc hP)
    (fun P hP => dk_up0 hn hrn hP) ?_
  unfold wL_lawOf_527
  refine br_t rfl (dk_up1 hm hrm (br_f (by decide) ?_))
  refine dk_w_down hn ha hrn ?_
  dsimp only
  refine br_f (by decide) ?_
  unfold wL_lawOf_565
  refine br_t rfl (dk_rest1 hn hrn ?_)
  dsimp only
  refine br_f (by decide) ?_
  unfold wL_lawOf_588
  refine br_t rfl ?_
  refine dk_swap_miss (c := 1) hn ha hR2 hR8 hE hL hC (by rw [pk_us]; decide) (dk_gfn hQ) dk_f_n (by rw [dk_f_n]; exact dk_m1 ha) (by rw [dk_u_n, dk_ct_n]; decide) (fun p8 p9 p10 p11 hL1 hC1 => ?_)
  dsimp only
  rw [dk_u_n, dk_u_n, dk_u_n] at hC1
  refine br_t rfl ?_
  refine dk_cont1 (y := v) hR2 hR8 hE hC1 ha hn dk_f_n (by rw [dk_f_n]; decide) (dk_unN hnm (dk_v_no (dk_ne hc ha hca) (dk_m1 ha))) (dk_f_n.trans hya) ?_
  refine br_t (by decide) (br_f (by decide) ?_)
  unfold wL_lawOf_636
  refine br_t rfl ?_
  refine dk_unsafe (c := 1) hn hR2 hR8 hE hC1 (by rw [dk_ct_n]; decide) (br_t rfl ?_)
  refine dk_unsafe (c := 1) hm hR2 hR8 hE hC1 (by rw [dk_ct_m hnm]; decide) (br_f (by decide) ?_)
  unfold wL_lawOf_670
  exact br_t rfl hp

theorem dk_z2 {post : Int32 → St0 → Prop} (hp : post 1 ()) (hn : n < 3) (hm : m < 3) (hnm : n ≠ m) (ha : a < 16) (hb : b < 16) (hc : c < 16)
    (hR2 : 2 ≤ R) (hR8 : R ≤ 8) (hE : dk_E a3 a7) (hL : dk_lk (dk_g n m P Q) a8) (hQ : ¬ Q a)
    (hC : dk_ca (dk_f n m (-1) (-1) (-1)) v0 (dk_f n m 0 0 0) (dk_f n m (-1) (-1) (-1)) v1 (dk_f n m 0 0 0) a9 a10 a11)
    (hrn : ¬ a1 n = 0) (hrm : ¬ a1 m = 0) (hya : a2 a = u) (hyb : a2 b = v) (hyc : a2 c = 0) :
    wL_lawOf_325 post mc ms u v w (nI n) (nI m) (nI a) (nI b) (nI c) 2 3 kc ks (nI R) a1 a2 a3 a4 a5 a6 a7 a8 a9 a10 a11 a12 := by
  have ux : ∀ x k, k < 3 → ¬ dk_un (dk_f n m (-1) (-1) (-1)) (dk_f n m 0 0 0) (dk_f n m (-1) (-1) (-1)) (dk_f n m 0 0 0) k x :=
    fun x => dk_un0 hnm dk_v_cl dk_v_cl
  refine dk_t2 (fun P hP => dk_cont0 hR2 hR8 hE hC ha (ux _) hya hP) (fun P hP => dk_cont0 hR2 hR8 hE hC hb (ux _) hyb hP) (fun P hP => dk_safe ha hya hP)
    (fun P hP => dk_owner0 hR2 hR8 hE hC ha (ux _) hP) (fun P hP => dk_owner0 hR2 hR8 hE hC hb (ux _) hP)
    (fun P hP => dk_cont0 hR2 hR8 hE hC hc (ux _) hyc hP)
    (fun P hP => dk_owner0 hR2 hR8 hE hC hc (ux _) hP)
    (fun P hP => dk_up1 hn hrn hP) ?_
  unfold wL_lawOf_527
  refine br_t rfl (dk_up1 hm hrm (br_f (by decide) ?_))
  refine dk_w_miss0 (c := 1) hn ha hR2 hR8 hE hL hC hrn (dk_gfn hQ) dk_f_n (by rw [dk_f_n]; exact dk_m1 ha) (by rw [dk_u_n, dk_ct_n]; decide) (fun p8 p9 p10 p11 hL1 hC1 => ?_)
  dsimp only
  rw [dk_g_n] at hL1
  rw [dk_u_n, dk_u_n] at hC1
  refine br_t (by decide) ?_
  unfold wL_lawOf_565
  refine br_t rfl (dk_rest0 hn hrn ?_)
  dsimp only
  refine br_t (by decide) ?_
  unfold wL_lawOf_588
  refine br_t rfl ?_
  refine dk_swap_hit (c := 1) hn ha hR2 hR8 hE hL1 hC1 (by rw [pk_us]; decide) (dk_gfn hQ) dk_f_n (by rw [dk_u_n, dk_ct_n]; decide) (fun q8 q10 q11 hL2 hC2 => ?_)
  dsimp only
  rw [dk_u_n] at hC2
  refine br_t rfl ?_
  refine dk_cont1 (y := w) hR2 hR8 hE hC2 ha hn dk_f_n (by rw [dk_f_n]; decide) (dk_unN hnm dk_v_cl) (pk_us.trans pk_us) ?_
  refine br_f (by decide) ?_
  unfold wL_lawOf_636
  refine br_t rfl ?_
  refine dk_unsafe (c := 1) hn hR2 hR8 hE hC2 (by rw [dk_ct_n]; decide) (br_t rfl ?_)
  refine dk_unsafe (c := 0) hm hR2 hR8 hE hC2 (by rw [dk_ct_m hnm]; decide) (br_t rfl ?_)
  unfold wL_lawOf_670
  exact br_t rfl hp

theorem dk_z3 {post : Int32 → St0 → Prop} (hp : post 1 ()) (hn : n < 3) (hm : m < 3) (hnm : n ≠ m) (ha : a < 16) (hb : b < 16) (hc : c < 16) (hab : a ≠ b) (hca : c ≠ a) (hcb : c ≠ b)
    (hR2 : 2 ≤ R) (hR8 : R ≤ 8) (hE : dk_E a3 a7) (hL : dk_lk (dk_g n m P Q) a8) (hQ : ¬ Q a)
    (hC : dk_ca (dk_f n m (nI a) (nI c) (-1)) (dk_f n m y0 w 0) (dk_f n m 0 1 0) (dk_f n m (nI b) (nI b) (-1)) v1 (dk_f n m 0 0 0) a9 a10 a11)
    (hrn : ¬ a1 n = 0) (hrm : ¬ a1 m = 0) (hya : a2 a = v) (hyb : a2 b = u) :
    wL_lawOf_325 post mc ms u v w (nI n) (nI m) (nI a) (nI b) (nI c) 3 u kc ks (nI R) a1 a2 a3 a4 a5 a6 a7 a8 a9 a10 a11 a12 := by
  have ua : ∀ k, k < 3 → ¬ dk_un (dk_f n m (nI a) (nI c) (-1)) (dk_f n m 0 1 0) (dk_f n m (nI b) (nI b) (-1)) (dk_f n m 0 0 0) k (nI a) :=
    dk_un0 hnm dk_v_cl (dk_v_no (dk_ne hc ha hca) (dk_ne hb ha (Ne.symm hab)))
  have ub : ∀ k, k < 3 → ¬ dk_un (dk_f n m (nI a) (nI c) (-1)) (dk_f n m 0 1 0) (dk_f n m (nI b) (nI b) (-1)) (dk_f n m 0 0 0) k (nI b) :=
    dk_un0 hnm dk_v_cl (dk_v_c1 (dk_ne hc hb hcb))
  have uc : ∀ k, k < 3 → k ≠ m → ¬ dk_un (dk_f n m (nI a) (nI c) (-1)) (dk_f n m 0 1 0) (dk_f n m (nI b) (nI b) (-1)) (dk_f n m 0 0 0) k (nI c) :=
    dk_unM dk_v_cl
  refine dk_t3 (fun P hP => dk_cont0 hR2 hR8 hE hC ha ua hya hP) (fun P hP => dk_cont0 hR2 hR8 hE hC hb ub hyb hP) (fun P hP => dk_safe ha hya hP)
    (fun P hP => dk_owner0 hR2 hR8 hE hC ha ua hP) (fun P hP => dk_owner0 hR2 hR8 hE hC hb ub hP)
    (fun P hP => dk_cont1 hR2 hR8 hE hC hc hm (dk_f_m hnm) (by rw [dk_f_m hnm]; decide) uc (dk_f_m hnm) hP)
    (fun P hP => dk_owner1 hR2 hR8 hE hC hc hm ((dk_un_m hnm).mpr (Or.inl ⟨rfl, by decide⟩)) uc hP)
    (fun P hP => dk_up1 hn hrn hP) ?_
  unfold wL_lawOf_527
  refine br_t rfl (dk_up1 hm hrm (br_f (by decide) ?_))
  refine dk_w_hit0 (c := 1) hn ha hR2 hR8 hE hL hC hrn (dk_gfn hQ) dk_f_n (by rw [dk_u_n, dk_ct_n]; decide) (fun p8 p10 p11 hL1 hC1 => ?_)
  dsimp only
  rw [dk_g_n] at hL1
  rw [dk_u_n, dk_u_n] at hC1
  refine br_t (by decide) ?_
  unfold wL_lawOf_565
  refine br_t rfl (dk_rest0 hn hrn ?_)
  dsimp only
  refine br_t (by decide) ?_
  unfold wL_lawOf_588
  refine br_t rfl ?_
  refine dk_swap_hit (c := 1) hn ha hR2 hR8 hE hL1 hC1 (by rw [pk_us]; decide) (dk_gfn hQ) dk_f_n (by rw [dk_u_n, dk_ct_n]; decide) (fun q8 q10 q11 hL2 hC2 => ?_)
  dsimp only
  rw [dk_u_n, dk_u_n, dk_f_n] at hC2
  refine br_t rfl ?_
  refine dk_cont1 (y := w) hR2 hR8 hE hC2 ha hn dk_f_n (by rw [dk_f_n]; decide) (dk_unN hnm (dk_v_no (dk_ne hc ha hca) (dk_ne hb ha (Ne.symm hab)))) dk_f_n ?_
  refine br_f (by decide) ?_
  unfold wL_lawOf_636
  refine br_t rfl ?_
  refine dk_unsafe (c := 1) hn hR2 hR8 hE hC2 (by rw [dk_ct_n]; decide) (br_t rfl ?_)
  refine dk_unsafe (c := 1) hm hR2 hR8 hE hC2 (by rw [dk_ct_m hnm]; decide) (br_f (by decide) ?_)
  unfold wL_lawOf_670
  exact br_t rfl hp
end
end
section
section
variable {n m a b c R : Nat} {u v w how : Int32} {a1 a2 a3 a4 a5 a6 a7 a8 a9 a10 a11 a12 : Nat → Int32} {mc ms kc ks : Nat}

theorem dk_f_c {x : Int32} : dk_f n m x x x = fun _ => x := by
  funext k
  unfold dk_f
  by_cases e : k = n
  · rw [if_pos e]
  · rw [if_neg e]
    by_cases e' : k = m
    · rw [if_pos e']
    · rw [if_neg e']

theorem dk_main {post : Int32 → St0 → Prop} (hp : post 1 ()) (hn : n < 3) (hm : m < 3) (hnm : n ≠ m) (ha : a < 16) (hb : b < 16) (hc : c < 16) (hab : a ≠ b) (hca : c ≠ a) (hcb : c ≠ b)
    (hR2 : 2 ≤ R) (hR8 : R ≤ 8) (h1 : ∀ k, k < 3 → a1 k = 1) (h9 : ∀ i, i < 24 → a9 i = -1) (f : Nat) :
    wL_lawOf_67 post mc ms u v w how (nI n) (nI m) (nI a) (nI b) kc ks (nI R) a1 (fun _ => 0) (fun _ => 0) (fun _ => 0) (fun _ => 0) (fun _ => 0) (fun _ => 0) (fun _ => 0) a9 (fun _ => 0) (fun _ => 0) (fun _ => 0) (f + 1) (nI c) (nI 8) := by
  have hE0 : dk_E (fun _ => 0) (fun _ => 0) := fun k _ => ⟨rfl, rfl⟩
  have hL0 : dk_lk (dk_g n m (fun x => x = 16) (fun x => x = 16)) (fun _ => 0) := dk_g_0 (fun k _ x _ => ⟨fun _ z => z, fun _ => rfl⟩)
  have hC0 : dk_ca (dk_f n m (-1) (-1) (-1)) (dk_f n m 0 0 0) (dk_f n m 0 0 0) (dk_f n m (-1) (-1) (-1)) (dk_f n m 0 0 0) (dk_f n m 0 0 0) a9 (fun _ => 0) (fun _ => 0) := by
    rw [dk_f_c, dk_f_c]
    exact fun k hk => ⟨⟨h9 _ (by omega), rfl, rfl⟩, ⟨h9 _ (by omega), rfl, rfl⟩, fun i i1 i2 => ⟨h9 i (by omega), rfl⟩⟩
  have rn : ∀ k, k < 3 → ¬ a1 k = 0 := fun k hk => by
    rw [h1 k hk]
    decide
  refine pk_le 8 8 (fun _ => ?_) (fun z => absurd z (by omega))
  refine dk_w_miss0 (c := 1) hn ha hR2 hR8 hE0 hL0 hC0 (rn n hn) (dk_gfn (show ¬ a = 16 by omega)) dk_f_n (by rw [dk_f_n]; exact dk_m1 ha) (by rw [dk_u_n, dk_ct_n]; decide) (fun p8 p9 p10 p11 hL1 hC1 => ?_)
  dsimp only
  rw [dk_g_n] at hL1
  rw [dk_u_n, dk_u_n, dk_u_n] at hC1
  refine br_t rfl ?_
  refine dk_w_miss1 (c := 2) hn hb hR2 hR8 hE0 hL1 hC1 (rn n hn) (dk_gfn (show ¬ b = 16 by omega)) (by rw [dk_f_n]; exact dk_ne ha hb hab) (by rw [dk_f_n]; exact dk_nm1 (by omega)) dk_f_n (by rw [dk_u_n, dk_ct_n]; decide) (fun q8 q9 q10 q11 hL2 hC2 => ?_)
  dsimp only
  rw [dk_g_n] at hL2
  rw [dk_u_n, dk_u_n, dk_u_n] at hC2
  refine br_t rfl ?_
  refine dk_sync (x := u) (y := v) hn hR2 hR8 hE0 hC2 (rn n hn) dk_f_n dk_f_n ha hb hab (by rw [dk_f_n]; decide) (by rw [dk_f_n]; decide) dk_f_n dk_f_n (fun r3 r4 r5 r6 r7 r11 hE3 hC3 => ?_)
  dsimp only
  rw [dk_u_n] at hC3
  refine br_t rfl ?_
  refine dk_swap_ab (x := u) (y := v) hn ha hb hR2 hR8 hE3 hL2 hC3 (rn n hn) (dk_gfn (show ¬ a = 16 by omega)) (dk_gfn (show ¬ b = 16 by omega)) dk_f_n dk_f_n hab dk_f_n dk_f_n (fun s8 s10 s11 hL4 hC4 => ?_)
  dsimp only
  rw [dk_g_n, dk_g_n, dk_g_n, dk_g_n] at hL4
  rw [dk_u_n, dk_u_n, dk_u_n] at hC4
  refine br_t rfl ?_
  refine dk_cont1 (y := v) hR2 hR8 hE3 hC4 ha hn dk_f_n (by rw [dk_f_n]; decide) (dk_unN hnm dk_v_cl) dk_f_n (br_t rfl ?_)
  refine dk_cont2 (y := u) hR2 hR8 hE3 hC4 hb hn (by rw [dk_f_n]; exact dk_ne ha hb hab) dk_f_n (by rw [dk_f_n]; decide) (dk_unN hnm dk_v_cl) dk_f_n (br_t rfl ?_)
  refine dk_safe (y := u) ha ((pk_un hab).trans pk_us) (br_t rfl ?_)
  refine dk_safe (y := v) hb pk_us (br_t rfl ?_)
  refine dk_owner1 hR2 hR8 hE3 hC4 ha hn (dk_un_n.mpr (Or.inl ⟨rfl, by decide⟩)) (dk_unN hnm dk_v_cl) (br_t rfl ?_)
  refine dk_owner1 hR2 hR8 hE3 hC4 hb hn (dk_un_n.mpr (Or.inr ⟨dk_ne ha hb hab, rfl, by decide⟩)) (dk_unN hnm dk_v_cl) (br_t rfl ?_)
  refine dk_w_miss0 (c := 1) hm hc hR2 hR8 hE3 hL4 hC4 (rn m hm) (dk_gfm (fun z => by omega)) (dk_f_m hnm) (by rw [dk_f_m hnm]; exact dk_m1 hc) (by rw [dk_u_m hnm, dk_ct_m hnm]; decide) (fun t8 t9 t10 t11 hL5 hC5 => ?_)
  dsimp only
  rw [dk_g_m] at hL5
  rw [dk_u_m hnm, dk_u_m hnm, dk_u_m hnm] at hC5
  refine br_t rfl ?_
  refine dk_cont1 (y := w) hR2 hR8 hE3 hC5 hc hm (dk_f_m hnm) (by rw [dk_f_m hnm]; decide) (dk_unM (dk_v_no (dk_ne ha hc (Ne.symm hca)) (dk_ne hb hc (Ne.symm hcb)))) (dk_f_m hnm) (br_t rfl ?_)
  refine dk_safe (y := 0) hc ((pk_un hcb).trans (pk_un hca)) (br_t rfl ?_)
  obtain ⟨E, hE4, he⟩ := pk_andE how 2 (m := 3) (by decide)
  have hE5 : E = 0 ∨ E = 1 ∨ E = 2 ∨ E = 3 := by omega
  rcases hE5 with q | q | q | q
  · rw [q] at he
    refine nm_r (e' := 0) he (br_t rfl ?_)
    refine dk_crash (c := 2) hn hR2 hR8 hE3 hL5 hC5 (rn n hn) (by rw [dk_ct_n]; decide) (fun x3 x7 x8 x9 x11 hE6 hL6 hC6 => ?_)
    dsimp only
    rw [dk_u_n, dk_u_n, dk_u_n, dk_u_n] at hC6
    exact dk_z0 hp hn hm hnm ha hb hc hca hcb hR2 hR8 hE6 (dk_g_d hnm hL6) (fun z => by omega) hC6 pk_us (by rw [pk_un (Ne.symm hnm)]; exact rn m hm) ((pk_un hab).trans pk_us) pk_us
  · rw [q] at he
    refine nm_r (e' := 1) he (br_f (by decide) (br_t rfl ?_))
    refine dk_cis (x := v) (y := u) hn hR2 hR8 hE3 hL5 hC5 (rn n hn) dk_f_n dk_f_n ha hb hab (by rw [dk_f_n]; decide) (by rw [dk_f_n]; decide) dk_f_n dk_f_n (fun x3 x4 x5 x6 x7 x8 x9 x11 hE6 hL6 hC6 => ?_)
    dsimp only
    rw [dk_u_n, dk_u_n, dk_u_n, dk_u_n] at hC6
    exact dk_z1 hp hn hm hnm ha hb hc hca hcb hR2 hR8 hE6 (dk_g_d hnm hL6) (fun z => by omega) hC6 pk_us (by rw [pk_un (Ne.symm hnm)]; exact rn m hm) ((pk_un hab).trans pk_us) pk_us
  · rw [q] at he
    refine nm_r (e' := 2) he (br_f (by decide) (br_f (by decide) (br_t rfl ?_)))
    refine dk_pc (c := 3) hR2 hR8 hE3 hL5 hC5 (dk_ct3 hn hm hnm) (fun x1 x3 x7 x8 x9 x11 hx1 hE6 hL6 hC6 => ?_)
    dsimp only
    rw [← dk_f_c (n := n) (m := m), ← dk_f_c (n := n) (m := m)] at hC6
    exact dk_z2 hp hn hm hnm ha hb hc hR2 hR8 hE6 (dk_g_0 hL6) (show ¬ a = 16 by omega) hC6 (by rw [hx1 n hn]; decide) (by rw [hx1 m hm]; decide) ((pk_un hab).trans pk_us) pk_us ((pk_un hcb).trans (pk_un hca))
  · rw [q] at he
    refine nm_r (e' := 3) he (br_f (by decide) (br_f (by decide) (br_f (by decide) ?_)))
    refine dk_read1 (x := v) (y := u) hn hm hnm hb hR2 hR8 hE3 hL5 hC5 (rn m hm) (Or.inl ⟨rfl, Or.inr rfl⟩) dk_gfo dk_f_n dk_f_n ha hab (by rw [dk_f_n]; decide) (by rw [dk_f_n]; decide) (by rw [dk_f_m hnm]; exact dk_ne hc hb hcb) (by rw [dk_f_m hnm]; exact dk_nm1 (by omega)) (dk_f_m hnm) dk_f_n dk_f_n (fun x3 x4 x5 x6 x7 x8 x9 x10 x11 hE6 hL6 hC6 => ?_)
    dsimp only
    rw [dk_g_m] at hL6
    rw [dk_u_n, dk_u_n, dk_u_m hnm, dk_u_m hnm] at hC6
    exact dk_z3 hp hn hm hnm ha hb hc hab hca hcb hR2 hR8 hE6 hL6 (fun z => by omega) hC6 (rn n hn) (rn m hm) ((pk_un hab).trans pk_us) pk_us

theorem dk_loop {post : Int32 → St0 → Prop} (hp : post 1 ()) (hn : n < 3) (hm : m < 3) (hnm : n ≠ m) (ha : a < 16) (hb : b < 16) (hab : a ≠ b)
    (hR2 : 2 ≤ R) (hR8 : R ≤ 8) (h1 : ∀ k, k < 3 → a1 k = 1) (h9 : ∀ i, i < 24 → a9 i = -1) :
    ∃ f, wL_lawOf_67 post mc ms u v w how (nI n) (nI m) (nI a) (nI b) kc ks (nI R) a1 (fun _ => 0) (fun _ => 0) (fun _ => 0) (fun _ => 0) (fun _ => 0) (fun _ => 0) (fun _ => 0) a9 (fun _ => 0) (fun _ => 0) (fun _ => 0) f 0 0 := by
  refine pk_loop (fun f k s => wL_lawOf_67 post mc ms u v w how (nI n) (nI m) (nI a) (nI b) kc ks (nI R) a1 (fun _ => 0) (fun _ => 0) (fun _ => 0) (fun _ => 0) (fun _ => 0) (fun _ => 0) (fun _ => 0) a9 (fun _ => 0) (fun _ => 0) (fun _ => 0) f (nI s) (nI k))
    (fun k s => s ≤ 2 ∧ (∀ j, j < s → j = a ∨ j = b) ∧ (s = a ∨ s = b → s = k)) 8 0 0 (by omega) ⟨by omega, fun j hj => absurd hj (by omega), fun _ => rfl⟩ (fun f s h => ?_) (fun f k s hk h hw => ?_)
  · obtain ⟨g1, g2, g3⟩ := h
    exact dk_main hp hn hm hnm ha hb (by omega) hab (fun z => by have := g3 (Or.inl z); omega) (fun z => by have := g3 (Or.inr z); omega) hR2 hR8 h1 h9 f
  · obtain ⟨g1, g2, g3⟩ := h
    have step : (s = a ∨ s = b) → (s + 1 ≤ 2 ∧ (∀ j, j < s + 1 → j = a ∨ j = b) ∧ (s + 1 = a ∨ s + 1 = b → s + 1 = k + 1)) := fun e => by
      have e2 := g3 e
      refine ⟨?_, fun j hj => ?_, fun _ => by omega⟩
      · have t0 := g2 0
        have t1 := g2 1
        omega
      · by_cases q : j = s
        · rw [q]
          exact e
        · exact g2 j (by omega)
    refine pk_le 8 k (fun z => absurd z (by omega)) (fun _ => ?_)
    refine pk_eq s a (fun e => nm_r (nI_1 s) (nm_r (nI_1 k) (hw (s + 1) (step (Or.inl e))))) (fun ne => ?_)
    refine pk_eq s b (fun e => nm_r (nI_1 s) (nm_r (nI_1 k) (hw (s + 1) (step (Or.inr e))))) (fun ne' => nm_r (nI_1 k) (hw s ⟨g1, g2, fun e => ?_⟩))
    rcases e with e | e
    · exact absurd e ne
    · exact absurd e ne'

theorem dk_x : ∀ a, a < 16 → ∀ q, q < 15 → nI a ^^^ (1 + nI q) = nI (a ^^^ (1 + q)) := by decide +kernel
theorem dk_xn : ∀ a, a < 16 → ∀ q, q < 15 → (a ^^^ (1 + q)) < 16 ∧ a ≠ (a ^^^ (1 + q)) := by decide +kernel

theorem dk_lawOf {post : Int32 → St0 → Prop} {p0 p1 : Int32} (hp : post 1 ()) : wpL_lawOf post 13 260 () p0 p1 u v w how := by
  unfold wpL_lawOf
  refine ⟨by omega, by omega, 12, 247, by omega, by omega, ?_⟩
  refine dk_init (fun R a1' a9' hR2 hR8 h1 h9 => ?_)
  obtain ⟨j, hj, ej⟩ := pk_andE p1 8 (m := 255) (by decide)
  obtain ⟨s, hs, es⟩ := pk_andE (p1 >>> ((8 : Int32) &&& 31)) 1 (m := 1) (by decide)
  obtain ⟨a, ha, ea⟩ := pk_andE (p1 >>> ((10 : Int32) &&& 31)) 4 (m := 15) (by decide)
  obtain ⟨t, ht, et⟩ := pk_andE (p1 >>> ((14 : Int32) &&& 31)) 8 (m := 255) (by decide)
  have hx7 : (p1 &&& 255) - (p1 &&& 255) / 3 * 3 = nI (j % 3) := by
    rw [ej]
    exact pk_rem (a := j) (d := 3) (by omega) (by omega) (by omega)
  have hx8 : ((nI (j % 3) + 1) + ((p1 >>> ((8 : Int32) &&& 31)) &&& 1)) - ((nI (j % 3) + 1) + ((p1 >>> ((8 : Int32) &&& 31)) &&& 1)) / 3 * 3 = nI ((j % 3 + 1 + s) % 3) := by
    rw [es, nI_1, nI_add]
    exact pk_rem (a := j % 3 + 1 + s) (d := 3) (by omega) (by omega) (by omega)
  have hx10 : nI a ^^^ (1 + (((p1 >>> ((14 : Int32) &&& 31)) &&& 255) - ((p1 >>> ((14 : Int32) &&& 31)) &&& 255) / 15 * 15)) = nI (a ^^^ (1 + t % 15)) := by
    rw [et]
    have e : nI t - nI t / 15 * 15 = nI (t % 15) := pk_rem (a := t) (d := 15) (by omega) (by omega) (by omega)
    rw [e]
    exact dk_x a (by omega) (t % 15) (by omega)
  have hxn := dk_xn a (by omega) (t % 15) (by omega)
  refine ⟨by decide, nm_r hx7 ⟨by decide, nm_r hx8 (nm_r ea ⟨by decide, nm_r hx10 ?_⟩)⟩⟩
  exact dk_loop hp (by omega) (by omega) (by omega) (by omega) hxn.1 hxn.2 hR2 hR8 h1 h9

theorem dk_cell {post : Int32 → Prop} {L : Nat} {xs : Nat → Int32} (hL : L ≤ 6) {i : Nat} (hi : i < 6) (h : ∀ x, post x) : wpL_cellAt post L xs () (nI i) :=
  pk_le L i (fun _ => h _) (fun z => ⟨pk_in i L z, h _⟩)
end
end
section
theorem i_vc (xs : Nat → Int32) (L : Nat) (hL : L ≤ 6) : wpL_law (fun r => r = 1) L xs := by
  unfold wpL_law
  refine dk_cell (i := 0) hL (by omega) (fun x0 => ?_)
  refine dk_cell (i := 1) hL (by omega) (fun x1 => ?_)
  refine dk_cell (i := 2) hL (by omega) (fun x2 => ?_)
  refine dk_cell (i := 3) hL (by omega) (fun x3 => ?_)
  refine dk_cell (i := 4) hL (by omega) (fun x4 => ?_)
  refine dk_cell (i := 5) hL (by omega) (fun x5 => ?_)
  exact ⟨13, 260, by omega, by omega, dk_lawOf rfl⟩
end
