section
/-- the bits of 0 and 1 -/
theorem tm_b0 : ∀ j, j < 8 → ((0 : Int32) >>> (nI j &&& 31)) &&& 1 = 0 := by decide +kernel
theorem tm_b1 : ∀ j, j < 8 → 0 < j → ((1 : Int32) >>> (nI j &&& 31)) &&& 1 = 0 := by decide +kernel
theorem tm_b1n : ¬ ((1 : Int32) >>> (nI 0 &&& 31)) &&& 1 = 0 := by decide +kernel
theorem tm_bz {u : Int32} (hu : u = 0 ∨ u = 1) {j : Nat} (hj : j < 8) (h0 : 0 < j) : (u >>> (nI j &&& 31)) &&& 1 = 0 := by
  rcases hu with rfl | rfl
  · exact tm_b0 j hj
  · exact tm_b1 j hj h0
theorem tm_far {g : Nat} (hg : g < 2 ^ 30) : ¬ nI g ≤ (-268435456) := by
  intro h
  have h' := Int32.le_iff_toInt_le.mp h
  rw [nI_toInt (by omega)] at h'
  have : (-268435456 : Int32).toInt = -268435456 := by decide
  omega
theorem tm_p0 (x : Int32) : x + 0 = x := by grind
theorem tm_0p (x : Int32) : 0 + x = x := by grind
/-- first round: at the inner counter i -/
def tm_F (i : Nat) (r s : Nat → Int32) : Prop := (∀ k, k ≤ i → r k = nI 0) ∧ (∀ k, i < k → k ≤ 16 → r k = (-268435456)) ∧ (∀ k, 1 ≤ k → k ≤ i → s k = 16)
/-- later rounds: at the inner counter i -/
def tm_K (g e : Nat) (st : Nat → Int32) (i : Nat) (r s : Nat → Int32) : Prop := ∃ m, i ≤ m ∧ e ≤ m ∧ m ≤ 16 ∧ (∀ k, k ≤ 16 → r k = if e ≤ k ∧ k ≤ m then nI g else nI 0) ∧ (∀ k, 1 ≤ k → k ≤ 16 → s k = st k)
theorem tm_Fk {t : Nat} {r s : Nat → Int32} (ht : t < 16) (h : tm_F t r s) (c : r t ≤ (-268435456) ∨ r t + 0 ≤ r (t + 1)) : tm_F (t + 1) r s := by
  obtain ⟨h1, h2, _⟩ := h
  rw [h1 t (by omega), h2 (t + 1) (by omega) (by omega), tm_p0] at c
  exact absurd c (fun z => z.elim (tm_far (by omega)) (tm_far (by omega)))
theorem tm_Fu {t : Nat} {r s : Nat → Int32} (ht : t < 16) (h : tm_F t r s) : tm_F (t + 1) (upd r (t + 1) (r t + 0)) (upd s (t + 1) 16) := by
  obtain ⟨h1, h2, h3⟩ := h
  refine ⟨fun k hk => ?_, fun k hk hk2 => ?_, fun k hk hk2 => ?_⟩
  · by_cases e : k = t + 1
    · rw [e, pk_us, h1 t (by omega), tm_p0]
    · rw [pk_un e]
      exact h1 k (by omega)
  · rw [pk_un (by omega)]
    exact h2 k (by omega) hk2
  · by_cases e : k = t + 1
    · rw [e, pk_us]
    · rw [pk_un e]
      exact h3 k hk (by omega)
theorem tm_Fw {t : Nat} {r s : Nat → Int32} (h : tm_F (t + 1) r s) : r (t + 1) + 0 ≤ r t := by
  rw [h.1 (t + 1) (by omega), h.1 t (by omega), tm_p0]
  exact nI_le (by omega) (by omega)
theorem tm_Kk {g e : Nat} {st : Nat → Int32} {t : Nat} {r s : Nat → Int32} (hg : g < 2 ^ 30) (ht : t < 16) (h : tm_K g e st t r s) (c : r t ≤ (-268435456) ∨ r t + 0 ≤ r (t + 1)) : tm_K g e st (t + 1) r s := by
  obtain ⟨m, m1, m2, m3, h1, h2⟩ := h
  by_cases hm : t + 1 ≤ m
  · exact ⟨m, hm, m2, m3, h1, h2⟩
  · rw [h1 t (by omega), h1 (t + 1) (by omega), if_pos ⟨by omega, by omega⟩, if_neg (by omega), tm_p0] at c
    rcases c with c | c
    · exact absurd c (tm_far hg)
    · have hg0 : g = 0 := by
        rcases Nat.eq_zero_or_pos g with z | z
        · exact z
        · exact absurd c (nI_ge z (by omega))
      subst hg0
      refine ⟨t + 1, by omega, by omega, by omega, fun k hk => ?_, h2⟩
      rw [h1 k hk, ite_self, ite_self]
theorem tm_Ku {g e : Nat} {st : Nat → Int32} {t : Nat} {r s : Nat → Int32} (hst : ∀ k, e < k → k ≤ 16 → st k = 16) (hg : g < 2 ^ 30) (ht : t < 16) (h : tm_K g e st t r s) (c : ¬ r t + 0 ≤ r (t + 1)) : tm_K g e st (t + 1) (upd r (t + 1) (r t + 0)) (upd s (t + 1) 16) := by
  obtain ⟨m, m1, m2, m3, h1, h2⟩ := h
  by_cases hm : t + 1 ≤ m
  · refine absurd ?_ c
    rw [h1 t (by omega), h1 (t + 1) (by omega), tm_p0]
    by_cases e1 : e ≤ t
    · rw [if_pos ⟨e1, by omega⟩, if_pos ⟨by omega, hm⟩]
      exact nI_le (by omega) (by omega)
    · rw [if_neg (fun z => e1 z.1)]
      by_cases e2 : e ≤ t + 1
      · rw [if_pos ⟨e2, hm⟩]
        exact nI_le (by omega) (by omega)
      · rw [if_neg (fun z => e2 z.1)]
        exact nI_le (by omega) (by omega)
  · refine ⟨t + 1, by omega, by omega, by omega, fun k hk => ?_, fun k hk hk2 => ?_⟩
    · by_cases ek : k = t + 1
      · rw [ek, pk_us, h1 t (by omega), if_pos ⟨by omega, by omega⟩, if_pos ⟨by omega, by omega⟩, tm_p0]
      · rw [pk_un ek, h1 k hk]
        by_cases z : e ≤ k ∧ k ≤ m
        · rw [if_pos z, if_pos ⟨z.1, by omega⟩]
        · rw [if_neg z, if_neg (by omega)]
    · by_cases ek : k = t + 1
      · rw [ek, pk_us, hst (t + 1) (by omega) (by omega)]
      · rw [pk_un ek]
        exact h2 k hk hk2
theorem tm_Kw {g e : Nat} {st : Nat → Int32} {t : Nat} {r s : Nat → Int32} (ht : t < 16) (hg : g = 0) (h : tm_K g e st (t + 1) r s) : r (t + 1) + 0 ≤ r t := by
  obtain ⟨m, m1, m2, m3, h1, h2⟩ := h
  subst hg
  rw [h1 (t + 1) (by omega), h1 t (by omega), tm_p0, ite_self, ite_self]
  exact nI_le (by omega) (by omega)
theorem tm_K0 {g e : Nat} {st : Nat → Int32} {i : Nat} {r s : Nat → Int32} (h : tm_K g e st i r s) : tm_K g e st 0 r s := by
  obtain ⟨m, m1, m2, m3, h1, h2⟩ := h
  exact ⟨m, by omega, m2, m3, h1, h2⟩
/-- the first round's end is a picture of the later ones, where no job gains -/
theorem tm_FK {e : Nat} {st : Nat → Int32} {r s : Nat → Int32} (he : e ≤ 16) (hst : ∀ k, 1 ≤ k → k ≤ 16 → st k = 16) (h : tm_F 16 r s) : tm_K 0 e st 0 r s := by
  obtain ⟨h1, _, h3⟩ := h
  refine ⟨16, by omega, he, by omega, fun k hk => ?_, fun k hk hk2 => ?_⟩
  · rw [ite_self]
    exact h1 k hk
  · rw [h3 k hk hk2, hst k hk hk2]
/-- the first round's end, and the job's gain on it -/
theorem tm_FJ {g e : Nat} {st : Nat → Int32} {r s : Nat → Int32} {x : Int32} (he : e ≤ 16) (hx : x = nI g) (hst : ∀ k, 1 ≤ k → k ≤ 16 → st k = if k = e then 0 else 16) (h : tm_F 16 r s) : tm_K g e st 0 (upd r e x) (upd s e 0) := by
  obtain ⟨h1, _, h3⟩ := h
  refine ⟨e, by omega, by omega, he, fun k hk => ?_, fun k hk hk2 => ?_⟩
  · by_cases ek : k = e
    · rw [ek, pk_us, if_pos ⟨by omega, by omega⟩, hx]
    · rw [pk_un ek, if_neg (by omega)]
      exact h1 k hk
  · rw [hst k hk hk2]
    by_cases ek : k = e
    · rw [ek, pk_us, if_pos rfl]
    · rw [pk_un ek, if_neg ek]
      exact h3 k hk hk2
end
section
section
variable {post : St2 → Prop} {tc pr us ud kn ch : Int32} {a1 a2 a3 a4 a5 a6 a7 : Nat → Int32}
theorem tm_imp {g b p q : Int32} (f t : Nat) (hf : f < 17) (ht : t < 17) (hp : p = nI f) (hq : q = nI t)
    (H0 : (a6 f ≤ (-268435456) ∨ a6 f + g ≤ a6 t) → post (tc, pr, us, ud, kn, ch, a1, a2, a3, a4, a5, a6, a7))
    (H1 : ¬ a6 f ≤ (-268435456) → ¬ a6 f + g ≤ a6 t → post (tc, pr, us, ud, kn, ch, a1, a2, a3, a4, a5, upd a6 t (a6 f + g), upd a7 t b.toInt8.toInt32)) :
    wpX_improve post (tc, pr, us, ud, kn, ch, a1, a2, a3, a4, a5, a6, a7) p q g b := by
  subst hp hq
  unfold wpX_improve
  dsimp only
  rw [nI_clamp (show f < 2 ^ 31 by omega), nI_clamp (show t < 2 ^ 31 by omega)]
  exact ⟨pk_in f 17 hf, br_c (fun h => H0 (.inl h)) (fun h => ⟨pk_in f 17 hf, pk_in t 17 ht, br_c (fun h2 => H0 (.inr h2)) (fun h2 => ⟨pk_in f 17 hf, pk_in t 17 ht, nm_e ⟨pk_in t 17 ht, nm_e (H1 h h2)⟩⟩)⟩)⟩
/-- a job that is neither used nor usable -/
theorem tm_jobN {x : Int32} (h1 : (ud >>> (x &&& 31)) &&& 1 = 0) (h2 : (us >>> (x &&& 31)) &&& 1 = 0) (H : post (tc, pr, us, ud, kn, ch, a1, a2, a3, a4, a5, a6, a7)) :
    wpX_improveByJob post (tc, pr, us, ud, kn, ch, a1, a2, a3, a4, a5, a6, a7) x := by
  unfold wpX_improveByJob
  exact br_t h1 (br_t h2 H)
/-- job 0, usable and not used -/
theorem tm_jobU {s e : Nat} (hud : ud = 0) (hus : us = 1) (hs : s < 17) (he : e < 17) (h1 : a1 0 = nI s) (h2 : a2 0 = nI e)
    (H0 : (a6 s ≤ (-268435456) ∨ a6 s + a4 0 ≤ a6 e) → post (tc, pr, us, ud, kn, ch, a1, a2, a3, a4, a5, a6, a7))
    (H1 : ¬ a6 s ≤ (-268435456) → ¬ a6 s + a4 0 ≤ a6 e → post (tc, pr, us, ud, kn, ch, a1, a2, a3, a4, a5, upd a6 e (a6 s + a4 0), upd a7 e 0)) :
    wpX_improveByJob post (tc, pr, us, ud, kn, ch, a1, a2, a3, a4, a5, a6, a7) (nI 0) := by
  unfold wpX_improveByJob
  refine br_t (by rw [hud]; exact tm_b0 0 (by omega)) (br_f (by rw [hus]; exact tm_b1n) ⟨pk_in 0 8 (by omega), pk_in 0 8 (by omega), pk_in 0 8 (by omega), ?_⟩)
  exact tm_imp s e hs he h1 h2 H0 H1
/-- job 0, used -/
theorem tm_jobB {s e : Nat} (hud : ud = 1) (hs : s < 17) (he : e < 17) (h1 : a1 0 = nI s) (h2 : a2 0 = nI e) (hc : a6 e + -(a4 0) ≤ a6 s)
    (H : post (tc, pr, us, ud, kn, ch, a1, a2, a3, a4, a5, a6, a7)) :
    wpX_improveByJob post (tc, pr, us, ud, kn, ch, a1, a2, a3, a4, a5, a6, a7) (nI 0) := by
  unfold wpX_improveByJob
  refine br_f (by rw [hud]; exact tm_b1n) ⟨pk_in 0 8 (by omega), pk_in 0 8 (by omega), pk_in 0 8 (by omega), ?_⟩
  exact tm_imp e s he hs h2 h1 (fun _ => H) (fun _ z => absurd hc z)
end
section
variable {post : St2 → Prop} {J : Int32 → Int32 → Int32 → Int32 → Int32 → Int32 → Int32 → (Nat → Int32) → (Nat → Int32) → (Nat → Int32) → (Nat → Int32) → (Nat → Int32) → (Nat → Int32) → (Nat → Int32) → Prop} {x1 tc pr us ud kn ch : Int32} {a1 a2 a3 a4 a5 a6 a7 : Nat → Int32}
/-- the jobs of one round -/
theorem tm_91 (hus : us = 0 ∨ us = 1) (hud : ud = 0 ∨ ud = 1) (Q : (Nat → Int32) → (Nat → Int32) → Prop)
    (hj : ∀ P : St2 → Prop, (∀ r s, Q r s → P (tc, pr, us, ud, kn, ch, a1, a2, a3, a4, a5, r, s)) → wpX_improveByJob P (tc, pr, us, ud, kn, ch, a1, a2, a3, a4, a5, a6, a7) (nI 0))
    (H : ∀ r s, Q r s → J (x1 + 1) tc pr us ud kn ch a1 a2 a3 a4 a5 r s) :
    ∃ n, wX_findWays_91 post J x1 n 0 tc pr us ud kn ch a1 a2 a3 a4 a5 a6 a7 := by
  refine pk_loop (fun n i (s : (Nat → Int32) × (Nat → Int32)) => wX_findWays_91 post J x1 n (nI i) tc pr us ud kn ch a1 a2 a3 a4 a5 s.1 s.2) (fun i s => (i = 0 → s = (a6, a7)) ∧ (0 < i → Q s.1 s.2)) 8 0 (a6, a7) (by omega) ⟨fun _ => rfl, fun h => absurd h (by omega)⟩
    (fun n s h => pk_le 8 8 (fun _ => nm_e (H s.1 s.2 (h.2 (by omega)))) (fun z => absurd z (by omega))) ?_
  intro n i s hi h hw
  refine pk_le 8 i (fun z => absurd z (by omega)) (fun _ => ?_)
  by_cases hi0 : i = 0
  · have hs : s = (a6, a7) := h.1 hi0
    subst hi0 hs
    refine hj _ (fun r q hq => ?_)
    exact nm_r (nI_1 0) (hw (r, q) ⟨fun z => absurd z (by omega), fun _ => hq⟩)
  · refine tm_jobN (tm_bz hud hi (by omega)) (tm_bz hus hi (by omega)) ?_
    exact nm_r (nI_1 i) (hw s ⟨fun z => absurd z (by omega), fun _ => h.2 (by omega)⟩)
/-- the waits of one round -/
theorem tm_46 (I : Nat → (Nat → Int32) → (Nat → Int32) → Prop) (h0 : I 0 a6 a7)
    (hk : ∀ t r s, t < 16 → I t r s → (r t ≤ (-268435456) ∨ r t + 0 ≤ r (t + 1)) → I (t + 1) r s)
    (hu : ∀ t r s, t < 16 → I t r s → ¬ r t ≤ (-268435456) → ¬ r t + 0 ≤ r (t + 1) → I (t + 1) (upd r (t + 1) (r t + 0)) (upd s (t + 1) 16))
    (hv : ∀ t r s, t < 16 → I (t + 1) r s → ¬ a5 t ≤ 0 → r (t + 1) + 0 ≤ r t)
    (H : ∀ r s, I 16 r s → ∃ n, wX_findWays_91 post J x1 n 0 tc pr us ud kn ch a1 a2 a3 a4 a5 r s) :
    ∃ n, wX_findWays_46 post J x1 n 0 tc pr us ud kn ch a1 a2 a3 a4 a5 a6 a7 := by
  refine pk_loop (fun n i (s : (Nat → Int32) × (Nat → Int32)) => wX_findWays_46 post J x1 n (nI i) tc pr us ud kn ch a1 a2 a3 a4 a5 s.1 s.2) (fun i s => I i s.1 s.2) 16 0 (a6, a7) (by omega) h0
    (fun n s h => pk_le 16 16 (fun _ => H s.1 s.2 h) (fun z => absurd z (by omega))) ?_
  intro n i s hi h hw
  have hcl : (nI i).toNatClampNeg = i := nI_clamp (by omega)
  refine pk_le 16 i (fun z => absurd z (by omega)) (fun _ => tm_imp i (i + 1) (by omega) (by omega) rfl (nI_1 i) (fun hc => ?_) (fun h1 h2 => ?_))
  · have hI := hk i s.1 s.2 hi h hc
    refine ⟨pk_in i 16 hi, br_c (fun _ => nm_r (nI_1 i) (hw s hI)) (fun hp => ?_)⟩
    rw [hcl] at hp
    exact tm_imp (i + 1) i (by omega) (by omega) (nI_1 i) rfl (fun _ => nm_r (nI_1 i) (hw s hI)) (fun _ z => absurd (hv i s.1 s.2 hi hI hp) z)
  · have hI := hu i s.1 s.2 hi h h1 h2
    refine ⟨pk_in i 16 hi, br_c (fun _ => nm_r (nI_1 i) (hw (_, _) hI)) (fun hp => ?_)⟩
    rw [hcl] at hp
    exact tm_imp (i + 1) i (by omega) (by omega) (nI_1 i) rfl (fun _ => nm_r (nI_1 i) (hw (_, _) hI)) (fun _ z => absurd (hv i _ _ hi hI hp) z)
end
section
variable {post : St2 → Prop} {tc pr us ud kn ch : Int32} {a1 a2 a3 a4 a5 a6 a7 : Nat → Int32} {g e : Nat} {st : Nat → Int32}
/-- the rounds -/
theorem tm_38 (hg : g < 2 ^ 30) (hst : ∀ k, e < k → k ≤ 16 → st k = 16) (hw : (∀ t, t < 16 → a5 t ≤ 0) ∨ g = 0) (hus : us = 0 ∨ us = 1) (hud : ud = 0 ∨ ud = 1)
    (hj : ∀ r s, (tm_F 16 r s ∨ tm_K g e st 16 r s) → ∀ P : St2 → Prop, (∀ r' s', tm_K g e st 0 r' s' → P (tc, pr, us, ud, kn, ch, a1, a2, a3, a4, a5, r', s')) → wpX_improveByJob P (tc, pr, us, ud, kn, ch, a1, a2, a3, a4, a5, r, s) (nI 0))
    (h0 : tm_F 0 a6 a7) (H : ∀ r s, tm_K g e st 0 r s → post (tc, pr, us, ud, kn, ch, a1, a2, a3, a4, a5, r, s)) :
    ∃ n, wX_findWays_38 post n 0 tc pr us ud kn ch a1 a2 a3 a4 a5 a6 a7 := by
  refine pk_loop (fun n i (s : (Nat → Int32) × (Nat → Int32)) => wX_findWays_38 post n (nI i) tc pr us ud kn ch a1 a2 a3 a4 a5 s.1 s.2) (fun i s => (i = 0 → tm_F 0 s.1 s.2) ∧ (0 < i → tm_K g e st 0 s.1 s.2)) 17 0 (a6, a7) (by omega) ⟨fun _ => h0, fun h => absurd h (by omega)⟩
    (fun n s h => pk_lt 16 17 (fun _ => H s.1 s.2 (h.2 (by omega))) (fun z => absurd z (by omega))) ?_
  intro n i s hi h hn
  refine pk_lt 16 i (fun z => absurd z (by omega)) (fun _ => ?_)
  have E : ∀ r q, tm_K g e st 0 r q → wX_findWays_38 post n (nI i + 1) tc pr us ud kn ch a1 a2 a3 a4 a5 r q := by
    intro r q hq
    rw [nI_1]
    exact hn (r, q) ⟨fun z => absurd z (by omega), fun _ => hq⟩
  by_cases hi0 : i = 0
  · exact tm_46 tm_F (h.1 hi0) (fun t r q ht hI hc => tm_Fk ht hI hc) (fun t r q ht hI _ _ => tm_Fu ht hI) (fun t r q _ hI _ => tm_Fw hI)
      (fun r q hI => tm_91 hus hud (tm_K g e st 0) (hj r q (.inl hI)) E)
  · exact tm_46 (tm_K g e st) (h.2 (by omega)) (fun t r q ht hI hc => tm_Kk hg ht hI hc) (fun t r q ht hI _ hc => tm_Ku hst hg ht hI hc)
      (fun t r q ht hI hp => hw.elim (fun z => absurd (z t ht) hp) (fun z => tm_Kw ht z hI))
      (fun r q hI => tm_91 hus hud (tm_K g e st 0) (hj r q (.inr hI)) E)
/-- the whole of findWays -/
theorem tm_find (hg : g < 2 ^ 30) (hst : ∀ k, e < k → k ≤ 16 → st k = 16) (hw : (∀ t, t < 16 → a5 t ≤ 0) ∨ g = 0) (hus : us = 0 ∨ us = 1) (hud : ud = 0 ∨ ud = 1)
    (hj : ∀ r s, (tm_F 16 r s ∨ tm_K g e st 16 r s) → ∀ P : St2 → Prop, (∀ r' s', tm_K g e st 0 r' s' → P (tc, pr, us, ud, kn, ch, a1, a2, a3, a4, a5, r', s')) → wpX_improveByJob P (tc, pr, us, ud, kn, ch, a1, a2, a3, a4, a5, r, s) (nI 0))
    (H : ∀ r s, (∀ k, 1 ≤ k → k ≤ 16 → s k = st k) → post (tc, pr, us, ud, kn, ch, a1, a2, a3, a4, a5, r, s)) :
    wpX_findWays post (tc, pr, us, ud, kn, ch, a1, a2, a3, a4, a5, a6, a7) := by
  unfold wpX_findWays
  refine pk_loop (fun n i (s : (Nat → Int32) × (Nat → Int32)) => wX_findWays_2 post tc pr us ud kn ch n (nI i) a1 a2 a3 a4 a5 s.1 s.2) (fun i s => ∀ k, k < i → s.1 k = (-268435456)) 17 0 (a6, a7) (by omega) (fun k hk => absurd hk (by omega))
    (fun n s h => pk_lt 16 17 (fun _ => nm_e (tm_38 hg hst hw hus hud hj ?_ (fun r q hq => ?_))) (fun z => absurd z (by omega))) ?_
  · refine ⟨fun k hk => ?_, fun k hk hk2 => ?_, fun k hk hk2 => absurd hk2 (by omega)⟩
    · rw [show k = 0 by omega, pk_us, nI_0]
    · rw [pk_un (by omega)]
      exact h k (by omega)
  · obtain ⟨m, _, _, _, _, h2⟩ := hq
    exact H r q h2
  · intro n i s hi h hn
    have hcl : (nI i).toNatClampNeg = i := nI_clamp (by omega)
    refine pk_lt 16 i (fun z => absurd z (by omega)) (fun _ => ⟨pk_in i 17 hi, nm_e ⟨pk_in i 17 hi, nm_e (nm_r (nI_1 i) (hn (_, _) (fun k hk => ?_)))⟩⟩)
    show upd s.1 (nI i).toNatClampNeg (-268435456) k = (-268435456)
    rw [hcl]
    by_cases ek : k = i
    · rw [ek, pk_us]
    · rw [pk_un ek]
      exact h k (by omega)
end
end
section
section
variable {post : St2 → Prop} {tc pr us ud kn ch : Int32} {a1 a2 a3 a4 a5 a6 a7 : Nat → Int32}
theorem tm_follow (D : Nat → Int32 → Prop)
    (hst : ∀ t, 1 ≤ t → t ≤ 16 → (a7 t = 16 ∧ ∀ u, D t u → D (t - 1) u) ∨ (a7 t = 0 ∧ ∃ s, s < t ∧ a1 0 = nI s ∧ ∀ u, D t u → D s (u ||| ((1 : Int32) <<< ((0 : Int32) &&& 31)))))
    (h0 : D 16 ud) (H : ∀ u w, D 0 u → post (tc, pr, us, u, kn, ch, a1, a2, a3, a4, w, a6, a7)) :
    wpX_follow post (tc, pr, us, ud, kn, ch, a1, a2, a3, a4, a5, a6, a7) := by
  unfold wpX_follow
  refine loop_m (fun n (s : Nat × Nat × Int32 × (Nat → Int32)) => wX_follow_5 post tc pr us kn ch n (nI s.1) (nI s.2.1) s.2.2.1 a1 a2 a3 a4 s.2.2.2 a6 a7) (fun s => s.1 + s.2.1 ≤ 16 ∧ D s.1 s.2.2.1) (fun s => s.1) ?_ (16, 0, ud, a5) ⟨show 16 + 0 ≤ 16 by omega, h0⟩
  rintro n ⟨t, c, u, w⟩ ⟨hb, hd⟩ hn
  dsimp only at hb hd hn ⊢
  have hcl : (nI t).toNatClampNeg = t := nI_clamp (by omega)
  refine pk_le 64 c (fun z => absurd z (by omega)) (fun _ => pk_le t 0 (fun z => ?_) (fun z => ⟨pk_in t 17 (by omega), ?_⟩))
  · have ht : t = 0 := by omega
    subst ht
    exact H u w hd
  · rw [hcl]
    have e1 : nI t - 1 = nI (t - 1) := pk_sub (a := t) (b := 1) (by omega)
    have e2 : nI t + (-1) = nI (t - 1) := sb_m1 (by omega)
    rcases hst t (by omega) (by omega) with ⟨h7, hD⟩ | ⟨h7, s, hs, h1, hD⟩
    · refine nm_r h7 (br_t rfl ⟨pk_in (t - 1) 16 (by omega) e1, pk_in (t - 1) 16 (by omega) e1, nm_e (nm_r e2 (nm_r (nI_1 c) ?_))⟩)
      exact hn (t - 1, c + 1, u, _) ⟨show t - 1 + (c + 1) ≤ 16 by omega, hD u hd⟩ (show t - 1 < t by omega)
    · refine nm_r h7 (br_f (by decide) (br_f (by decide) (br_t (by decide) (br_f (by decide) (nm_e ⟨pk_in 0 8 (by omega), nm_r h1 (nm_r (nI_1 c) ?_)⟩)))))
      exact hn (s, c + 1, _, w) ⟨show s + (c + 1) ≤ 16 by omega, hD u hd⟩ (show s < t by omega)
end
/-- the job at hand, if one is usable -/
def tm_G (us : Int32) (a1 a2 a4 : Nat → Int32) (s e g : Nat) : Prop := us = 1 → s < e ∧ e ≤ 16 ∧ a1 0 = nI s ∧ a2 0 = nI e ∧ a4 0 = nI g ∧ 0 < g ∧ g < 2 ^ 30
/-- the steps that findWays leaves -/
def tm_st (us ud : Int32) (e k : Nat) : Int32 := if us = 1 ∧ ud = 0 ∧ k = e then 0 else 16
theorem tm_stq {us ud : Int32} {e : Nat} (h : ud = us) (k : Nat) : tm_st us ud e k = 16 := by
  unfold tm_st
  subst h
  refine if_neg (fun z => ?_)
  rw [z.1] at z
  exact absurd z.2.1 (by decide)
theorem tm_stf {us ud : Int32} {e : Nat} (h : us = 1) (h' : ud = 0) (k : Nat) : tm_st us ud e k = if k = e then 0 else 16 := by
  unfold tm_st
  by_cases hk : k = e
  · rw [if_pos ⟨h, h', hk⟩, if_pos hk]
  · rw [if_neg (fun z => hk z.2.2), if_neg hk]
theorem tm_neg {g : Nat} (hg : g < 2 ^ 30) : nI 0 + -(nI g) ≤ nI 0 := by
  rw [nI_0, tm_0p]
  refine Int32.le_iff_toInt_le.mpr ?_
  rw [sb_negT (by omega)]
  have : (0 : Int32).toInt = 0 := by decide
  omega
section
variable {post : St2 → Prop} {tc pr us ud kn ch : Int32} {a1 a2 a3 a4 a5 a6 a7 : Nat → Int32} {s e g : Nat}
theorem tm_findU (hus : us = 0 ∨ us = 1) (hG : tm_G us a1 a2 a4 s e g) (hud : ud = us ∨ (ud = 0 ∧ us = 1 ∧ ∀ t, t < 16 → a5 t = 0))
    (H : ∀ r q, (∀ k, 1 ≤ k → k ≤ 16 → q k = tm_st us ud e k) → post (tc, pr, us, ud, kn, ch, a1, a2, a3, a4, a5, r, q)) :
    wpX_findWays post (tc, pr, us, ud, kn, ch, a1, a2, a3, a4, a5, a6, a7) := by
  rcases hud with hq | ⟨hd, hu, h5⟩
  · have hud2 : ud = 0 ∨ ud = 1 := by rw [hq]; exact hus
    refine tm_find (g := 0) (e := if e ≤ 16 then e else 0) (st := fun k => tm_st us ud e k) (by omega) (fun k _ _ => tm_stq hq k) (.inr rfl) hus hud2 (fun r q hI P hP => ?_) H
    have hE : (if e ≤ 16 then e else 0) ≤ 16 := by
      split
      · assumption
      · omega
    have hK : tm_K 0 (if e ≤ 16 then e else 0) (fun k => tm_st us ud e k) 0 r q := hI.elim (tm_FK hE (fun k _ _ => tm_stq hq k)) tm_K0
    rcases hus with h | h
    · refine tm_jobN ?_ ?_ (hP r q hK)
      · rw [hq, h]; exact tm_b0 0 (by omega)
      · rw [h]; exact tm_b0 0 (by omega)
    · obtain ⟨g1, g2, g3, g4, g5, g6, g7⟩ := hG h
      refine tm_jobB (hq.trans h) (s := s) (e := e) (by omega) (by omega) g3 g4 ?_ (hP r q hK)
      obtain ⟨m, _, _, _, k1, _⟩ := hK
      rw [k1 e (by omega), k1 s (by omega), ite_self, ite_self, g5]
      exact tm_neg g7
  · obtain ⟨g1, g2, g3, g4, g5, g6, g7⟩ := hG hu
    refine tm_find (g := g) (e := e) (st := fun k => tm_st us ud e k) g7 (fun k hk _ => ?_) (.inl (fun t ht => ?_)) hus (.inl hd) (fun r q hI P hP => ?_) H
    · show tm_st us ud e k = 16
      rw [tm_stf hu hd k, if_neg (by omega)]
    · rw [h5 t ht]
      decide
    · refine tm_jobU hd hu (s := s) (e := e) (by omega) (by omega) g3 g4 (fun hc => ?_) (fun _ hc => ?_)
      · rcases hI with hF | hK
        · refine absurd hc ?_
          rw [hF.1 s (by omega), hF.1 e (by omega), g5, nI_0, tm_0p]
          exact fun z => z.elim (tm_far (g := 0) (by omega)) (nI_nle g6 (by omega))
        · exact hP r q (tm_K0 hK)
      · rcases hI with hF | hK
        · exact hP _ _ (tm_FJ g2 (by rw [hF.1 s (by omega), g5, nI_0, tm_0p]) (fun k _ _ => tm_stf hu hd k) hF)
        · refine absurd ?_ hc
          obtain ⟨m, m1, m2, m3, k1, _⟩ := hK
          rw [k1 s (by omega), k1 e (by omega), if_neg (by omega), if_pos ⟨by omega, m2⟩, g5, nI_0, tm_0p]
          exact nI_le (by omega) (by omega)
theorem tm_folU (hus : us = 0 ∨ us = 1) (hG : tm_G us a1 a2 a4 s e g) (hud : ud = us ∨ (ud = 0 ∧ us = 1))
    (hq : ∀ k, 1 ≤ k → k ≤ 16 → a7 k = tm_st us ud e k)
    (H : ∀ w, post (tc, pr, us, us, kn, ch, a1, a2, a3, a4, w, a6, a7)) :
    wpX_follow post (tc, pr, us, ud, kn, ch, a1, a2, a3, a4, a5, a6, a7) := by
  rcases hud with h | ⟨hd, hu⟩
  · refine tm_follow (fun _ u => u = us) (fun t h1 h2 => .inl ⟨(hq t h1 h2).trans (tm_stq h t), fun u hu => hu⟩) h (fun u w hu => ?_)
    rw [hu]
    exact H w
  · obtain ⟨g1, g2, g3, g4, g5, g6, g7⟩ := hG hu
    refine tm_follow (fun t u => u = if t < e then 1 else 0) (fun t h1 h2 => ?_) ?_ (fun u w hu2 => ?_)
    · by_cases ht : t = e
      · refine .inr ⟨?_, s, by omega, g3, fun u hu2 => ?_⟩
        · rw [hq t h1 h2, tm_stf hu hd t, if_pos ht]
        · rw [if_neg (by omega)] at hu2
          rw [if_pos g1, hu2]
          decide
      · refine .inl ⟨?_, fun u hu2 => ?_⟩
        · rw [hq t h1 h2, tm_stf hu hd t, if_neg ht]
        · rw [hu2]
          by_cases h3 : t < e
          · rw [if_pos h3, if_pos (by omega)]
          · rw [if_neg h3, if_neg (by omega)]
    · show ud = if 16 < e then 1 else 0
      rw [hd, if_neg (by omega)]
    · have : u = us := by
        rw [hu2, if_pos (by omega), hu]
      rw [this]
      exact H w
theorem tm_send {N : Nat} {x : Int32} (hx : x = nI N) (hN : N ≤ 5) (hus : us = 0 ∨ us = 1) (hG : tm_G us a1 a2 a4 s e g) (hd : ud = 0) (h5 : ∀ t, t < 16 → a5 t = 0)
    (H : ∀ w r q, post (tc, pr, us, (if N = 0 then 0 else us), kn, ch, a1, a2, a3, a4, w, r, q)) :
    wpX_send post (tc, pr, us, ud, kn, ch, a1, a2, a3, a4, a5, a6, a7) x := by
  subst hx hd
  unfold wpX_send
  refine pk_loop (fun n i (z : Int32 × (Nat → Int32) × (Nat → Int32) × (Nat → Int32)) => wX_send_2 post (nI N) n (nI i) tc pr us z.1 kn ch a1 a2 a3 a4 z.2.1 z.2.2.1 z.2.2.2) (fun i z => z.1 = (if i = 0 then 0 else us) ∧ (i = 0 → ∀ t, t < 16 → z.2.1 t = 0)) N 0 (0, a5, a6, a7) (by omega) ⟨rfl, fun _ => h5⟩ ?_ ?_
  · rintro n ⟨u, w, r, q⟩ ⟨h1, _⟩
    dsimp only at h1 ⊢
    subst h1
    exact pk_le N N (fun _ => H w r q) (fun z => absurd z (by omega))
  · rintro n i ⟨u, w, r, q⟩ hi ⟨h1, h2⟩ hn
    dsimp only at h1 h2 hn ⊢
    have hc : u = us ∨ (u = 0 ∧ us = 1 ∧ ∀ t, t < 16 → w t = 0) := by
      by_cases hi0 : i = 0
      · rw [if_pos hi0] at h1
        rcases hus with z | z
        · exact .inl (h1.trans z.symm)
        · exact .inr ⟨h1, z, h2 hi0⟩
      · rw [if_neg hi0] at h1
        exact .inl h1
    refine pk_le N i (fun z => absurd z (by omega)) (fun _ => tm_findU hus hG hc (fun r' q' hq' => ?_))
    refine tm_folU hus hG (hc.elim .inl (fun z => .inr ⟨z.1, z.2.1⟩)) hq' (fun w' => ?_)
    refine nm_r (nI_1 i) (hn (us, w', r', q') ⟨?_, fun z => absurd z (by omega)⟩)
    show us = if i + 1 = 0 then 0 else us
    rw [if_neg (by omega)]
end
section
variable {post : St2 → Prop} {tc pr us ud kn ch : Int32} {a1 a2 a3 a4 a5 a6 a7 : Nat → Int32}
theorem tm_prep37 (H : ∀ w, (∀ t, t < 16 → w t = 0) → post (tc, pr, us, ud, kn, ch, a1, a2, a3, a4, w, a6, a7)) :
    ∃ n, wX_prepare_37 post tc pr us ud kn ch n 0 a1 a2 a3 a4 a5 a6 a7 := by
  refine pk_loop (fun n i (w : Nat → Int32) => wX_prepare_37 post tc pr us ud kn ch n (nI i) a1 a2 a3 a4 w a6 a7) (fun i w => ∀ t, t < i → w t = 0) 16 0 a5 (by omega) (fun t h => absurd h (by omega))
    (fun n w h => pk_le 16 16 (fun _ => H w h) (fun z => absurd z (by omega))) ?_
  intro n i w hi h hn
  refine pk_le 16 i (fun z => absurd z (by omega)) (fun _ => ⟨pk_in i 16 hi, nm_e (nm_r (nI_1 i) (hn _ (fun t ht => ?_)))⟩)
  rw [nI_clamp (show i < 2 ^ 31 by omega)]
  by_cases et : t = i
  · rw [et, pk_us]
  · rw [pk_un et]
    exact h t (by omega)
theorem tm_prep {x : Int32} (H : ∀ f w, f 0 = a3 0 * 256 + 128 → (∀ t, t < 16 → w t = 0) → post (tc, pr, x, 0, kn, ch, a1, a2, a3, f, w, a6, a7)) :
    wpX_prepare post (tc, pr, us, ud, kn, ch, a1, a2, a3, a4, a5, a6, a7) x := by
  unfold wpX_prepare
  refine pk_loop (fun n i (f : Nat → Int32) => wX_prepare_12 post tc pr x 0 kn ch n (nI i) a1 a2 a3 f a5 a6 a7) (fun i f => 0 < i → f 0 = a3 0 * 256 + 128) 8 0 a4 (by omega) (fun h => absurd h (by omega))
    (fun n f h => pk_le 8 8 (fun _ => tm_prep37 (fun w hw => H f w (h (by omega)) hw)) (fun z => absurd z (by omega))) ?_
  intro n i f hi h hn
  refine pk_le 8 i (fun z => absurd z (by omega)) (fun _ => ?_)
  unfold wpX_markedWorth
  dsimp only
  refine ⟨pk_in i 8 hi, pk_in i 8 hi, nm_e (nm_r (nI_1 i) (hn _ (fun _ => ?_)))⟩
  rw [nI_clamp (show i < 2 ^ 31 by omega)]
  by_cases hi0 : i = 0
  · subst hi0
    rw [pk_us]
    rfl
  · rw [pk_un (by omega)]
    exact h (by omega)
end
end
section
/-- the job that is there, if one is -/
def tm_J (pr : Int32) (a1 a2 a3 : Nat → Int32) (s e w : Nat) : Prop := pr = 1 → s < e ∧ e ≤ 16 ∧ a1 0 = nI s ∧ a2 0 = nI e ∧ a3 0 = nI w ∧ 1 ≤ w ∧ w ≤ 20
theorem tm_gain (w : Nat) : nI w * 256 + 128 = nI (w * 256 + 128) := by
  rw [show (256 : Int32) = nI 256 from rfl, show (128 : Int32) = nI 128 from rfl, pk_mul, nI_add]
theorem tm_i8 : ∀ s, s < 128 → (nI s).toInt8.toInt32 = nI s := by decide +kernel
section
variable {tc pr us ud kn ch : Int32} {a1 a2 a3 a4 a5 a6 a7 : Nat → Int32} {s e w N : Nat}
theorem tm_JG {y : Int32} {f : Nat → Int32} (hy : y = 1 → pr = 1) (h : tm_J pr a1 a2 a3 s e w) (hf : f 0 = a3 0 * 256 + 128) : tm_G y a1 a2 f s e (w * 256 + 128) := by
  intro hp
  obtain ⟨h1, h2, h3, h4, h5, h6, h7⟩ := h (hy hp)
  refine ⟨h1, h2, h3, h4, ?_, by omega, by omega⟩
  rw [hf, h5, tm_gain]
theorem tm_J0 (h : pr = 0) : tm_J pr a1 a2 a3 s e w := fun z => absurd (h.symm.trans z) (by decide)
theorem tm_choose {post : St2 → Prop} (htc : tc = nI N) (hN : N ≤ 4) (hpr : pr = 0 ∨ pr = 1) (hJ : tm_J pr a1 a2 a3 s e w)
    (H0 : kn = 0 → ∀ f v r q, post (tc, pr, pr, (if N = 0 then 0 else pr), 1, (if N = 0 then 0 else pr), a1, a2, a3, f, v, r, q))
    (H1 : ¬ kn = 0 → post (tc, pr, us, ud, kn, ch, a1, a2, a3, a4, a5, a6, a7)) :
    wpX_choose post (tc, pr, us, ud, kn, ch, a1, a2, a3, a4, a5, a6, a7) := by
  unfold wpX_choose
  refine br_c (fun h => tm_prep (fun f v hf hv => ?_)) H1
  refine tm_send htc (by omega) hpr (tm_JG (fun z => z) hJ hf) rfl hv (fun v' r q => ?_)
  exact H0 h f v' r q
theorem tm_chooseK {post : St2 → Prop} (hk : ¬ kn = 0) (H : post (tc, pr, us, ud, kn, ch, a1, a2, a3, a4, a5, a6, a7)) :
    wpX_choose post (tc, pr, us, ud, kn, ch, a1, a2, a3, a4, a5, a6, a7) := by
  unfold wpX_choose
  exact br_f hk H
theorem tm_ms0 {post : Int32 → Prop} {x : Int32} (hx : x = 0) (H : post 0) : wpX_markedSum post (tc, pr, us, ud, kn, ch, a1, a2, a3, a4, a5, a6, a7) x := by
  subst hx
  unfold wpX_markedSum
  exact pk_loop (σ := Unit) (fun n i _ => wX_markedSum_4 post 0 tc pr us ud kn ch a1 a2 a3 a4 a5 a6 a7 n 0 (nI i)) (fun _ _ => True) 8 0 () (by omega) trivial
    (fun n _ _ => pk_le 8 8 (fun _ => H) (fun z => absurd z (by omega)))
    (fun n i _ hi _ hn => pk_le 8 i (fun z => absurd z (by omega)) (fun _ => br_t (tm_b0 i hi) (nm_r (nI_1 i) (hn () trivial))))
theorem tm_plain0 {post : Int32 → Prop} (H : post 0) : wpX_plain post () 0 := by
  unfold wpX_plain
  rw [show ((0 : Int32) >>> ((8 : Int32) &&& 31)) = 0 by decide]
  exact H
theorem tm_total0 {post : Int32 → St2 → Prop} (htc : tc = nI N) (hN : N ≤ 4) (hpr : pr = 0) (hch : ch = 0)
    (H : ∀ us' ud' kn' ch' f v r q, ch' = 0 → post 0 (tc, pr, us', ud', kn', ch', a1, a2, a3, f, v, r, q)) :
    wpX_total post (tc, pr, us, ud, kn, ch, a1, a2, a3, a4, a5, a6, a7) := by
  unfold wpX_total
  have hz : (if N = 0 then 0 else pr) = 0 := by rw [hpr, ite_self]
  refine tm_choose (s := 0) (e := 0) (w := 0) htc hN (.inl hpr) (tm_J0 hpr) (fun _ f v r q => ?_) (fun _ => ?_)
  · exact tm_ms0 hz (tm_plain0 (H _ _ _ _ _ _ _ _ hz))
  · exact tm_ms0 hch (tm_plain0 (H _ _ _ _ _ _ _ _ hch))
theorem tm_totalFor0 {post : Int32 → St2 → Prop} {x : Int32} (hx : x = nI N) (hN : N ≤ 5) (hpr : pr = 0)
    (H : ∀ us' ud' f v r q, post 0 (tc, pr, us', ud', kn, ch, a1, a2, a3, f, v, r, q)) :
    wpX_totalFor post (tc, pr, us, ud, kn, ch, a1, a2, a3, a4, a5, a6, a7) x := by
  unfold wpX_totalFor
  have hz : (if N = 0 then 0 else pr) = 0 := by rw [hpr, ite_self]
  refine tm_prep (fun f v hf hv => ?_)
  refine tm_send (s := 0) (e := 0) (g := 0) hx hN (.inl hpr) (fun z => absurd (hpr.symm.trans z) (by decide)) rfl hv (fun v' r q => ?_)
  exact tm_ms0 hz (tm_plain0 (H _ _ _ _ _ _))
theorem tm_loss {post : Int32 → St2 → Prop} (htc : tc = nI N) (hN : N ≤ 4) (hpr : pr = 0) (hch : ch = 0)
    (H0 : N = 0 → post (-1) (tc, pr, us, ud, kn, ch, a1, a2, a3, a4, a5, a6, a7))
    (H1 : 0 < N → ∀ us' ud' kn' ch' f v r q, ch' = 0 → post 0 (tc, pr, us', ud', kn', ch', a1, a2, a3, f, v, r, q)) :
    wpX_loss post (tc, pr, us, ud, kn, ch, a1, a2, a3, a4, a5, a6, a7) := by
  unfold wpX_loss
  refine pk_eq N 0 H0 (fun h => ?_) htc
  refine tm_total0 htc hN hpr hch (fun us' ud' kn' ch' f v r q hc => ?_)
  refine tm_totalFor0 (N := N - 1) ?_ (by omega) hpr (fun us2 ud2 f2 v2 r2 q2 => ?_)
  · rw [htc]
    exact pk_sub (a := N) (b := 1) (by omega)
  · have E : ((0 : Int32) - 0) = 0 := by decide
    show post (0 - 0) (tc, pr, us2, ud2, kn', ch', a1, a2, a3, f2, v2, r2, q2)
    rw [E]
    exact H1 (by omega) us2 ud2 kn' ch' f2 v2 r2 q2 hc
theorem tm_has {post : Int32 → Prop} {x : Int32} (hpr : pr = 0 ∨ pr = 1) (H0 : ¬ (pr = 1 ∧ x = 0) → post 0) (H1 : pr = 1 → x = 0 → post 1) :
    wpX_has post (tc, pr, us, ud, kn, ch, a1, a2, a3, a4, a5, a6, a7) x := by
  unfold wpX_has
  refine br_c (fun h => H0 (fun z => ?_)) (fun h => br_c (fun h8 => H0 (fun z => ?_)) (fun h8 => ?_))
  · rw [z.2] at h
    exact absurd h (by decide)
  · rw [z.2] at h8
    exact absurd h8 (by decide)
  · obtain ⟨j, hj, hx⟩ : ∃ j : Nat, j < 8 ∧ x = nI j := by
      rcases pk_ix x (n := 8) (by omega) with z | z | z
      · exact absurd z h
      · exact absurd z h8
      · exact z
    subst hx
    by_cases hj0 : j = 0
    · subst hj0
      rcases hpr with z | z
      · exact br_t (by rw [z]; exact tm_b0 0 (by omega)) (H0 (fun y => absurd (z.symm.trans y.1) (by decide)))
      · exact br_f (by rw [z]; exact tm_b1n) (H1 z rfl)
    · exact br_t (tm_bz hpr hj (by omega)) (H0 (fun y => hj0 ((nI_eq (b := 0) (by omega) (by omega)).mp y.2)))
theorem tm_bring {post : Int32 → St2 → Prop} {x y z : Int32} (hpr : pr = 0)
    (H0 : ¬ (¬ x < 0 ∧ ¬ 16 < y ∧ ¬ y ≤ x ∧ ¬ z < 1 ∧ z ≤ 20) → post (-1) (tc, pr, us, ud, kn, ch, a1, a2, a3, a4, a5, a6, a7))
    (H1 : (¬ x < 0 ∧ ¬ 16 < y ∧ ¬ y ≤ x ∧ ¬ z < 1 ∧ z ≤ 20) → ∀ b1 b2 b3 : Nat → Int32, b1 0 = x.toInt8.toInt32 → b2 0 = y.toInt8.toInt32 → b3 0 = z.toInt8.toInt32 → post 0 (tc, 1, us, ud, 0, ch, b1, b2, b3, a4, a5, a6, a7)) :
    wpX_bring post (tc, pr, us, ud, kn, ch, a1, a2, a3, a4, a5, a6, a7) x y z := by
  unfold wpX_bring
  refine br_c (fun h => H0 (fun c => c.1 h)) (fun c1 => br_c (fun h => H0 (fun c => c.2.1 h)) (fun c2 => br_c (fun h => H0 (fun c => c.2.2.1 h)) (fun c3 => br_c (fun h => H0 (fun c => c.2.2.2.1 h)) (fun c4 => br_c (fun c5 => ⟨1, ?_⟩) (fun h => H0 (fun c => h c.2.2.2.2))))))
  refine br_f (by decide) (tm_has (.inl hpr) (fun _ => br_t rfl (nm_r (e' := 1) (by rw [hpr]; decide) ⟨pk_in 0 8 (by omega), nm_e ⟨pk_in 0 8 (by omega), nm_e ⟨pk_in 0 8 (by omega), nm_e ?_⟩⟩⟩)) (fun h => absurd (hpr.symm.trans h) (by decide)))
  exact H1 ⟨c1, c2, c3, c4, c5⟩ _ _ _ pk_us pk_us pk_us
theorem tm_best {post : Int32 → St2 → Prop} {mu nv y : Int32} (htc : tc = nI N) (hN : N ≤ 4) (hJ : tm_J pr a1 a2 a3 s e w) (hp1 : pr = 1) (hmu : mu = 0 ∨ mu = 1) (hnv : pr &&& (nv ^^^ (-1)) = y) (hy : y = 0 ∨ y = 1)
    (H : ∀ f v r q, ((mu &&& ((if N = 0 then 0 else y) ^^^ (-1))) = 0 → post (if N = 0 then 0 else y) (tc, pr, y, (if N = 0 then 0 else y), kn, ch, a1, a2, a3, f, v, r, q)) ∧ (¬ (mu &&& ((if N = 0 then 0 else y) ^^^ (-1))) = 0 → post (-1) (tc, pr, y, (if N = 0 then 0 else y), kn, ch, a1, a2, a3, f, v, r, q))) :
    wpX_bestWith post (tc, pr, us, ud, kn, ch, a1, a2, a3, a4, a5, a6, a7) mu nv := by
  unfold wpX_bestWith
  dsimp only
  rw [hnv]
  refine tm_prep (fun f v hf hv => ?_)
  have hw : w * 256 + 128 ≤ 6000 := by
    have := (hJ hp1).2.2.2.2.2.2
    omega
  refine pk_loop (fun n i (f : Nat → Int32) => wX_bestWith_14 post mu tc pr y 0 kn ch n (nI i) a1 a2 a3 f v a6 a7) (fun i f => ∃ g, (i = 0 → g ≤ 6000) ∧ tm_G y a1 a2 f s e g) 8 0 f (by omega) ⟨w * 256 + 128, fun _ => hw, tm_JG (fun _ => hp1) hJ hf⟩ ?_ ?_
  · rintro n f ⟨g, _, hG⟩
    refine pk_le 8 8 (fun _ => ?_) (fun z => absurd z (by omega))
    refine tm_send htc (by omega) hy hG rfl hv (fun v' r q => ?_)
    exact H f v' r q
  · rintro n i f hi ⟨g, hg, hG⟩ hn
    refine pk_le 8 i (fun z => absurd z (by omega)) (fun _ => ?_)
    refine br_c (fun _ => nm_r (nI_1 i) (hn f ⟨g, fun z => absurd z (by omega), hG⟩)) (fun hb => ⟨pk_in i 8 hi, pk_in i 8 hi, nm_e (nm_r (nI_1 i) ?_)⟩)
    have hi0 : i = 0 := by
      rcases Nat.eq_zero_or_pos i with z | z
      · exact z
      · exact absurd (tm_bz hmu hi z) hb
    subst hi0
    have hg' := hg rfl
    refine hn _ ⟨g + 1048576, fun z => absurd z (by omega), fun hy1 => ?_⟩
    obtain ⟨g1, g2, g3, g4, g5, g6, g7⟩ := hG hy1
    refine ⟨g1, g2, g3, g4, ?_, by omega, by omega⟩
    rw [nI_clamp (by omega), pk_us, g5, show (1048576 : Int32) = nI 1048576 from rfl, nI_add]
theorem tm_price {post : Int32 → St2 → Prop} {x : Int32} (htc : tc = nI N) (hN : N ≤ 4) (hpr : pr = 0 ∨ pr = 1) (hJ : tm_J pr a1 a2 a3 s e w)
    (H0 : ¬ (pr = 1 ∧ x = 0) → post (-1) (tc, pr, us, ud, kn, ch, a1, a2, a3, a4, a5, a6, a7))
    (H1 : pr = 1 → x = 0 → ∀ us' ud' f v r q, post (if N = 0 then 21 else 1) (tc, pr, us', ud', kn, ch, a1, a2, a3, f, v, r, q)) :
    wpX_price post (tc, pr, us, ud, kn, ch, a1, a2, a3, a4, a5, a6, a7) x := by
  unfold wpX_price
  refine tm_has hpr (fun h => br_t rfl (H0 h)) (fun h hx => br_f (by decide) ?_)
  subst hx
  refine tm_best (y := 1) htc hN hJ h (.inr (by decide)) (by rw [h]; decide) (.inr rfl) (fun f v r q => ?_)
  by_cases hN0 : N = 0
  · have H1' := H1 h rfl
    rw [if_pos hN0] at H1'
    rw [if_pos hN0]
    refine br_f (by decide) ?_
    exact br_f (by decide) (H1' _ _ _ _ _ _)
  · have H1' := H1 h rfl
    rw [if_neg hN0] at H1'
    rw [if_neg hN0]
    refine br_t (by decide) ?_
    refine br_t (by decide) (tm_ms0 (by decide) ?_)
    refine tm_best (y := 0) htc hN hJ h (.inl rfl) (by rw [h]; decide) (.inl rfl) (fun f v r q => ?_)
    rw [ite_self]
    refine br_t (by decide) ?_
    refine tm_ms0 rfl (nm_r (e' := 0) (by decide) ⟨1, ?_⟩)
    refine br_f (by decide) (br_f (by decide) ?_)
    exact H1' _ _ _ _ _ _
theorem tm_crowd {post : Int32 → Prop} {c x : Int32} (hc : c = 0 ∨ c = 1) (H : post (if c = 1 ∧ ¬ x < a1 0 ∧ ¬ a2 0 ≤ x then 1 else 0)) :
    wpX_crowd post (tc, pr, us, ud, kn, ch, a1, a2, a3, a4, a5, a6, a7) c x := by
  unfold wpX_crowd
  refine pk_loop (fun n i (z : Int32) => wX_crowd_5 post c x tc pr us ud kn ch a1 a2 a3 a4 a5 a6 a7 n z (nI i)) (fun i z => z = if i = 0 then 0 else (if c = 1 ∧ ¬ x < a1 0 ∧ ¬ a2 0 ≤ x then 1 else 0)) 8 0 0 (by omega) (by rw [if_pos rfl]) ?_ ?_
  · intro n z h
    rw [if_neg (by omega)] at h
    subst h
    exact pk_le 8 8 (fun _ => H) (fun z => absurd z (by omega))
  · intro n i z hi h hn
    refine pk_le 8 i (fun z => absurd z (by omega)) (fun _ => ?_)
    by_cases hi0 : i = 0
    · subst hi0
      rw [if_pos rfl] at h
      subst h
      have hn' : ∀ z : Int32, z = (if c = 1 ∧ ¬ x < a1 0 ∧ ¬ a2 0 ≤ x then 1 else 0) → wX_crowd_5 post c x tc pr us ud kn ch a1 a2 a3 a4 a5 a6 a7 n z (nI (0 + 1)) := fun z hz => hn z (by rw [if_neg (by omega)]; exact hz)
      rcases hc with e | e
      · refine br_t (by rw [e]; exact tm_b0 0 (by omega)) (nm_r (nI_1 0) (hn' 0 ?_))
        rw [if_neg (fun y => absurd (e.symm.trans y.1) (by decide))]
      · refine br_f (by rw [e]; exact tm_b1n) ⟨pk_in 0 8 (by omega), br_c (fun g => nm_r (nI_1 0) (hn' 0 ?_)) (fun g => ⟨pk_in 0 8 (by omega), br_c (fun g2 => nm_r (nI_1 0) (hn' 0 ?_)) (fun g2 => nm_r (e' := 1) (by decide) (nm_r (nI_1 0) (hn' 1 ?_)))⟩)⟩
        · rw [if_neg (fun y => y.2.1 g)]
        · rw [if_neg (fun y => y.2.2 g2)]
        · rw [if_pos ⟨e, g, g2⟩]
    · refine br_t (tm_bz hc hi (by omega)) (nm_r (nI_1 i) (hn z ?_))
      rw [if_neg hi0] at h
      rw [if_neg (by omega)]
      exact h
theorem tm_busy {post : Int32 → St2 → Prop} {x : Int32} (hk : ¬ kn = 0) (hc : ch = 0 ∨ ch = 1)
    (H0 : (x < 0 ∨ ¬ x < 16) → post 0 (tc, pr, us, ud, kn, ch, a1, a2, a3, a4, a5, a6, a7))
    (H1 : post (if ch = 1 ∧ ¬ x < a1 0 ∧ ¬ a2 0 ≤ x then 1 else 0) (tc, pr, us, ud, kn, ch, a1, a2, a3, a4, a5, a6, a7)) :
    wpX_busy post (tc, pr, us, ud, kn, ch, a1, a2, a3, a4, a5, a6, a7) x := by
  unfold wpX_busy
  refine br_c (fun h => H0 (.inl h)) (fun _ => br_c (fun _ => tm_chooseK hk ?_) (fun h => H0 (.inr h)))
  exact tm_crowd hc H1
end
end
section
/-- what the law calls a good job -/
def tm_good (x y z : Int32) : Prop := ¬ x < 0 ∧ ¬ y ≤ x ∧ ¬ 16 < y ∧ ¬ z < 1 ∧ ¬ 20 < z
theorem tm_le0 {N : Nat} (hN : N ≤ 4) : nI N ≤ 0 ↔ N = 0 := nI_leI (b := 0) (by omega) (by omega) |>.trans (by omega)
theorem tm_ifN {N : Nat} {a b : Int32} (hN : N ≤ 4) : (if N = 0 then a else b) = (if nI N ≤ 0 then a else b) := by
  by_cases h : N = 0
  · rw [if_pos h, if_pos ((tm_le0 hN).mpr h)]
  · rw [if_neg h, if_neg (fun z => h ((tm_le0 hN).mp z))]
/-- the clamp of the number of tracks -/
theorem tm_sel (p : Int32) : ∃ N : Nat, N ≤ 4 ∧ ∀ A : Int32 → Prop, A (nI N) → ((0 ≤ p → ((p ≤ 4 → A p) ∧ (¬ p ≤ 4 → A 4))) ∧ (¬ 0 ≤ p → A 0)) := by
  by_cases h0 : 0 ≤ p
  · by_cases h4 : p ≤ 4
    · obtain ⟨N, hN, e⟩ := nI_of2 (x := p) (M := 4) (n := 4) (by decide) (fun z => absurd h0 (Int32.not_le.mpr z)) h4
      exact ⟨N, hN, fun A h => br_t h0 (br_t h4 (by rw [e]; exact h))⟩
    · exact ⟨4, by omega, fun A h => br_t h0 (br_f h4 h)⟩
  · exact ⟨0, by omega, fun A h => br_f h0 h⟩
section
variable {tc pr us ud kn ch : Int32} {a1 a2 a3 a4 a5 a6 a7 : Nat → Int32} {s e w N : Nat}
theorem tm_lossL {post : Int32 → St2 → Prop} (htc : tc = nI N) (hN : N ≤ 4) (hpr : pr = 0) (hch : ch = 0)
    (H : ∀ x6 us' ud' kn' ch' f v r q, x6 = (if N = 0 then -1 else 0) → ch' = 0 → post x6 (tc, pr, us', ud', kn', ch', a1, a2, a3, f, v, r, q)) :
    wpX_loss post (tc, pr, us, ud, kn, ch, a1, a2, a3, a4, a5, a6, a7) :=
  tm_loss htc hN hpr hch (fun h => H (-1) us ud kn ch a4 a5 a6 a7 (by rw [if_pos h]) hch)
    (fun h us' ud' kn' ch' f v r q hc => H 0 us' ud' kn' ch' f v r q (by rw [if_neg (by omega)]) hc)
theorem tm_bringL {post : Int32 → St2 → Prop} {x y z : Int32} (hpr : pr = 0)
    (H : ∀ x7 pr' kn' b1 b2 b3 s e w, ((tm_good x y z ∧ x7 = 0 ∧ pr' = 1 ∧ kn' = 0 ∧ x = nI s ∧ y = nI e) ∨ (¬ tm_good x y z ∧ x7 = -1 ∧ pr' = 0)) → tm_J pr' b1 b2 b3 s e w → post x7 (tc, pr', us, ud, kn', ch, b1, b2, b3, a4, a5, a6, a7)) :
    wpX_bring post (tc, pr, us, ud, kn, ch, a1, a2, a3, a4, a5, a6, a7) x y z := by
  refine tm_bring hpr (fun h => ?_) (fun h b1 b2 b3 e1 e2 e3 => ?_)
  · refine H (-1) pr kn a1 a2 a3 0 0 0 (.inr ⟨fun g => h ?_, rfl, hpr⟩) (tm_J0 hpr)
    exact ⟨g.1, g.2.2.1, g.2.1, g.2.2.2.1, Int32.not_lt.mp g.2.2.2.2⟩
  · obtain ⟨h1, h2, h3, h4, h5⟩ := h
    obtain ⟨w, hw, ez⟩ := nI_of2 (x := z) (M := 20) (n := 20) (by decide) (fun c => h4 (Int32.lt_trans c (by decide))) h5
    obtain ⟨e, he, ey⟩ := nI_of2 (x := y) (M := 16) (n := 16) (by decide) (fun c => h1 (Int32.lt_trans (Int32.not_le.mp h3) c)) (Int32.not_lt.mp h2)
    obtain ⟨s, hs, ex⟩ := nI_of2 (x := x) (M := 16) (n := 16) (by decide) h1 (Int32.le_trans (Int32.le_of_lt (Int32.not_le.mp h3)) (Int32.not_lt.mp h2))
    refine H 0 1 0 b1 b2 b3 s e w (.inl ⟨⟨h1, h3, h2, h4, fun c => absurd h5 (Int32.not_le.mpr c)⟩, rfl, rfl, rfl, ex, ey⟩) (fun _ => ?_)
    subst ex ey ez
    rw [tm_i8 s (by omega)] at e1
    rw [tm_i8 e (by omega)] at e2
    rw [tm_i8 w (by omega)] at e3
    refine ⟨(nI_ltI (by omega) (by omega)).mp (Int32.not_le.mp h3), he, e1, e2, e3, ?_, hw⟩
    rcases Nat.eq_zero_or_pos w with c | c
    · subst c
      exact absurd (show nI 0 < 1 by decide) h4
    · exact c
theorem tm_chosenL {post : Int32 → St2 → Prop} (htc : tc = nI N) (hN : N ≤ 4) (hpr : pr = 0 ∨ pr = 1) (hJ : tm_J pr a1 a2 a3 s e w) (hk : ¬ kn = 0 → pr = 0) (hch : ch = 0)
    (H : ∀ us' ud' kn' ch' f v r q, ¬ kn' = 0 → ch' = (if N = 0 then 0 else pr) → post ch' (tc, pr, us', ud', kn', ch', a1, a2, a3, f, v, r, q)) :
    wpX_chosen post (tc, pr, us, ud, kn, ch, a1, a2, a3, a4, a5, a6, a7) := by
  unfold wpX_chosen
  refine tm_choose htc hN hpr hJ (fun _ f v r q => ?_) (fun h => ?_)
  · exact H _ _ _ _ _ _ _ _ (by decide) rfl
  · exact H _ _ _ _ _ _ _ _ h (by rw [hk h, ite_self, hch])
theorem tm_priceL {post : Int32 → St2 → Prop} {x : Int32} (htc : tc = nI N) (hN : N ≤ 4) (hpr : pr = 0 ∨ pr = 1) (hJ : tm_J pr a1 a2 a3 s e w)
    (H : ∀ x9 us' ud' f v r q, x9 = (if pr = 0 ∨ ¬ x = 0 then -1 else if nI N ≤ 0 then 21 else 1) → post x9 (tc, pr, us', ud', kn, ch, a1, a2, a3, f, v, r, q)) :
    wpX_price post (tc, pr, us, ud, kn, ch, a1, a2, a3, a4, a5, a6, a7) x := by
  refine tm_price htc hN hpr hJ (fun h => H _ _ _ _ _ _ _ ?_) (fun h hx us' ud' f v r q => H _ _ _ _ _ _ _ ?_)
  · refine (if_pos ?_).symm
    rcases hpr with z | z
    · exact .inl z
    · exact .inr (fun y => h ⟨z, y⟩)
  · rw [tm_ifN hN, if_neg (c := pr = 0 ∨ ¬ x = 0)]
    rintro (z | z)
    · exact absurd (z.symm.trans h) (by decide)
    · exact z hx
theorem tm_busyL {post : Int32 → St2 → Prop} {x y z : Int32} (hN : N ≤ 4) (hk : ¬ kn = 0) (hpr : pr = 0 ∨ pr = 1) (hJ : tm_J pr a1 a2 a3 s e w) (hxy : pr = 1 → y = nI s ∧ z = nI e) (hch : ch = if N = 0 then 0 else pr)
    (H : ∀ x10, x10 = (if (pr = 0 ∨ nI N ≤ 0) ∨ x < y ∨ z ≤ x then 0 else 1) → post x10 (tc, pr, us, ud, kn, ch, a1, a2, a3, a4, a5, a6, a7)) :
    wpX_busy post (tc, pr, us, ud, kn, ch, a1, a2, a3, a4, a5, a6, a7) x := by
  have hc : ch = 0 ∨ ch = 1 := by
    rw [hch]
    by_cases h : N = 0
    · exact .inl (if_pos h)
    · rw [if_neg h]
      exact hpr
  refine tm_busy hk hc (fun h => H 0 ?_) (H _ ?_)
  · refine (if_pos ?_).symm
    rcases hpr with p | p
    · exact .inl (.inl p)
    · obtain ⟨ey, ez⟩ := hxy p
      obtain ⟨h1, h2, _⟩ := hJ p
      rcases h with h | h
      · refine .inr (.inl ?_)
        rw [ey]
        exact Int32.lt_of_lt_of_le h (nI_pos' (by omega))
      · refine .inr (.inr ?_)
        rw [ez]
        exact Int32.le_trans (nI_le (b := 16) h2 (by omega)) (Int32.not_lt.mp h)
  · rcases hpr with p | p
    · rw [if_pos (c := (pr = 0 ∨ nI N ≤ 0) ∨ x < y ∨ z ≤ x) (.inl (.inl p)), if_neg]
      intro q
      rw [hch, p, ite_self] at q
      exact absurd q.1 (by decide)
    · by_cases h : N = 0
      · rw [if_pos (c := (pr = 0 ∨ nI N ≤ 0) ∨ x < y ∨ z ≤ x) (.inl (.inr ((tm_le0 hN).mpr h))), if_neg]
        intro q
        rw [hch, if_pos h] at q
        exact absurd q.1 (by decide)
      · rw [if_neg h, p] at hch
        obtain ⟨ey, ez⟩ := hxy p
        obtain ⟨_, _, h3, h4, _⟩ := hJ p
        rw [h3, h4, ← ey, ← ez]
        by_cases c1 : x < y
        · rw [if_neg (fun q => q.2.1 c1), if_pos (.inr (.inl c1))]
        · by_cases c2 : z ≤ x
          · rw [if_neg (fun q => q.2.2 c2), if_pos (.inr (.inr c2))]
          · rw [if_pos ⟨hch, c1, c2⟩, if_neg]
            rintro ((q | q) | q | q)
            · exact absurd (q.symm.trans p) (by decide)
            · exact h ((tm_le0 hN).mp q)
            · exact c1 q
            · exact c2 q
theorem tm_setL {post : Int32 → St2 → Prop} {x : Int32}
    (H : ∀ x11 tc' kn', x11 = (if x < 0 ∨ 4 < x then 0 else 1) → post x11 (tc', pr, us, ud, kn', ch, a1, a2, a3, a4, a5, a6, a7)) :
    wpX_setTracks post (tc, pr, us, ud, kn, ch, a1, a2, a3, a4, a5, a6, a7) x := by
  unfold wpX_setTracks
  refine br_c (fun h => H 0 tc kn (by rw [if_pos (.inl h)])) (fun h => br_c (fun h4 => H 1 x 0 ?_) (fun h4 => H 0 tc kn (by rw [if_pos (.inr (Int32.not_le.mp h4))])))
  rw [if_neg]
  rintro (z | z)
  · exact h z
  · exact absurd h4 (Int32.not_le.mpr z)
end
section
variable {post : Int32 → St0 → Prop} {mc ms kc ks : Nat} {x1 x2 x3 x4 x6 x7 x8 x9 x10 x11 x12 x13 x14 z0 z1 : Int32}
theorem tm_251 (H : post 1 ()) (h : z1 = z0) : wL_lawOf_251 post mc ms z0 z1 kc ks := by
  unfold wL_lawOf_251
  exact br_t h H
theorem tm_230 (H : post 1 ()) (h : z1 = z0) (h11 : x11 = (if x4 < 0 ∨ 4 < x4 then 0 else 1)) : wL_lawOf_230 post mc ms x4 x11 z0 z1 kc ks := by
  unfold wL_lawOf_230 wL_lawOf_250
  refine br_t h (br_c (fun c => tm_251 H ?_) (fun c => br_c (fun d => tm_251 H ?_) (fun d => tm_251 H ?_)))
  · rw [h11, if_pos (.inl c)]
  · rw [h11, if_pos (.inr d)]
  · rw [h11, if_neg (fun q => q.elim c d)]
theorem tm_203 (H : post 1 ()) (h : z1 = z0) (h10 : x10 = (if x14 = 0 ∨ x4 < x1 ∨ x2 ≤ x4 then 0 else 1)) (h11 : x11 = (if x4 < 0 ∨ 4 < x4 then 0 else 1)) : wL_lawOf_203 post mc ms x1 x2 x4 x10 x11 x14 z0 z1 kc ks := by
  unfold wL_lawOf_203 wL_lawOf_229
  refine br_t h (br_c (fun c => tm_230 H ?_ h11) (fun c => br_c (fun d => tm_230 H ?_ h11) (fun d => br_c (fun k => tm_230 H ?_ h11) (fun k => tm_230 H ?_ h11))))
  · rw [h10, if_pos (.inl c)]
  · rw [h10, if_pos (.inr (.inl d))]
  · rw [h10, if_pos (.inr (.inr k))]
  · rw [h10, if_neg (fun q => q.elim c (fun q => q.elim d k))]
theorem tm_173 (H : post 1 ()) (h : z1 = z0) (h9 : x9 = (if x13 = 0 ∨ ¬ x4 = 0 then -1 else if x12 ≤ 0 then 21 else 1)) (h10 : x10 = (if x14 = 0 ∨ x4 < x1 ∨ x2 ≤ x4 then 0 else 1)) (h11 : x11 = (if x4 < 0 ∨ 4 < x4 then 0 else 1)) : wL_lawOf_173 post mc ms x1 x2 x4 x9 x10 x11 x12 x13 x14 z0 z1 kc ks := by
  unfold wL_lawOf_173 wL_lawOf_188
  refine br_t h (br_c (fun c => tm_203 H ?_ h10 h11) (fun c => br_c (fun d => br_c (fun k => tm_203 H ?_ h10 h11) (fun k => tm_203 H ?_ h10 h11)) (fun d => tm_203 H ?_ h10 h11)))
  · rw [h9, if_pos (.inl c)]
  · rw [h9, if_neg (fun q => q.elim c (fun q => q d)), if_pos k]
  · rw [h9, if_neg (fun q => q.elim c (fun q => q d)), if_neg k]
  · rw [h9, if_pos (.inr d)]
theorem tm_143 (H : post 1 ()) (h : z1 = z0) (h7 : x7 = (if x13 = 0 then -1 else 0)) (h8 : x8 = (if x14 = 0 then 0 else 1)) (h9 : x9 = (if x13 = 0 ∨ ¬ x4 = 0 then -1 else if x12 ≤ 0 then 21 else 1)) (h10 : x10 = (if x14 = 0 ∨ x4 < x1 ∨ x2 ≤ x4 then 0 else 1)) (h11 : x11 = (if x4 < 0 ∨ 4 < x4 then 0 else 1)) : wL_lawOf_143 post mc ms x1 x2 x4 x7 x8 x9 x10 x11 x12 x13 x14 z0 z1 kc ks := by
  have K : ∀ z, x7 = z → wL_lawOf_158 post mc ms x1 x2 x4 x8 x9 x10 x11 x12 x13 x14 z x7 kc ks := by
    intro z hz
    unfold wL_lawOf_158
    refine br_t hz (br_c (fun c => tm_173 H ?_ h9 h10 h11) (fun c => tm_173 H ?_ h9 h10 h11))
    · rw [h8, if_pos c]
    · rw [h8, if_neg c]
  unfold wL_lawOf_143
  refine br_t h (br_c (fun c => K _ ?_) (fun c => K _ ?_))
  · rw [h7, if_pos c]
  · rw [h7, if_neg c]
theorem tm_129 (H : post 1 ()) (h6 : x6 = (if x12 ≤ 0 then -1 else 0)) (h7 : x7 = (if x13 = 0 then -1 else 0)) (h8 : x8 = (if x14 = 0 then 0 else 1)) (h9 : x9 = (if x13 = 0 ∨ ¬ x4 = 0 then -1 else if x12 ≤ 0 then 21 else 1)) (h10 : x10 = (if x14 = 0 ∨ x4 < x1 ∨ x2 ≤ x4 then 0 else 1)) (h11 : x11 = (if x4 < 0 ∨ 4 < x4 then 0 else 1)) : wL_lawOf_129 post mc ms x1 x2 x4 x6 x7 x8 x9 x10 x11 x12 x13 x14 kc ks := by
  unfold wL_lawOf_129
  refine br_c (fun c => tm_143 H ?_ h7 h8 h9 h10 h11) (fun c => tm_143 H ?_ h7 h8 h9 h10 h11)
  · rw [h6, if_pos c]
  · rw [h6, if_neg c]
theorem tm_if0 {c : Prop} {d : Prop} {_ : Decidable c} {_ : Decidable d} {a b : Int32} (h : c ↔ d) : (if c then a else b) = (if d then a else b) := by
  by_cases k : d
  · rw [if_pos k, if_pos (h.mpr k)]
  · rw [if_neg k, if_neg (fun z => k (h.mp z))]
theorem tm_112 (H : post 1 ()) (h6 : x6 = (if x12 ≤ 0 then -1 else 0)) (h7 : x7 = (if x13 = 0 then -1 else 0)) (h8 : x8 = (if x13 = 0 ∨ x12 ≤ 0 then 0 else 1)) (h9 : x9 = (if x13 = 0 ∨ ¬ x4 = 0 then -1 else if x12 ≤ 0 then 21 else 1)) (h10 : x10 = (if (x13 = 0 ∨ x12 ≤ 0) ∨ x4 < x1 ∨ x2 ≤ x4 then 0 else 1)) (h11 : x11 = (if x4 < 0 ∨ 4 < x4 then 0 else 1)) : wL_lawOf_112 post mc ms x1 x2 x4 x6 x7 x8 x9 x10 x11 x12 x13 kc ks := by
  unfold wL_lawOf_112 wL_lawOf_128
  have K : ∀ x14 : Int32, (x14 = 0 ↔ (x13 = 0 ∨ x12 ≤ 0)) → wL_lawOf_129 post mc ms x1 x2 x4 x6 x7 x8 x9 x10 x11 x12 x13 x14 kc ks := by
    intro x14 hx
    refine tm_129 H h6 h7 ?_ h9 ?_ h11
    · rw [h8]
      exact tm_if0 hx.symm
    · rw [h10]
      exact tm_if0 ⟨fun q => q.elim (fun q => .inl (hx.mpr q)) .inr, fun q => q.elim (fun q => .inl (hx.mp q)) .inr⟩
  refine br_c (fun c => K 0 ⟨fun _ => .inl c, fun _ => rfl⟩) (fun c => br_c (fun d => K 0 ⟨fun _ => .inr d, fun _ => rfl⟩) (fun d => K 1 ⟨fun q => absurd q (by decide), fun q => q.elim (fun q => absurd q c) (fun q => absurd q d)⟩))
theorem tm_79 (hg : (tm_good x1 x2 x3 ∧ x13 = 1) ∨ (¬ tm_good x1 x2 x3 ∧ x13 = 0)) (H : wL_lawOf_112 post mc ms x1 x2 x4 x6 x7 x8 x9 x10 x11 z0 x13 kc ks) : wL_lawOf_79 post mc ms x1 x2 x3 x4 x6 x7 x8 x9 x10 x11 z0 kc ks := by
  have N : ¬ tm_good x1 x2 x3 → wL_lawOf_111 post mc ms x1 x2 x4 x6 x7 x8 x9 x10 x11 z0 kc ks := by
    intro h
    have e : x13 = 0 := hg.elim (fun q => absurd q.1 h) (fun q => q.2)
    subst e
    unfold wL_lawOf_111
    exact H
  unfold wL_lawOf_79
  refine br_c (fun c => N (fun q => q.1 c)) (fun c1 => br_c (fun c => N (fun q => q.2.1 c)) (fun c2 => br_c (fun c => N (fun q => q.2.2.1 c)) (fun c3 => br_c (fun c => N (fun q => q.2.2.2.1 c)) (fun c4 => br_c (fun c => N (fun q => q.2.2.2.2 c)) (fun c5 => ?_)))))
  have e : x13 = 1 := hg.elim (fun q => q.2) (fun q => absurd ⟨c1, c2, c3, c4, c5⟩ q.1)
  subst e
  exact H
end
end
section
theorem tm_init {post : St2 → Prop} {mc ms N : Nat} {f0 f1 f2 f3 f4 f5 p0 : Int32} (hmc : 7 ≤ mc) (hms : 82 ≤ ms)
    (hsel : ∀ A : Int32 → Prop, A (nI N) → ((0 ≤ p0 → ((p0 ≤ 4 → A p0) ∧ (¬ p0 ≤ 4 → A 4))) ∧ (¬ 0 ≤ p0 → A 0)))
    (H : post (nI N, f1, f2, f3, f4, f5, (fun _ => 0), (fun _ => 0), (fun _ => 0), (fun _ => 0), (fun _ => 0), (fun _ => 0), (fun _ => 0))) :
    wpX_init post mc ms (f0, f1, f2, f3, f4, f5) p0 := by
  unfold wpX_init
  dsimp only
  refine ⟨by omega, by omega, by omega, by omega, by omega, by omega, by omega, by omega, by omega, by omega, by omega, by omega, by omega, by omega, ?_⟩
  exact hsel (fun v => post (v, f1, f2, f3, f4, f5, (fun _ => 0), (fun _ => 0), (fun _ => 0), (fun _ => 0), (fun _ => 0), (fun _ => 0), (fun _ => 0))) H
theorem tm_lawOf {post : Int32 → St0 → Prop} (H : post 1 ()) (p0 p1 p2 p3 p4 : Int32) : wpL_lawOf post 8 95 () p0 p1 p2 p3 p4 := by
  unfold wpL_lawOf
  refine ⟨by omega, by omega, 7, 82, by omega, by omega, ?_⟩
  obtain ⟨N, hN, hsel⟩ := tm_sel p0
  refine tm_init (by omega) (by omega) hsel ?_
  refine tm_lossL rfl hN rfl rfl (fun x6 us1 ud1 kn1 ch1 f1 v1 r1 q1 h6 hc1 => ?_)
  refine tm_bringL rfl (fun x7 pr kn2 b1 b2 b3 s e w h7 hJ => ?_)
  have hpr : pr = 0 ∨ pr = 1 := h7.elim (fun q => .inr q.2.2.1) (fun q => .inl q.2.2)
  have hxy : pr = 1 → p1 = nI s ∧ p2 = nI e := fun z => h7.elim (fun q => q.2.2.2.2) (fun q => absurd (q.2.2.symm.trans z) (by decide))
  refine tm_chosenL rfl hN hpr hJ (fun z => h7.elim (fun q => absurd q.2.2.2.1 z) (fun q => q.2.2)) hc1 (fun us3 ud3 kn3 ch3 f3 v3 r3 q3 hk3 hc3 => ?_)
  refine tm_priceL rfl hN hpr hJ (fun x9 us4 ud4 f4 v4 r4 q4 h9 => ?_)
  refine tm_busyL hN hk3 hpr hJ hxy hc3 (fun x10 h10 => ?_)
  refine tm_setL (fun x11 tc5 kn5 h11 => ?_)
  refine hsel (fun v => wL_lawOf_79 post 8 95 p1 p2 p3 p4 x6 x7 ch3 x9 x10 x11 v (1 + 7) (13 + 82)) ?_
  refine tm_79 (x13 := pr) (h7.elim (fun q => .inl ⟨q.1, q.2.2.1⟩) (fun q => .inr ⟨q.1, q.2.2⟩)) (tm_112 H ?_ ?_ ?_ h9 h10 h11)
  · rw [h6, tm_ifN hN]
  · rcases h7 with q | q
    · rw [q.2.1, q.2.2.1, if_neg (by decide)]
    · rw [q.2.1, q.2.2, if_pos rfl]
  · rw [hc3, tm_ifN hN]
    by_cases h : nI N ≤ 0
    · rw [if_pos h, if_pos (.inr h)]
    · rw [if_neg h]
      rcases hpr with z | z
      · rw [if_pos (.inl z), z]
      · rw [if_neg, z]
        rintro (k | k)
        · exact absurd (k.symm.trans z) (by decide)
        · exact h k
theorem tm_cell {post : Int32 → Prop} {L : Nat} {xs : Nat → Int32} (hL : L ≤ 5) (k : Nat) {x : Int32} (hx : x = nI k) (hk : k < 5) (H : ∀ r, post r) : wpL_cellAt post L xs () x := by
  unfold wpL_cellAt
  refine pk_le L k (fun _ => H _) (fun h => ⟨pk_in k L h hx, H _⟩) rfl hx
theorem i_vc (xs : Nat → Int32) (L : Nat) (hL : L ≤ 5) : wpL_law (fun r => r = 1) L xs := by
  unfold wpL_law
  refine tm_cell hL 0 rfl (by omega) (fun r1 => ?_)
  refine tm_cell hL 1 rfl (by omega) (fun r2 => ?_)
  refine tm_cell hL 2 rfl (by omega) (fun r3 => ?_)
  refine tm_cell hL 3 rfl (by omega) (fun r4 => ?_)
  refine tm_cell hL 4 rfl (by omega) (fun r5 => ?_)
  exact ⟨8, 95, by omega, by omega, tm_lawOf rfl r1 r2 r3 r4 r5⟩
end
