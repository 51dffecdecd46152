section
/-! pure rows: the one line's ways, places, bits -/
/-- the price of the way from u to v: one line between a and b at price c, all else far -/
def sn_W (c a b u v : Nat) : Nat := if u = v then 0 else if (u = a ∧ v = b) ∨ (u = b ∧ v = a) then c else 100000
theorem sn_W_le {c a b u v : Nat} (hc : c ≤ 100000) : sn_W c a b u v ≤ 100000 := by
  unfold sn_W
  split
  · omega
  · split <;> omega
theorem sn_W_tri {c a b : Nat} (u v w : Nat) (hc : c ≤ 100000) : sn_W c a b u w ≤ sn_W c a b u v + sn_W c a b v w := by
  unfold sn_W
  by_cases h1 : u = w
  · rw [if_pos h1]
    omega
  · rw [if_neg h1]
    by_cases h2 : u = v
    · rw [if_pos h2, h2]
      rw [h2] at h1
      rw [if_neg h1]
      omega
    · rw [if_neg h2]
      by_cases h3 : v = w
      · rw [if_pos h3, h3]
        omega
      · rw [if_neg h3]
        by_cases h4 : (u = a ∧ v = b) ∨ (u = b ∧ v = a)
        · by_cases h5 : (v = a ∧ w = b) ∨ (v = b ∧ w = a)
          · exact absurd (show u = w by omega) h1
          · rw [if_neg h5]
            split <;> omega
        · rw [if_neg h4]
          split <;> omega
theorem sn_W_self {c a b u : Nat} : sn_W c a b u u = 0 := if_pos rfl
theorem sn_W_ab {c a b u v : Nat} (h : u ≠ v) (h2 : (u = a ∧ v = b) ∨ (u = b ∧ v = a)) : sn_W c a b u v = c := by
  unfold sn_W
  rw [if_neg h, if_pos h2]
theorem sn_W_far {a b u v : Nat} : sn_W 100000 a b u v = if u = v then 0 else 100000 := by
  unfold sn_W
  by_cases h : u = v
  · rw [if_pos h, if_pos h]
  · rw [if_neg h, if_neg h]
    split <;> rfl
theorem sn_W_out {c a b u v : Nat} (h : ¬ ((u = a ∧ v = b) ∨ (u = b ∧ v = a))) : sn_W c a b u v = sn_W 100000 a b u v := by
  unfold sn_W
  rw [if_neg h]
  by_cases h2 : u = v
  · rw [if_pos h2, if_pos h2]
  · rw [if_neg h2, if_neg h2, if_neg h]
theorem sn_ix (u v : Nat) : (7 : Int32) * nI u + nI v = nI (7 * u + v) := by
  rw [show (7 : Int32) = nI 7 from rfl, pk_mul, nI_add]
theorem sn_fill {f s : Nat → Int32} {i k : Nat} {x : Int32} (hk : k = i) (h : ∀ j, j < i → s j = f j) (hx : x = f i) : ∀ j, j < i + 1 → upd s k x j = f j := by
  intro j hj
  rw [hk]
  by_cases e : j = i
  · rw [e, pk_us, hx]
  · rw [pk_un e]
    exact h j (by omega)
theorem sn_rng {x : Int32} (N : Nat) (hN : N < 2 ^ 31) (h0 : ¬ x < 0) (h : ¬ nI N < x) : ∃ j : Nat, j ≤ N ∧ x = nI j := by
  obtain ⟨j, hj, rfl⟩ := nI_of h0
  rw [nI_ltI hN hj] at h
  exact ⟨j, by omega, rfl⟩
theorem sn_bits : ∀ a, a < 7 → ∀ b, b < 7 → ∀ i, i < 7 → ((((((1 : Int32) <<< (nI b &&& 31)) ||| ((1 : Int32) <<< (nI a &&& 31))).toUInt32 >>> ((nI i).toUInt32 &&& Int32.toUInt32 31)).toInt32) &&& 1 = 0 ↔ ¬ (i = a ∨ i = b)) := by decide +kernel
theorem sn_bits0 : ∀ i, i < 7 → ((((0 : Int32).toUInt32 >>> ((nI i).toUInt32 &&& Int32.toUInt32 31)).toInt32) &&& 1 = 0 ↔ ¬ (i = 7 ∨ i = 7)) := by decide +kernel
theorem sn_zbit : ∀ i, i < 10 → (((0 : Int32).toUInt32 >>> ((nI i).toUInt32 &&& Int32.toUInt32 31)).toInt32) &&& 1 = 0 := by decide +kernel
/-- the array of ways holds sn_W -/
def sn_ways (c a b : Nat) (s : Nat → Int32) : Prop := ∀ u v, u < 7 → v < 7 → s (7 * u + v) = nI (sn_W c a b u v)
theorem sn_ways_upd {c a b : Nat} {s : Nat → Int32} (ha : a < 7) (hb : b < 7) (hab : a ≠ b) (h : sn_ways 100000 a b s) : sn_ways c a b (upd (upd s (7 * a + b) (nI c)) (7 * b + a) (nI c)) := by
  intro u v hu hv
  by_cases e1 : 7 * u + v = 7 * b + a
  · rw [e1, pk_us, sn_W_ab (by omega) (by omega)]
  · rw [pk_un e1]
    by_cases e2 : 7 * u + v = 7 * a + b
    · rw [e2, pk_us, sn_W_ab (by omega) (by omega)]
    · rw [pk_un e2, h u v hu hv, sn_W_out (c := c) (by omega)]
/-- the same, of the places ahead of 7u+v -/
def sn_upto (a b u v : Nat) (s : Nat → Int32) : Prop := ∀ p q, q < 7 → 7 * p + q < 7 * u + v → s (7 * p + q) = nI (sn_W 100000 a b p q)
theorem sn_upto_s {a b u v : Nat} {s : Nat → Int32} {x : Int32} (hv : v < 7) (hx : x = nI (sn_W 100000 a b u v)) (h : sn_upto a b u v s) : sn_upto a b u (v + 1) (upd s (7 * u + v) x) := by
  intro p q hq hp
  by_cases e : 7 * p + q = 7 * u + v
  · have e1 : p = u := by omega
    have e2 : q = v := by omega
    rw [e1, e2, pk_us, hx]
  · rw [pk_un e]
    exact h p q hq (by omega)
theorem sn_upto_7 {a b u : Nat} {s : Nat → Int32} (h : sn_upto a b u 7 s) : sn_upto a b (u + 1) 0 s := fun p q hq hp => h p q hq (by omega)
theorem sn_upto_e {a b : Nat} {s : Nat → Int32} (h : sn_upto a b 7 0 s) : sn_ways 100000 a b s := fun u v hu hv => h u v hv (by omega)
end
section
/-! countAll, shortenOver, findWays -/
section
variable {post : St2 → Prop} {m w k bp bs : Int32} {a1 a2 a3 a4 a5 a6 a7 : Nat → Int32}
theorem sn_countAll (H : ∀ a4', (∀ j, j < 10 → a4' j = if a3 j = 0 then nI 100000 else a3 j) → post (m, w, k, bp, bs, a1, a2, a3, a4', a5, a6, a7)) :
    wpX_countAll post (m, w, k, bp, bs, a1, a2, a3, a4, a5, a6, a7) :=
  pk_loop (fun n i s => wX_countAll_2 post m w k bp bs n (nI i) a1 a2 a3 s a5 a6 a7) (fun i s => ∀ j, j < i → s j = if a3 j = 0 then nI 100000 else a3 j) 10 0 a4 (by omega) (fun j hj => absurd hj (by omega))
    (fun n s h => pk_le 10 10 (fun _ => H s h) (fun z => absurd z (by omega)))
    (fun n i s hi h hw => by
      refine pk_le 10 i (fun z => absurd z (by omega)) (fun _ => ⟨pk_in i 10 hi, ?_⟩)
      rw [nI_clamp (show i < 2 ^ 31 by omega)]
      refine br_c (fun g => ⟨pk_in i 10 hi, nm_e (nm_r (nI_1 i) (hw _ ?_))⟩) (fun g => ⟨pk_in i 10 hi, pk_in i 10 hi, nm_e (nm_r (nI_1 i) (hw _ ?_))⟩)
      · exact sn_fill (f := fun j => if a3 j = 0 then nI 100000 else a3 j) rfl h (if_pos g).symm
      · exact sn_fill (f := fun j => if a3 j = 0 then nI 100000 else a3 j) rfl h (if_neg g).symm)
theorem sn_short10 {J2 : Int32 → (Nat → Int32) → (Nat → Int32) → (Nat → Int32) → (Nat → Int32) → (Nat → Int32) → (Nat → Int32) → (Nat → Int32) → Prop} {c a b t u : Nat} (hA : sn_ways c a b a5) (hc : c ≤ 100000) (ht : t < 7) (hu : u < 7) (H : J2 (nI (u + 1)) a1 a2 a3 a4 a5 a6 a7) :
    ∃ n, wX_shortenOver_10 post J2 (nI t) (nI u) m w k bp bs n 0 a1 a2 a3 a4 a5 a6 a7 :=
  pk_loop (σ := Unit) (fun n i _ => wX_shortenOver_10 post J2 (nI t) (nI u) m w k bp bs n (nI i) a1 a2 a3 a4 a5 a6 a7) (fun _ _ => True) 7 0 () (by omega) trivial
    (fun n _ _ => pk_le 7 7 (fun _ => nm_r (nI_1 u) H) (fun z => absurd z (by omega)))
    (fun n i _ hi _ hw => by
      have t1 := sn_W_tri (c := c) (a := a) (b := b) u t i hc
      have t2 : sn_W c a b u t ≤ 100000 := sn_W_le hc
      have t3 : sn_W c a b t i ≤ 100000 := sn_W_le hc
      have t4 : sn_W c a b u i ≤ 100000 := sn_W_le hc
      refine pk_le 7 i (fun z => absurd z (by omega)) (fun _ => ?_)
      rw [sn_ix u t, sn_ix t i, sn_ix u i, nI_clamp (show 7 * u + t < 2 ^ 31 by omega), nI_clamp (show 7 * t + i < 2 ^ 31 by omega), nI_clamp (show 7 * u + i < 2 ^ 31 by omega), hA u t hu ht, hA t i ht hi, hA u i hu hi, nI_add]
      exact ⟨pk_in (7 * u + t) 49 (by omega), pk_in (7 * t + i) 49 (by omega), nm_e ⟨pk_in (7 * u + i) 49 (by omega), pk_le (sn_W c a b u i) (sn_W c a b u t + sn_W c a b t i) (fun _ => nm_r (nI_1 i) (hw () trivial)) (fun z => absurd z (by omega))⟩⟩)
theorem sn_short {c a b t : Nat} (hA : sn_ways c a b a5) (hc : c ≤ 100000) (ht : t < 7) (H : post (m, w, k, bp, bs, a1, a2, a3, a4, a5, a6, a7)) :
    wpX_shortenOver post (m, w, k, bp, bs, a1, a2, a3, a4, a5, a6, a7) (nI t) :=
  pk_loop (σ := Unit) (fun n i _ => wX_shortenOver_2 post (nI t) m w k bp bs n (nI i) a1 a2 a3 a4 a5 a6 a7) (fun _ _ => True) 7 0 () (by omega) trivial
    (fun n _ _ => pk_le 7 7 (fun _ => H) (fun z => absurd z (by omega)))
    (fun n i _ hi _ hw => pk_le 7 i (fun z => absurd z (by omega)) (fun _ => sn_short10 hA hc ht hi (hw () trivial)))
theorem sn_f134 {c a b : Nat} (hA : sn_ways c a b a5) (hc : c ≤ 100000) (H : post (m, w, k, bp, bs, a1, a2, a3, a4, a5, a6, a7)) :
    ∃ n, wX_findWays_134 post n 0 m w k bp bs a1 a2 a3 a4 a5 a6 a7 :=
  pk_loop (σ := Unit) (fun n i _ => wX_findWays_134 post n (nI i) m w k bp bs a1 a2 a3 a4 a5 a6 a7) (fun _ _ => True) 7 0 () (by omega) trivial
    (fun n _ _ => pk_le 7 7 (fun _ => H) (fun z => absurd z (by omega)))
    (fun n i _ hi _ hw => pk_le 7 i (fun z => absurd z (by omega)) (fun _ => sn_short hA hc hi (nm_r (nI_1 i) (hw () trivial))))
/-- the net as counted: line l (none if l is 10) from a to b counts c, the others are far -/
def sn_net (l c a b : Nat) (a1 a2 a4 : Nat → Int32) : Prop := c < 100000 ∧ a < 7 ∧ b < 7 ∧ a ≠ b ∧ (∀ j, j < 10 → ∃ u v, u < 7 ∧ v < 7 ∧ a1 j = nI u ∧ a2 j = nI v) ∧ (∀ j, j < 10 → j ≠ l → a4 j = nI 100000) ∧ (l < 10 → a1 l = nI a ∧ a2 l = nI b ∧ a4 l = nI c)
def sn_cc (l c i : Nat) : Nat := if l < i then c else 100000
theorem sn_cc_le {l c i : Nat} (h : c < 100000) : sn_cc l c i ≤ 100000 := by
  unfold sn_cc
  split <;> omega
theorem sn_f52 {l c a b : Nat} (hN : sn_net l c a b a1 a2 a4) (hA : sn_ways 100000 a b a5) (H : ∀ a5', sn_ways (sn_cc l c 10) a b a5' → post (m, w, k, bp, bs, a1, a2, a3, a4, a5', a6, a7)) :
    ∃ n, wX_findWays_52 post m w k bp bs n 0 a1 a2 a3 a4 a5 a6 a7 := by
  obtain ⟨hc, ha, hb, hab, hE, hF, hL⟩ := hN
  refine pk_loop (fun n i s => wX_findWays_52 post m w k bp bs n (nI i) a1 a2 a3 a4 s a6 a7) (fun i s => sn_ways (sn_cc l c i) a b s) 10 0 a5 (by omega) hA ?_ ?_
  · intro n s h
    exact pk_le 10 10 (fun _ => sn_f134 h (sn_cc_le hc) (H s h)) (fun z => absurd z (by omega))
  · intro n i s hi h hw
    refine pk_le 10 i (fun z => absurd z (by omega)) (fun _ => ?_)
    rw [nI_clamp (show i < 2 ^ 31 by omega)]
    by_cases e : i = l
    · subst e
      obtain ⟨e1, e2, e4⟩ := hL hi
      have h' : sn_ways 100000 a b s := by
        have z : sn_cc i c i = 100000 := if_neg (by omega)
        rw [z] at h
        exact h
      refine ⟨pk_in i 10 hi, nm_r e1 ⟨pk_in i 10 hi, nm_r e2 ⟨pk_in i 10 hi, ?_⟩⟩⟩
      rw [sn_ix a b, sn_ix b a, nI_clamp (show 7 * a + b < 2 ^ 31 by omega), nI_clamp (show 7 * b + a < 2 ^ 31 by omega), h' a b ha hb, e4, sn_W_ab hab (Or.inl ⟨rfl, rfl⟩)]
      refine ⟨pk_in (7 * a + b) 49 (by omega), pk_le 100000 c (fun z => absurd z (by omega)) (fun _ => ⟨pk_in i 10 hi, pk_in (7 * a + b) 49 (by omega), nm_e ⟨pk_in i 10 hi, pk_in (7 * b + a) 49 (by omega), nm_e (nm_r (nI_1 i) (hw _ ?_))⟩⟩)⟩
      have z : sn_cc i c (i + 1) = c := if_pos (by omega)
      show sn_ways (sn_cc i c (i + 1)) a b _
      rw [z]
      exact sn_ways_upd ha hb hab h'
    · obtain ⟨u, v, hu, hv, e1, e2⟩ := hE i hi
      have t1 : sn_W (sn_cc l c i) a b u v ≤ 100000 := sn_W_le (sn_cc_le hc)
      refine ⟨pk_in i 10 hi, nm_r e1 ⟨pk_in i 10 hi, nm_r e2 ⟨pk_in i 10 hi, ?_⟩⟩⟩
      rw [sn_ix u v, nI_clamp (show 7 * u + v < 2 ^ 31 by omega), h u v hu hv, hF i hi e]
      refine ⟨pk_in (7 * u + v) 49 (by omega), pk_le (sn_W (sn_cc l c i) a b u v) 100000 (fun _ => nm_r (nI_1 i) (hw _ ?_)) (fun z => absurd z (by omega))⟩
      have z : sn_cc l c (i + 1) = sn_cc l c i := by
        unfold sn_cc
        by_cases g : l < i
        · rw [if_pos g, if_pos (by omega)]
        · rw [if_neg g, if_neg (by omega)]
      show sn_ways (sn_cc l c (i + 1)) a b s
      rw [z]
      exact h
theorem sn_f10 {J2 : Int32 → (Nat → Int32) → (Nat → Int32) → (Nat → Int32) → (Nat → Int32) → (Nat → Int32) → (Nat → Int32) → (Nat → Int32) → Prop} {a b u : Nat} (hu : u < 7) (hA : sn_upto a b u 0 a5) (H : ∀ s, sn_upto a b (u + 1) 0 s → J2 (nI (u + 1)) a1 a2 a3 a4 s a6 a7) :
    ∃ n, wX_findWays_10 post J2 (nI u) m w k bp bs n 0 a1 a2 a3 a4 a5 a6 a7 :=
  pk_loop (fun n i s => wX_findWays_10 post J2 (nI u) m w k bp bs n (nI i) a1 a2 a3 a4 s a6 a7) (fun i s => sn_upto a b u i s) 7 0 a5 (by omega) hA
    (fun n s h => pk_le 7 7 (fun _ => nm_r (nI_1 u) (H s (sn_upto_7 h))) (fun z => absurd z (by omega)))
    (fun n i s hi h hw => by
      refine pk_le 7 i (fun z => absurd z (by omega)) (fun _ => ?_)
      rw [sn_ix u i, nI_clamp (show 7 * u + i < 2 ^ 31 by omega)]
      refine pk_eq u i (fun e => ⟨pk_in (7 * u + i) 49 (by omega), nm_e (nm_r (nI_1 i) (hw _ (sn_upto_s hi ?_ h)))⟩) (fun e => ⟨pk_in (7 * u + i) 49 (by omega), nm_e (nm_r (nI_1 i) (hw _ (sn_upto_s hi ?_ h)))⟩)
      · rw [sn_W_far, if_pos e]
        rfl
      · rw [sn_W_far, if_neg e]
        rfl)
theorem sn_findWays {l c a b : Nat} (hN : sn_net l c a b a1 a2 a4) (H : ∀ a5', sn_ways (sn_cc l c 10) a b a5' → post (m, w, k, bp, bs, a1, a2, a3, a4, a5', a6, a7)) :
    wpX_findWays post (m, w, k, bp, bs, a1, a2, a3, a4, a5, a6, a7) :=
  pk_loop (fun n i s => wX_findWays_2 post m w k bp bs n (nI i) a1 a2 a3 a4 s a6 a7) (fun i s => sn_upto a b i 0 s) 7 0 a5 (by omega) (fun p q _ h => absurd h (by omega))
    (fun n s h => pk_le 7 7 (fun _ => sn_f52 hN (sn_upto_e h) H) (fun z => absurd z (by omega)))
    (fun n i s hi h hw => pk_le 7 i (fun z => absurd z (by omega)) (fun _ => sn_f10 hi h (fun s' h' => hw s' h')))
end
end
section
/-! startPart, joinParts, carryTo, carryPart, leastFor: two wanted points at the most, so the set 1 alone -/
/-- what the part of the set {lo} holds, the points ahead of t carried -/
def sn_pv (c a b lo t p : Nat) : Nat := if p < t then sn_W c a b lo p else if p = lo then 0 else 100000
def sn_part (c a b lo t : Nat) (s : Nat → Int32) : Prop := ∀ p, p < 7 → s (7 * 1 + p) = nI (sn_pv c a b lo t p)
theorem sn_pv_ge {c a b lo t p : Nat} (hc : c ≤ 100000) : sn_W c a b lo p ≤ sn_pv c a b lo t p := by
  unfold sn_pv
  split
  · omega
  · split
    · rename_i h
      rw [h, sn_W_self]
      omega
    · exact sn_W_le hc
theorem sn_pv_le {c a b lo t p : Nat} (hc : c ≤ 100000) : sn_pv c a b lo t p ≤ 100000 := by
  unfold sn_pv
  split
  · exact sn_W_le hc
  · split <;> omega
theorem sn_pv_lo {c a b lo t : Nat} : sn_pv c a b lo t lo = 0 := by
  unfold sn_pv
  rw [sn_W_self, if_pos rfl]
  split <;> rfl
theorem sn_part_s {c a b lo t : Nat} {s : Nat → Int32} (h : sn_part c a b lo t s) : sn_part c a b lo (t + 1) (upd s (7 * 1 + t) (nI (sn_W c a b lo t))) := by
  intro p hp
  by_cases e : p = t
  · rw [e, pk_us]
    unfold sn_pv
    rw [if_pos (by omega)]
  · rw [pk_un (by omega), h p hp]
    unfold sn_pv
    by_cases g : p < t
    · rw [if_pos g, if_pos (by omega)]
    · rw [if_neg g, if_neg (show ¬ p < t + 1 by omega)]
theorem sn_21 : nI 2 - 1 = nI 1 := by decide
section
variable {post : St2 → Prop} {m w k bp bs : Int32} {a1 a2 a3 a4 a5 a6 a7 : Nat → Int32}
theorem sn_s29 {c a b lo : Nat} (hlo : lo < 7) (h7 : a7 0 = nI lo) (h6 : ∀ p, p < 7 → a6 (7 * 1 + p) = nI 100000) (H : ∀ a6', sn_part c a b lo 0 a6' → post (m, nI 2, k, bp, bs, a1, a2, a3, a4, a5, a6', a7)) :
    ∃ n, wX_startPart_29 post (nI 1) m (nI 2) k bp bs n 0 a1 a2 a3 a4 a5 a6 a7 := by
  refine ⟨2, br_f (by decide) (br_t (by decide) ?_)⟩
  rw [sb_cl0, h7, sn_ix 1 lo, nI_clamp (show 7 * 1 + lo < 2 ^ 31 by omega)]
  refine ⟨pk_in 0 7 (by omega), pk_in (7 * 1 + lo) 448 (by omega), nm_e (nm_e (br_t (by decide) (H _ ?_)))⟩
  intro p hp
  unfold sn_pv
  rw [if_neg (by omega)]
  by_cases e : p = lo
  · rw [e, pk_us, if_pos rfl]
    rfl
  · rw [pk_un (by omega), if_neg e]
    exact h6 p hp
theorem sn_start {c a b lo : Nat} (hlo : lo < 7) (h7 : a7 0 = nI lo) (H : ∀ a6', sn_part c a b lo 0 a6' → post (m, nI 2, k, bp, bs, a1, a2, a3, a4, a5, a6', a7)) :
    wpX_startPart post (m, nI 2, k, bp, bs, a1, a2, a3, a4, a5, a6, a7) (nI 1) :=
  pk_loop (fun n i s => wX_startPart_2 post (nI 1) m (nI 2) k bp bs n (nI i) a1 a2 a3 a4 a5 s a7) (fun i s => ∀ p, p < i → s (7 * 1 + p) = nI 100000) 7 0 a6 (by omega) (fun p hp => absurd hp (by omega))
    (fun n s h => pk_le 7 7 (fun _ => sn_s29 hlo h7 h H) (fun z => absurd z (by omega)))
    (fun n i s hi h hw => by
      refine pk_le 7 i (fun z => absurd z (by omega)) (fun _ => ?_)
      rw [sn_ix 1 i, nI_clamp (show 7 * 1 + i < 2 ^ 31 by omega)]
      refine ⟨pk_in (7 * 1 + i) 448 (by omega), nm_e (nm_r (nI_1 i) (hw _ ?_))⟩
      intro p hp
      by_cases e : p = i
      · rw [e, pk_us]
        rfl
      · rw [pk_un (by omega)]
        exact h p (by omega))
theorem sn_join (H : post (m, w, k, bp, bs, a1, a2, a3, a4, a5, a6, a7)) : wpX_joinParts post (m, w, k, bp, bs, a1, a2, a3, a4, a5, a6, a7) (nI 1) :=
  ⟨1, br_t (by decide) H⟩
theorem sn_carryTo {c a b lo p : Nat} (hc : c ≤ 100000) (hlo : lo < 7) (hp : p < 7) (h5 : sn_ways c a b a5) (h6 : sn_part c a b lo p a6) (H : ∀ a6', sn_part c a b lo (p + 1) a6' → post (m, w, k, bp, bs, a1, a2, a3, a4, a5, a6', a7)) :
    wpX_carryTo post (m, w, k, bp, bs, a1, a2, a3, a4, a5, a6, a7) (nI 1) (nI p) := by
  have u1 : sn_pv c a b lo p p ≤ 100000 := sn_pv_le hc
  have u2 : sn_W c a b lo p ≤ sn_pv c a b lo p p := sn_pv_ge hc
  refine ⟨pk_in (7 * 1 + p) 448 (by omega) (sn_ix 1 p), nm_r (e' := nI (sn_pv c a b lo p p)) ?_ ?_⟩
  · rw [sn_ix 1 p, nI_clamp (show 7 * 1 + p < 2 ^ 31 by omega), h6 p hp]
  · refine pk_loop (fun n i s => wX_carryTo_15 post (nI 1) (nI p) m w k bp bs a1 a2 a3 a4 a5 a6 a7 n s (nI i)) (fun i s => ∃ y, s = nI y ∧ y ≤ 100000 ∧ sn_W c a b lo p ≤ y ∧ (lo < i → y = sn_W c a b lo p)) 7 0 _ (by omega) ⟨_, rfl, u1, u2, fun z => absurd z (by omega)⟩ ?_ ?_
    · rintro n s ⟨y, rfl, y1, y2, y3⟩
      refine pk_le 7 7 (fun _ => ?_) (fun z => absurd z (by omega))
      rw [sn_ix 1 p, nI_clamp (show 7 * 1 + p < 2 ^ 31 by omega), y3 hlo]
      exact ⟨pk_in (7 * 1 + p) 448 (by omega), nm_e (H _ (sn_part_s h6))⟩
    · rintro n i s hi ⟨y, rfl, y1, y2, y3⟩ hw
      have t1 : sn_pv c a b lo p i ≤ 100000 := sn_pv_le hc
      have t2 : sn_W c a b lo i ≤ sn_pv c a b lo p i := sn_pv_ge hc
      have t3 := sn_W_tri (c := c) (a := a) (b := b) lo i p hc
      have t4 : sn_W c a b i p ≤ 100000 := sn_W_le hc
      have t5 : lo = i → sn_pv c a b lo p i + sn_W c a b i p = sn_W c a b lo p := by
        intro e
        subst e
        rw [sn_pv_lo]
        omega
      refine pk_le 7 i (fun z => absurd z (by omega)) (fun _ => ?_)
      rw [sn_ix 1 i, sn_ix i p, nI_clamp (show 7 * 1 + i < 2 ^ 31 by omega), nI_clamp (show 7 * i + p < 2 ^ 31 by omega), h6 i hi, h5 i p hi hp, nI_add]
      refine ⟨pk_in (7 * 1 + i) 448 (by omega), pk_in (7 * i + p) 49 (by omega), nm_e (pk_le y (sn_pv c a b lo p i + sn_W c a b i p) (fun z => nm_r (nI_1 i) (hw _ ⟨y, rfl, y1, y2, fun g => ?_⟩)) (fun z => nm_r (nI_1 i) (hw _ ⟨sn_pv c a b lo p i + sn_W c a b i p, rfl, by omega, by omega, fun g => ?_⟩)))⟩
      · by_cases e : lo = i
        · have := t5 e
          omega
        · exact y3 (by omega)
      · by_cases e : lo = i
        · exact t5 e
        · have := y3 (by omega)
          omega
theorem sn_carry {c a b lo : Nat} (hc : c ≤ 100000) (hlo : lo < 7) (h5 : sn_ways c a b a5) (h6 : sn_part c a b lo 0 a6) (H : ∀ a6', sn_part c a b lo 7 a6' → post (m, w, k, bp, bs, a1, a2, a3, a4, a5, a6', a7)) :
    wpX_carryPart post (m, w, k, bp, bs, a1, a2, a3, a4, a5, a6, a7) (nI 1) :=
  pk_loop (fun n i s => wX_carryPart_2 post (nI 1) n (nI i) m w k bp bs a1 a2 a3 a4 a5 s a7) (fun i s => sn_part c a b lo i s) 7 0 a6 (by omega) h6
    (fun n s h => pk_le 7 7 (fun _ => H s h) (fun z => absurd z (by omega)))
    (fun n i s hi h hw => pk_le 7 i (fun z => absurd z (by omega)) (fun _ => sn_carryTo hc hlo hi h5 h (fun s' h' => nm_r (nI_1 i) (hw s' h'))))
end
section
variable {post : Int32 → St2 → Prop} {m w k bp bs : Int32} {a1 a2 a3 a4 a5 a6 a7 : Nat → Int32}
theorem sn_l72 {c a b lo hi : Nat} (hc : c ≤ 100000) (hlo : lo < 7) (hhi : hi < 7) (h5 : sn_ways c a b a5) (h70 : a7 0 = nI lo) (h71 : a7 1 = nI hi) (H : ∀ a6', post (nI (sn_W c a b lo hi)) (m, nI 2, k, bp, bs, a1, a2, a3, a4, a5, a6', a7)) :
    ∃ n, wX_leastFor_72 post (nI 2) n 1 m (nI 2) k bp bs a1 a2 a3 a4 a5 a6 a7 := by
  refine ⟨2, br_f (by decide) (sn_start (c := c) (a := a) (b := b) hlo h70 (fun s1 g1 => sn_join (sn_carry hc hlo h5 g1 (fun s2 g2 => nm_r (e' := nI 2) (by decide) (br_t (by decide) ?_)))))⟩
  rw [sn_21, nI_clamp (show 1 < 2 ^ 31 by omega), h71, sn_ix 1 hi, nI_clamp (show 7 * 1 + hi < 2 ^ 31 by omega), g2 hi hhi]
  have e : sn_pv c a b lo 7 hi = sn_W c a b lo hi := if_pos hhi
  rw [e]
  exact ⟨pk_in 1 7 (by omega), pk_in (7 * 1 + hi) 448 (by omega), H s2⟩
/-- how many of the points lo, hi lie ahead of i -/
def sn_cnt (lo hi i : Nat) : Nat := (if lo < i then 1 else 0) + (if lo < hi ∧ hi < i then 1 else 0)
theorem sn_least {l c a b lo hi : Nat} {pts : Int32} (hb : ∀ i, i < 7 → ((((pts.toUInt32 >>> ((nI i).toUInt32 &&& Int32.toUInt32 31)).toInt32) &&& 1) = 0 ↔ ¬ (i = lo ∨ i = hi))) (hlh : lo ≤ hi)
    (hN : lo < hi → hi < 7 → sn_net l c a b a1 a2 a4)
    (H0 : ¬ (lo < hi ∧ hi < 7) → ∀ w' a5' a6' a7', post 0 (m, w', k, bp, bs, a1, a2, a3, a4, a5', a6', a7'))
    (H2 : lo < hi → hi < 7 → ∀ w' a5' a6' a7', post (nI (sn_W (sn_cc l c 10) a b lo hi)) (m, w', k, bp, bs, a1, a2, a3, a4, a5', a6', a7')) :
    wpX_leastFor post (m, w, k, bp, bs, a1, a2, a3, a4, a5, a6, a7) pts := by
  have z0 : sn_cnt lo hi 0 = 0 := by
    unfold sn_cnt
    rw [if_neg (by omega), if_neg (by omega)]
  suffices main : ∃ n, wX_leastFor_7 post pts m k bp bs n (nI 0) (nI (sn_cnt lo hi 0)) a1 a2 a3 a4 a5 a6 a7 by
    rw [z0] at main
    exact main
  refine pk_loop (fun n i s => wX_leastFor_7 post pts m k bp bs n (nI i) (nI (sn_cnt lo hi i)) a1 a2 a3 a4 a5 a6 s) (fun i s => (lo < i → s 0 = nI lo) ∧ (lo < hi → hi < i → s 1 = nI hi)) 7 0 a7 (by omega) ⟨fun z => absurd z (by omega), fun _ z => absurd z (by omega)⟩ ?_ ?_
  · rintro n s ⟨h0, h1⟩
    refine pk_le 7 7 (fun _ => ?_) (fun z => absurd z (by omega))
    by_cases e : lo < hi ∧ hi < 7
    · have z : sn_cnt lo hi 7 = 2 := by
        unfold sn_cnt
        rw [if_pos (by omega), if_pos e]
      rw [z]
      refine br_t (by decide) (sn_findWays (hN e.1 e.2) (fun s5 g5 => nm_r (e' := nI 2) (by decide) (sn_l72 (sn_cc_le (hN e.1 e.2).1) (by omega) e.2 g5 (h0 (by omega)) (h1 e.1 e.2) (fun s6 => H2 e.1 e.2 _ _ _ _))))
    · have z : sn_cnt lo hi 7 < 2 := by
        unfold sn_cnt
        rw [if_neg e]
        split <;> omega
      exact pk_le 2 (sn_cnt lo hi 7) (fun g => absurd g (by omega)) (fun _ => H0 e _ _ _ _)
  · rintro n i s hi' ⟨h0, h1⟩ hw
    refine pk_le 7 i (fun z => absurd z (by omega)) (fun _ => ?_)
    by_cases e : i = lo ∨ i = hi
    · refine br_f (fun z => (hb i hi').mp z e) ?_
      have z1 : sn_cnt lo hi i + 1 = sn_cnt lo hi (i + 1) := by
        unfold sn_cnt
        by_cases q : i = lo
        · rw [if_neg (by omega), if_neg (by omega), if_pos (by omega), if_neg (by omega)]
        · rw [if_pos (by omega), if_neg (by omega), if_pos (by omega), if_pos (by omega)]
      have z2 : sn_cnt lo hi i = if i = lo then 0 else 1 := by
        unfold sn_cnt
        by_cases q : i = lo
        · rw [if_neg (by omega), if_neg (by omega), if_pos q]
        · rw [if_pos (by omega), if_neg (by omega), if_neg q]
      have z3 : sn_cnt lo hi i < 2 := by
        rw [z2]
        split <;> omega
      rw [nI_clamp (show sn_cnt lo hi i < 2 ^ 31 by omega)]
      refine ⟨pk_in (sn_cnt lo hi i) 7 (by omega), nm_e (nm_r ((nI_1 _).trans (congrArg nI z1)) (nm_r (nI_1 i) (hw _ ⟨fun g => ?_, fun g1 g2 => ?_⟩)))⟩
      · rw [z2]
        by_cases q : i = lo
        · rw [if_pos q, pk_us, q]
        · rw [if_neg q, pk_un (by omega)]
          exact h0 (by omega)
      · have q : i = hi := by
          rcases e with e | e
          · omega
          · exact e
        rw [z2, if_neg (by omega), pk_us, q]
    · refine br_t ((hb i hi').mpr e) (nm_r (nI_1 i) ?_)
      have z1 : sn_cnt lo hi (i + 1) = sn_cnt lo hi i := by
        unfold sn_cnt
        by_cases q1 : lo < i
        · rw [if_pos q1, if_pos (show lo < i + 1 by omega)]
          by_cases q2 : lo < hi ∧ hi < i
          · rw [if_pos q2, if_pos (by omega)]
          · rw [if_neg q2, if_neg (by omega)]
        · rw [if_neg q1, if_neg (show ¬ lo < i + 1 by omega), if_neg (by omega), if_neg (by omega)]
      have t := hw s ⟨fun g => h0 (by omega), fun g1 g2 => h1 g1 (by omega)⟩
      rw [z1] at t
      exact t
theorem sn_least0 (H : ∀ w' a5' a6' a7', post 0 (m, w', k, bp, bs, a1, a2, a3, a4, a5', a6', a7')) : wpX_leastFor post (m, w, k, bp, bs, a1, a2, a3, a4, a5, a6, a7) 0 :=
  sn_least (l := 0) (c := 0) (a := 0) (b := 0) sn_bits0 (Nat.le_refl 7) (fun z => absurd z (by omega)) (fun _ => H) (fun z => absurd z (by omega))
end
end
section
/-! the methods that the law calls -/
/-- x is a point -/
def sn_pt (x : Int32) : Prop := ∃ a, a < 7 ∧ x = nI a
theorem sn_pt_of {x : Int32} (h0 : ¬ x < 0) (h : ¬ 6 < x) : sn_pt x := by
  obtain ⟨j, hj, e⟩ := sn_rng 6 (by omega) h0 h
  exact ⟨j, by omega, e⟩
theorem sn_pt_lo {x : Int32} (h0 : x < 0) : ¬ sn_pt x := by
  rintro ⟨a, ha, rfl⟩
  exact nI_pos (by omega) h0
theorem sn_pt_hi {x : Int32} (h0 : 6 < x) : ¬ sn_pt x := by
  rintro ⟨a, ha, rfl⟩
  exact nI_nlt (a := 6) (b := a) (by omega) (by omega) h0
theorem sn_isPoint {post : Int32 → Prop} {x : Int32} (hy : sn_pt x → post 1) (hn : ¬ sn_pt x → post 0) : wpX_isPoint post () x :=
  br_c (fun g => hn (sn_pt_lo g)) (fun g0 => br_c (fun g => hn (sn_pt_hi g)) (fun g => hy (sn_pt_of g0 g)))
/-- the law's word ok: line l from a to b at price c -/
def sn_ok (p0 p1 p2 p3 : Int32) (l a b c : Nat) : Prop := l < 10 ∧ a < 7 ∧ b < 7 ∧ a ≠ b ∧ 1 ≤ c ∧ c ≤ 100 ∧ p0 = nI l ∧ p1 = nI a ∧ p2 = nI b ∧ p3 = nI c
def sn_okE (p0 p1 p2 p3 : Int32) : Prop := ∃ l a b c, sn_ok p0 p1 p2 p3 l a b c
section
variable {p0 p1 p2 p3 : Int32}
theorem sn_ok_1 (h : p0 < 0) : ¬ sn_okE p0 p1 p2 p3 := by
  rintro ⟨l, a, b, c, hl, ha, hb, hab, h1, h2, rfl, rfl, rfl, rfl⟩
  exact nI_pos (by omega) h
theorem sn_ok_2 (h : 9 < p0) : ¬ sn_okE p0 p1 p2 p3 := by
  rintro ⟨l, a, b, c, hl, ha, hb, hab, h1, h2, rfl, rfl, rfl, rfl⟩
  exact nI_nlt (a := 9) (b := l) (by omega) (by omega) h
theorem sn_ok_3 (h : ¬ sn_pt p1) : ¬ sn_okE p0 p1 p2 p3 := by
  rintro ⟨l, a, b, c, hl, ha, hb, hab, h1, h2, rfl, rfl, rfl, rfl⟩
  exact h ⟨a, ha, rfl⟩
theorem sn_ok_4 (h : ¬ sn_pt p2) : ¬ sn_okE p0 p1 p2 p3 := by
  rintro ⟨l, a, b, c, hl, ha, hb, hab, h1, h2, rfl, rfl, rfl, rfl⟩
  exact h ⟨b, hb, rfl⟩
theorem sn_ok_5 (h : p1 = p2) : ¬ sn_okE p0 p1 p2 p3 := by
  rintro ⟨l, a, b, c, hl, ha, hb, hab, h1, h2, rfl, rfl, rfl, rfl⟩
  exact hab ((nI_eq (by omega) (by omega)).mp h)
theorem sn_ok_6 (h : p3 < 1) : ¬ sn_okE p0 p1 p2 p3 := by
  rintro ⟨l, a, b, c, hl, ha, hb, hab, h1, h2, rfl, rfl, rfl, rfl⟩
  exact nI_nlt (a := c) (b := 1) (by omega) (by omega) h
theorem sn_ok_7 (h : ¬ p3 ≤ 100) : ¬ sn_okE p0 p1 p2 p3 := by
  rintro ⟨l, a, b, c, hl, ha, hb, hab, h1, h2, rfl, rfl, rfl, rfl⟩
  exact h (nI_le (a := c) (b := 100) (by omega) (by omega))
theorem sn_ok_all (g0 : ¬ p0 < 0) (g1 : ¬ 9 < p0) (g2 : sn_pt p1) (g3 : sn_pt p2) (g4 : ¬ p1 = p2) (g5 : ¬ p3 < 1) (g6 : p3 ≤ 100) : sn_okE p0 p1 p2 p3 := by
  obtain ⟨l, hl, rfl⟩ := sn_rng 9 (by omega) g0 g1
  obtain ⟨a, ha, rfl⟩ := g2
  obtain ⟨b, hb, rfl⟩ := g3
  have g7 : ¬ p3 < 0 := fun z => g5 (Int32.lt_trans z (by decide))
  obtain ⟨c, hc, rfl⟩ := nI_of g7
  have c1 : ¬ c < 1 := fun z => g5 (nI_lt (a := c) (b := 1) z (by omega))
  have c2 : c ≤ 100 := (nI_leI (a := c) (b := 100) hc (by omega)).mp g6
  exact ⟨l, a, b, c, by omega, ha, hb, fun z => g4 (congrArg nI z), by omega, c2, rfl, rfl, rfl, rfl⟩
end
section
variable {post : Int32 → St2 → Prop} {m w k bp bs : Int32} {a1 a2 a3 a4 a5 a6 a7 : Nat → Int32}
theorem sn_line {p0 p1 p2 p3 : Int32} (hy : ∀ l a b c, sn_ok p0 p1 p2 p3 l a b c → post 0 (m, w, 0, bp, bs, upd a1 l (nI a), upd a2 l (nI b), upd a3 l (nI c), a4, a5, a6, a7)) (hn : ¬ sn_okE p0 p1 p2 p3 → post (-2) (m, w, k, bp, bs, a1, a2, a3, a4, a5, a6, a7)) :
    wpX_line post (m, w, k, bp, bs, a1, a2, a3, a4, a5, a6, a7) p0 p1 p2 p3 := by
  refine br_c (fun g => hn (sn_ok_1 g)) (fun g0 => br_c (fun g => hn (sn_ok_2 g)) (fun g1 => sn_isPoint (fun g2 => br_f (by decide) (sn_isPoint (fun g3 => br_f (by decide) (br_c (fun g => hn (sn_ok_5 g)) (fun g4 => br_c (fun g => hn (sn_ok_6 g)) (fun g5 => br_c (fun g6 => ?_) (fun g => hn (sn_ok_7 g)))))) (fun g => br_t rfl (hn (sn_ok_4 g))))) (fun g => br_t rfl (hn (sn_ok_3 g)))))
  obtain ⟨l, a, b, c, h⟩ := sn_ok_all g0 g1 g2 g3 g4 g5 g6
  have h' := h
  obtain ⟨hl, ha, hb, hab, h1, h2, rfl, rfl, rfl, rfl⟩ := h'
  rw [nI_clamp (show l < 2 ^ 31 by omega)]
  exact ⟨pk_in l 10 hl, nm_e ⟨pk_in l 10 hl, nm_e ⟨pk_in l 10 hl, nm_e (hy l a b c h)⟩⟩⟩
/-- the net as laid: line l (none if l is 10) from a to b at price c -/
def sn_S (l c a b : Nat) (a1 a2 a3 : Nat → Int32) : Prop := 1 ≤ c ∧ c ≤ 100 ∧ a < 7 ∧ b < 7 ∧ a ≠ b ∧ (∀ j, j < 10 → ∃ u v, u < 7 ∧ v < 7 ∧ a1 j = nI u ∧ a2 j = nI v) ∧ (∀ j, j < 10 → a3 j = if j = l then nI c else 0) ∧ (l < 10 → a1 l = nI a ∧ a2 l = nI b)
theorem sn_S_0 {a b : Nat} (ha : a < 7) (hb : b < 7) (hab : a ≠ b) : sn_S 10 1 a b (fun _ => 0) (fun _ => 0) (fun _ => 0) :=
  ⟨by omega, by omega, ha, hb, hab, fun j hj => ⟨0, 0, by omega, by omega, rfl, rfl⟩, fun j hj => (if_neg (by omega)).symm, fun z => absurd z (by omega)⟩
theorem sn_S_1 {l a b c : Nat} (ha : a < 7) (hb : b < 7) (hab : a ≠ b) (h1 : 1 ≤ c) (h2 : c ≤ 100) : sn_S l c a b (upd (fun _ => 0) l (nI a)) (upd (fun _ => 0) l (nI b)) (upd (fun _ => 0) l (nI c)) := by
  refine ⟨h1, h2, ha, hb, hab, fun j hj => ?_, fun j hj => ?_, fun _ => ⟨pk_us, pk_us⟩⟩
  · by_cases e : j = l
    · rw [e]
      exact ⟨a, b, ha, hb, pk_us, pk_us⟩
    · rw [pk_un e, pk_un e]
      exact ⟨0, 0, by omega, by omega, rfl, rfl⟩
  · by_cases e : j = l
    · rw [if_pos e, e, pk_us]
    · rw [if_neg e, pk_un e]
theorem sn_S_net {l a b c : Nat} {a4' : Nat → Int32} (h : sn_S l c a b a1 a2 a3) (h4 : ∀ j, j < 10 → a4' j = if a3 j = 0 then nI 100000 else a3 j) : sn_net l c a b a1 a2 a4' := by
  obtain ⟨h1, h2, ha, hb, hab, hE, hP, hL⟩ := h
  refine ⟨by omega, ha, hb, hab, hE, fun j hj e => ?_, fun hl => ⟨(hL hl).1, (hL hl).2, ?_⟩⟩
  · rw [h4 j hj, hP j hj, if_neg e, if_pos rfl]
  · have z : ¬ nI c = 0 := nI_ne0 (by omega) (by omega)
    rw [h4 l hl, hP l hl, if_pos rfl, if_neg z]
/-- between two points that differ -/
theorem sn_between2 {l c a b : Nat} (h : sn_S l c a b a1 a2 a3) (hy : l < 10 → ∀ w' a4' a5' a6' a7', post (nI c) (m, w', k, bp, bs, a1, a2, a3, a4', a5', a6', a7')) (hn : ¬ l < 10 → ∀ w' a4' a5' a6' a7', post (-1) (m, w', k, bp, bs, a1, a2, a3, a4', a5', a6', a7')) :
    wpX_between post (m, w, k, bp, bs, a1, a2, a3, a4, a5, a6, a7) (nI b) (nI a) := by
  obtain ⟨h1, h2, ha, hb, hab, _, _, _⟩ := id h
  unfold wpX_between
  refine sn_isPoint (fun _ => br_f (by decide) (sn_isPoint (fun _ => br_f (by decide) (sn_countAll (fun s4 g4 => ?_))) (fun g => absurd ⟨a, ha, rfl⟩ g))) (fun g => absurd ⟨b, hb, rfl⟩ g)
  have hN := sn_S_net h g4
  have fin : ∀ w' s5 s6 s7, (nI (sn_cc l c 10) < 100000 → post (nI (sn_cc l c 10)) (m, w', k, bp, bs, a1, a2, a3, s4, s5, s6, s7)) ∧ (¬ nI (sn_cc l c 10) < 100000 → post (-1) (m, w', k, bp, bs, a1, a2, a3, s4, s5, s6, s7)) := by
    intro w' s5 s6 s7
    by_cases e : l < 10
    · rw [show sn_cc l c 10 = c from if_pos e]
      exact br_t (nI_lt (a := c) (b := 100000) (by omega) (by omega)) (hy e _ _ _ _ _)
    · rw [show sn_cc l c 10 = 100000 from if_neg e]
      exact br_f (by decide) (hn e _ _ _ _ _)
  rcases Nat.lt_or_gt_of_ne hab with g | g
  · refine sn_least (l := l) (c := c) (a := a) (b := b) (lo := a) (hi := b) (fun i hi => sn_bits a ha b hb i hi) (by omega) (fun _ _ => hN) (fun z => absurd ⟨g, hb⟩ z) (fun _ _ w' s5 s6 s7 => ?_)
    rw [sn_W_ab hab (Or.inl ⟨rfl, rfl⟩)]
    exact fin w' s5 s6 s7
  · refine sn_least (l := l) (c := c) (a := a) (b := b) (lo := b) (hi := a) (fun i hi => (sn_bits a ha b hb i hi).trans ⟨fun z y => z y.symm, fun z y => z y.symm⟩) (by omega) (fun _ _ => hN) (fun z => absurd ⟨g, ha⟩ z) (fun _ _ w' s5 s6 s7 => ?_)
    rw [sn_W_ab (fun z => hab z.symm) (Or.inr ⟨rfl, rfl⟩)]
    exact fin w' s5 s6 s7
/-- between a point and itself -/
theorem sn_between1 {a : Nat} (ha : a < 7) (hy : ∀ w' a4' a5' a6' a7', post 0 (m, w', k, bp, bs, a1, a2, a3, a4', a5', a6', a7')) :
    wpX_between post (m, w, k, bp, bs, a1, a2, a3, a4, a5, a6, a7) (nI a) (nI a) := by
  unfold wpX_between
  exact sn_isPoint (fun _ => br_f (by decide) (sn_isPoint (fun _ => br_f (by decide) (sn_countAll (fun s4 _ => sn_least (l := 0) (c := 0) (a := 0) (b := 0) (lo := a) (hi := a) (fun i hi => sn_bits a ha a ha i hi) (Nat.le_refl a) (fun z => absurd z (by omega)) (fun _ w' s5 s6 s7 => br_t (by decide) (hy w' s4 s5 s6 s7)) (fun z => absurd z (by omega))))) (fun g => absurd ⟨a, ha, rfl⟩ g))) (fun g => absurd ⟨a, ha, rfl⟩ g)
/-- between where one is no point -/
theorem sn_between0 {x y : Int32} (h : ¬ (sn_pt x ∧ sn_pt y)) (hn : post (-2) (m, w, k, bp, bs, a1, a2, a3, a4, a5, a6, a7)) :
    wpX_between post (m, w, k, bp, bs, a1, a2, a3, a4, a5, a6, a7) x y := by
  unfold wpX_between
  exact sn_isPoint (fun g1 => br_f (by decide) (sn_isPoint (fun g2 => absurd ⟨g1, g2⟩ h) (fun _ => br_t rfl hn))) (fun _ => br_t rfl hn)
/-- the prices: line l at price c, the others 0 -/
def sn_P (l c : Nat) (a3 : Nat → Int32) : Prop := 1 ≤ c ∧ c ≤ 100 ∧ ∀ j, j < 10 → a3 j = if j = l then nI c else 0
theorem sn_S_P {l c a b : Nat} (h : sn_S l c a b a1 a2 a3) : sn_P l c a3 := ⟨h.1, h.2.1, h.2.2.2.2.2.2.1⟩
theorem sn_isLine {P : Int32 → Prop} {l c : Nat} {x : Int32} (h : sn_P l c a3) (hy : l < 10 → x = nI l → P 1) (hn : ¬ (l < 10 ∧ x = nI l) → P 0) :
    wpX_isLine P (m, w, k, bp, bs, a1, a2, a3, a4, a5, a6, a7) x := by
  obtain ⟨h1, h2, hP⟩ := h
  refine br_c (fun g => hn ?_) (fun g0 => br_c (fun g => hn ?_) (fun g1 => ?_))
  · rintro ⟨hl, rfl⟩
    exact nI_pos (by omega) g
  · rintro ⟨hl, rfl⟩
    exact nI_nlt (a := 9) (b := l) (by omega) (by omega) g
  · obtain ⟨j, hj, rfl⟩ := sn_rng 9 (by omega) g0 g1
    refine ⟨pk_in j 10 (by omega), ?_⟩
    rw [nI_clamp (show j < 2 ^ 31 by omega), hP j (by omega)]
    by_cases e : j = l
    · rw [if_pos e]
      exact br_f (nI_nle (by omega) (by omega)) (hy (by omega) (by rw [e]))
    · rw [if_neg e]
      exact br_t (by decide) (hn (fun z => e ((nI_eq (by omega) (by omega)).mp z.2)))
theorem sn_with {l c : Nat} {x : Int32} (h : sn_P l c a3) (hy : l < 10 → x = nI l → ∀ w' a4' a5' a6' a7', post (nI c) (0, w', k, bp, bs, a1, a2, a3, a4', a5', a6', a7')) (hn : ¬ (l < 10 ∧ x = nI l) → post (-2) (0, w, k, bp, bs, a1, a2, a3, a4, a5, a6, a7)) :
    wpX_with post (0, w, k, bp, bs, a1, a2, a3, a4, a5, a6, a7) x := by
  unfold wpX_with
  refine sn_isLine h (fun hl e => br_f (by decide) (sn_countAll (fun s4 _ => ⟨pk_in l 10 hl e, nm_e (sn_least0 (fun w' s5 s6 s7 => br_t (by decide) ⟨pk_in l 10 hl e, ?_⟩))⟩))) (fun g => br_t rfl (hn g))
  have z : (0 : Int32) + a3 x.toNatClampNeg = nI c := by
    rw [e, nI_clamp (show l < 2 ^ 31 by omega), h.2.2 l hl, if_pos rfl, Int32.zero_add]
  rw [z]
  exact hy hl e _ _ _ _ _
theorem sn_cut {l c : Nat} {x : Int32} (h : sn_P l c a3) (hy : l < 10 → x = nI l → ∀ a3', post 0 (m, w, 0, bp, bs, a1, a2, a3', a4, a5, a6, a7)) (hn : ¬ (l < 10 ∧ x = nI l) → post (-2) (m, w, k, bp, bs, a1, a2, a3, a4, a5, a6, a7)) :
    wpX_cut post (m, w, k, bp, bs, a1, a2, a3, a4, a5, a6, a7) x := by
  unfold wpX_cut
  exact sn_isLine h (fun hl e => br_f (by decide) ⟨pk_in l 10 hl e, nm_e (hy hl e _)⟩) (fun g => br_t rfl (hn g))
end
section
variable {post : St2 → Prop} {w k : Int32} {a1 a2 a3 a4 a5 a6 a7 : Nat → Int32}
theorem sn_b58 (H : ∀ w' a4' a5' a6' a7', post (0, w', 1, 0, 0, a1, a2, a3, a4', a5', a6', a7')) :
    ∃ n, wX_findBest_58 post 0 n 0 9 0 w 1 0 0 a1 a2 a3 a4 a5 a6 a7 := by
  have main := pk_loopD (σ := Int32 × (Nat → Int32) × (Nat → Int32) × (Nat → Int32) × (Nat → Int32)) (fun n i s => wX_findBest_58 post 0 n 0 (nI i + (-1)) 0 s.1 1 0 0 a1 a2 a3 s.2.1 s.2.2.1 s.2.2.2.1 s.2.2.2.2) (fun i _ => i ≤ 10) ?_ ?_ 10 (w, a4, a5, a6, a7) (by omega)
  · exact ⟨11, main⟩
  · intro n s _
    exact br_t (by decide) (H _ _ _ _ _)
  · intro n i s hi hw
    rw [pk_m1]
    refine br_f (nI_pos (by omega)) ⟨pk_in i 10 (by omega), br_c (fun _ => nm_e (hw s (by omega))) (fun _ => ⟨pk_in i 10 (by omega), nm_e (sn_least0 (fun w' s5 s6 s7 => br_t (by decide) (nm_e (hw (w', _, s5, s6, s7) (by omega)))))⟩)⟩
theorem sn_findBest (hk : k = 0 ∨ k = 1) (H : ∀ w' a4' a5' a6' a7', post (0, w', 1, 0, 0, a1, a2, a3, a4', a5', a6', a7')) :
    wpX_findBest post (0, w, k, 0, 0, a1, a2, a3, a4, a5, a6, a7) := by
  rcases hk with rfl | rfl
  · exact br_t rfl (sn_countAll (fun s4 _ => sn_least0 (fun w' s5 s6 s7 => br_t (by decide) (br_t (by decide) (sn_b58 H)))))
  · exact br_f (by decide) (H _ _ _ _ _)
end
section
variable {post : Int32 → St2 → Prop} {w k : Int32} {a1 a2 a3 a4 a5 a6 a7 : Nat → Int32}
theorem sn_chosen {l c : Nat} {x : Int32} (hk : k = 0 ∨ k = 1) (h : sn_P l c a3) (hy : l < 10 → x = nI l → ∀ w' a4' a5' a6' a7', post 0 (0, w', 1, 0, 0, a1, a2, a3, a4', a5', a6', a7')) (hn : ¬ (l < 10 ∧ x = nI l) → post (-2) (0, w, k, 0, 0, a1, a2, a3, a4, a5, a6, a7)) :
    wpX_chosen post (0, w, k, 0, 0, a1, a2, a3, a4, a5, a6, a7) x := by
  unfold wpX_chosen
  refine sn_isLine h (fun hl e => br_f (by decide) (sn_findBest hk (fun w' s4 s5 s6 s7 => br_t (by decide) ?_))) (fun g => br_t rfl (hn g))
  subst e
  rw [sn_zbit l hl]
  exact hy hl rfl _ _ _ _ _
theorem sn_leastM (hk : k = 0 ∨ k = 1) (H : ∀ w' a4' a5' a6' a7', post 0 (0, w', 1, 0, 0, a1, a2, a3, a4', a5', a6', a7')) : wpX_least post (0, w, k, 0, 0, a1, a2, a3, a4, a5, a6, a7) := by
  unfold wpX_least
  exact sn_findBest hk (fun w' s4 s5 s6 s7 => H w' s4 s5 s6 s7)
end
end
section
/-! the law -/
/-- x is a point, as the law's flag z says -/
def sn_fl (x z : Int32) : Prop := (z = 1 ∧ sn_pt x) ∨ (z = 0 ∧ ¬ sn_pt x)
/-- the law's ok, and the line in the net: l is below 10 just if ok -/
def sn_R (x8 x0 x3 : Int32) (l c : Nat) : Prop := (x8 = 1 ∧ l < 10 ∧ x0 = nI l ∧ x3 = nI c) ∨ (x8 = 0 ∧ ¬ l < 10)
section
variable {post : Int32 → St0 → Prop} {mc ms kc ks : Nat} {x0 x1 x2 x3 x4 x6 x7 x8 z0 z1 w k : Int32} {a1 a2 a3 a4 a5 a6 a7 : Nat → Int32} {l c : Nat}
theorem sn_240 (e : z1 = z0) (H : post 1 ()) : wL_lawOf_240 post mc ms z0 z1 kc ks := by
  unfold wL_lawOf_240
  exact br_t e H
theorem sn_238 (H : post 1 ()) : wL_lawOf_238 post mc ms (-2) kc ks := by
  unfold wL_lawOf_238
  exact sn_240 rfl H
theorem sn_203 (hR : sn_R x8 x0 x3 l c) (hP : sn_P l c a3) (hk : k = 0 ∨ k = 1) (e : z1 = z0) (H : post 1 ()) : wL_lawOf_203 post mc ms x0 x4 x8 z0 z1 kc ks 0 w k 0 0 a1 a2 a3 a4 a5 a6 a7 := by
  unfold wL_lawOf_203
  refine br_t e (sn_leastM hk (fun w' s4 s5 s6 s7 => br_t rfl (sn_cut hP (fun hl ex s3 => ?_) (fun g => ?_))))
  · rcases hR with ⟨rfl, hl', rfl, rfl⟩ | ⟨rfl, hl'⟩
    · exact br_f (by decide) (br_t ex (sn_240 rfl H))
    · exact absurd hl hl'
  · rcases hR with ⟨rfl, hl', rfl, rfl⟩ | ⟨rfl, hl'⟩
    · exact br_f (by decide) (br_f (fun z => g ⟨hl', z⟩) (sn_238 H))
    · exact br_t rfl (sn_238 H)
theorem sn_181 (hR : sn_R x8 x0 x3 l c) (hP : sn_P l c a3) (e : z1 = z0) (H : post 1 ()) : wL_lawOf_181 post mc ms x0 x4 x8 z0 z1 kc ks 0 w 0 0 0 a1 a2 a3 a4 a5 a6 a7 := by
  unfold wL_lawOf_181
  refine br_t e (sn_chosen (Or.inl rfl) hP (fun hl ex w' s4 s5 s6 s7 => ?_) (fun g => ?_))
  · rcases hR with ⟨h8, hl', h0, h3⟩ | ⟨h8, hl'⟩
    · exact br_f (by rw [h8]; decide) (sn_203 (Or.inl ⟨h8, hl', h0, h3⟩) hP (Or.inr rfl) rfl H)
    · exact absurd hl hl'
  · rcases hR with ⟨h8, hl', h0, h3⟩ | ⟨h8, hl'⟩
    · exact absurd ⟨hl', h0⟩ g
    · exact br_t h8 (sn_203 (x3 := x3) (Or.inr ⟨h8, hl'⟩) hP (Or.inl rfl) rfl H)
theorem sn_179 (hR : sn_R x8 x0 x3 l c) (hP : sn_P l c a3) (H : post 1 ()) : wL_lawOf_179 post mc ms x0 x4 x8 (-2) kc ks 0 w 0 0 0 a1 a2 a3 a4 a5 a6 a7 := by
  unfold wL_lawOf_179
  exact sn_181 hR hP rfl H
theorem sn_152 (hR : sn_R x8 x0 x3 l c) (hP : sn_P l c a3) (e : z1 = z0) (H : post 1 ()) : wL_lawOf_152 post mc ms x0 x3 x4 x8 z0 z1 kc ks 0 w 0 0 0 a1 a2 a3 a4 a5 a6 a7 := by
  unfold wL_lawOf_152
  refine br_t e (sn_with hP (fun hl ex w' s4 s5 s6 s7 => ?_) (fun g => ?_))
  · rcases hR with ⟨h8, hl', h0, h3⟩ | ⟨h8, hl'⟩
    · exact br_f (by rw [h8]; decide) (br_t (ex.trans h0.symm) (sn_181 (Or.inl ⟨h8, hl', h0, h3⟩) hP h3.symm H))
    · exact absurd hl hl'
  · rcases hR with ⟨h8, hl', h0, h3⟩ | ⟨h8, hl'⟩
    · exact br_f (by rw [h8]; decide) (br_f (fun z => g ⟨hl', z.trans h0⟩) (sn_179 (Or.inl ⟨h8, hl', h0, h3⟩) hP H))
    · exact br_t h8 (sn_179 (x3 := x3) (Or.inr ⟨h8, hl'⟩) hP H)
theorem sn_128 (hR : sn_R x8 x0 x3 l c) (hP : sn_P l c a3) (H : post 1 ()) : wL_lawOf_128 post mc ms x0 x3 x4 x8 (-2) kc ks 0 w 0 0 0 a1 a2 a3 a4 a5 a6 a7 := by
  unfold wL_lawOf_128
  exact sn_152 hR hP rfl H
theorem sn_fl_1 {x z : Int32} (h : sn_fl x z) (hp : sn_pt x) : ¬ z = 0 := by
  rcases h with ⟨rfl, _⟩ | ⟨_, g⟩
  · decide
  · exact absurd hp g
theorem sn_fl_0 {x z : Int32} (h : sn_fl x z) (hp : ¬ sn_pt x) : z = 0 := by
  rcases h with ⟨_, g⟩ | ⟨e, _⟩
  · exact absurd g hp
  · exact e
/-- the line is laid -/
theorem sn_106y {a b : Nat} (h6 : sn_fl x1 x6) (h7 : sn_fl x2 x7) (hok : sn_ok x0 x1 x2 x3 l a b c) (hS : sn_S l c a b a1 a2 a3) (e : z1 = z0) (H : post 1 ()) : wL_lawOf_106 post mc ms x0 x1 x2 x3 x4 x6 x7 1 z0 z1 kc ks 0 w 0 0 0 a1 a2 a3 a4 a5 a6 a7 := by
  obtain ⟨hl, ha, hb, hab, h1, h2, rfl, rfl, rfl, rfl⟩ := hok
  unfold wL_lawOf_106
  refine br_t e (sn_between2 hS (fun _ w' s4 s5 s6 s7 => ?_) (fun z => absurd hl z))
  exact br_f (sn_fl_1 h6 ⟨a, ha, rfl⟩) (br_f (sn_fl_1 h7 ⟨b, hb, rfl⟩) (br_f (fun z => hab ((nI_eq (by omega) (by omega)).mp z)) (br_f (by decide) (sn_152 (Or.inl ⟨rfl, hl, rfl, rfl⟩) (sn_S_P hS) rfl H))))
/-- no line is laid -/
theorem sn_106n (h6 : sn_fl x1 x6) (h7 : sn_fl x2 x7) (e : z1 = z0) (H : post 1 ()) : wL_lawOf_106 post mc ms x0 x1 x2 x3 x4 x6 x7 0 z0 z1 kc ks 0 w 0 0 0 (fun _ => 0) (fun _ => 0) (fun _ => 0) a4 a5 a6 a7 := by
  have hP : sn_P 10 1 (fun _ => 0) := sn_S_P (sn_S_0 (a := 0) (b := 1) (by omega) (by omega) (by omega))
  have hR : sn_R 0 x0 x3 10 1 := Or.inr ⟨rfl, by omega⟩
  unfold wL_lawOf_106
  refine br_t e ?_
  by_cases g : sn_pt x2 ∧ sn_pt x1
  · have n6 := sn_fl_1 h6 g.2
    have n7 := sn_fl_1 h7 g.1
    obtain ⟨⟨b, hb, rfl⟩, ⟨a, ha, rfl⟩⟩ := g
    by_cases hab : a = b
    · subst hab
      exact sn_between1 ha (fun w' s4 s5 s6 s7 => br_f n6 (br_f n7 (br_t rfl (sn_152 hR hP rfl H))))
    · exact sn_between2 (sn_S_0 ha hb hab) (fun z => absurd z (by omega)) (fun _ w' s4 s5 s6 s7 => br_f n6 (br_f n7 (br_f (fun z => hab ((nI_eq (by omega) (by omega)).mp z)) (br_t rfl (sn_152 hR hP rfl H)))))
  · refine sn_between0 g ?_
    by_cases g1 : sn_pt x1
    · exact br_f (sn_fl_1 h6 g1) (br_t (sn_fl_0 h7 (fun g2 => g ⟨g2, g1⟩)) (sn_128 hR hP H))
    · exact br_t (sn_fl_0 h6 g1) (sn_128 hR hP H)
theorem sn_84 (h6 : sn_fl x1 x6) (h7 : sn_fl x2 x7) (hz : (z0 = 1 ∧ sn_okE x0 x1 x2 x3) ∨ (z0 = 0 ∧ ¬ sn_okE x0 x1 x2 x3)) (H : post 1 ()) : wL_lawOf_84 post mc ms x0 x1 x2 x3 x4 x6 x7 z0 kc ks 0 0 0 0 0 (fun _ => 0) (fun _ => 0) (fun _ => 0) a4 a5 a6 a7 := by
  unfold wL_lawOf_84
  refine sn_line (fun l a b c hok => ?_) (fun g => ?_)
  · rcases hz with ⟨rfl, _⟩ | ⟨_, h⟩
    · exact br_f (by decide) (sn_106y h6 h7 hok (sn_S_1 hok.2.1 hok.2.2.1 hok.2.2.2.1 hok.2.2.2.2.1 hok.2.2.2.2.2.1) rfl H)
    · exact absurd ⟨l, a, b, c, hok⟩ h
  · rcases hz with ⟨_, h⟩ | ⟨rfl, _⟩
    · exact absurd h g
    · exact br_t rfl (sn_106n h6 h7 rfl H)
theorem sn_83 (h6 : sn_fl x1 x6) (h7 : sn_fl x2 x7) (hz : ¬ sn_okE x0 x1 x2 x3) (H : post 1 ()) : wL_lawOf_83 post mc ms x0 x1 x2 x3 x4 x6 x7 kc ks 0 0 0 0 0 (fun _ => 0) (fun _ => 0) (fun _ => 0) a4 a5 a6 a7 := by
  unfold wL_lawOf_83
  exact sn_84 h6 h7 (Or.inr ⟨rfl, hz⟩) H
theorem sn_fl_n {x z : Int32} (h : sn_fl x z) (hz : z = 0) : ¬ sn_pt x := fun g => sn_fl_1 h g hz
theorem sn_fl_y {x z : Int32} (h : sn_fl x z) (hz : ¬ z = 0) : sn_pt x := by
  rcases h with ⟨_, g⟩ | ⟨e, _⟩
  · exact g
  · exact absurd e hz
theorem sn_41 (h6 : sn_fl x1 x6) (h7 : sn_fl x2 x7) (H : post 1 ()) : wL_lawOf_41 post mc ms x0 x1 x2 x3 x4 x6 x7 kc ks 0 0 0 0 0 (fun _ => 0) (fun _ => 0) (fun _ => 0) a4 a5 a6 a7 := by
  unfold wL_lawOf_41
  exact br_c (fun g => sn_83 h6 h7 (sn_ok_1 g) H) (fun g0 => br_c (fun g => sn_83 h6 h7 (sn_ok_2 g) H) (fun g1 => br_c (fun g => sn_83 h6 h7 (sn_ok_3 (sn_fl_n h6 g)) H) (fun g2 => br_c (fun g => sn_83 h6 h7 (sn_ok_4 (sn_fl_n h7 g)) H) (fun g3 => br_c (fun g => sn_83 h6 h7 (sn_ok_5 g) H) (fun g4 => br_c (fun g => sn_83 h6 h7 (sn_ok_6 g) H) (fun g5 => br_c (fun g => sn_83 h6 h7 (sn_ok_7 (Int32.not_le.mpr g)) H) (fun g6 => sn_84 h6 h7 (Or.inl ⟨rfl, sn_ok_all g0 g1 (sn_fl_y h6 g2) (sn_fl_y h7 g3) g4 g5 (Int32.not_lt.mp g6)⟩) H)))))))
theorem sn_24 (h6 : sn_fl x1 x6) (H : post 1 ()) : wL_lawOf_24 post mc ms x0 x1 x2 x3 x4 x6 kc ks 0 0 0 0 0 (fun _ => 0) (fun _ => 0) (fun _ => 0) a4 a5 a6 a7 := by
  have no : ¬ sn_pt x2 → wL_lawOf_40 post mc ms x0 x1 x2 x3 x4 x6 kc ks 0 0 0 0 0 (fun _ => 0) (fun _ => 0) (fun _ => 0) a4 a5 a6 a7 := by
    intro g
    unfold wL_lawOf_40
    exact sn_41 h6 (Or.inr ⟨rfl, g⟩) H
  unfold wL_lawOf_24
  exact br_c (fun g => no (sn_pt_lo g)) (fun g0 => br_c (fun g => no (sn_pt_hi g)) (fun g => sn_41 h6 (Or.inl ⟨rfl, sn_pt_of g0 g⟩) H))
theorem sn_23 (h6 : ¬ sn_pt x1) (H : post 1 ()) : wL_lawOf_23 post mc ms x0 x1 x2 x3 x4 kc ks 0 0 0 0 0 (fun _ => 0) (fun _ => 0) (fun _ => 0) a4 a5 a6 a7 := by
  unfold wL_lawOf_23
  exact sn_24 (Or.inr ⟨rfl, h6⟩) H
theorem sn_lawOf (H : post 1 ()) : wpL_lawOf post 8 556 () x0 x1 x2 x3 x4 := by
  unfold wpL_lawOf
  refine ⟨by omega, by omega, 7, 544, by omega, by omega, ?_⟩
  unfold wpX_init
  refine ⟨by omega, by omega, by omega, by omega, by omega, by omega, by omega, by omega, by omega, by omega, by omega, by omega, by omega, by omega, ?_⟩
  exact br_c (fun g => sn_23 (sn_pt_lo g) H) (fun g0 => br_c (fun g => sn_23 (sn_pt_hi g) H) (fun g => sn_24 (Or.inl ⟨rfl, sn_pt_of g0 g⟩) H))
end
theorem sn_cell {P : Int32 → Prop} {L : Nat} {xs : Nat → Int32} (hL : L ≤ 5) (i : Nat) (hi : i < 5) (H : ∀ x, P x) : wpL_cellAt P L xs () (nI i) := by
  unfold wpL_cellAt
  refine br_c (fun _ => H _) (fun g => ⟨?_, H _⟩)
  have g' : ¬ nI L ≤ nI i := g
  rw [nI_leI (by omega) (by omega)] at g'
  exact pk_in i L (by omega)
theorem i_vc (xs : Nat → Int32) (L : Nat) (hL : L ≤ 5) : wpL_law (fun r => r = 1) L xs := by
  unfold wpL_law
  exact sn_cell hL 0 (by omega) (fun r1 => sn_cell hL 1 (by omega) (fun r2 => sn_cell hL 2 (by omega) (fun r3 => sn_cell hL 3 (by omega) (fun r4 => sn_cell hL 4 (by omega) (fun r5 => ⟨8, 556, by omega, by omega, sn_lawOf rfl⟩)))))
end
