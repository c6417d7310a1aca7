section
/-- the domain that setDomains lays for an assumption -/
def rn_dm (x : Int32) : Int32 := if x = 2 then 3 else (1 : Int32) <<< (x &&& 31)
/-- an assumption: 0, 1 or free -/
def rn_q (x : Int32) : Prop := x = 0 ∨ x = 1 ∨ x = 2
theorem rn_fill {f s : Nat → Int32} {i k : Nat} {x : Int32} (hk : k = i) (h : ∀ j, j < i → s j = f j) (hx : x = f i) : ∀ j, j < i + 1 → upd s k x j = f j := by
  intro j hj
  rw [hk]
  by_cases e : j = i
  · rw [e, pk_us, hx]
  · rw [pk_un e]
    exact h j (by omega)
theorem rn_z (i : Nat) : (0 : Int32) + nI i = nI i := Int32.zero_add (nI i)
theorem rn_dm0 {x : Int32} (h : rn_q x) : ¬ rn_dm x = 0 := by
  rcases h with rfl | rfl | rfl <;> decide
theorem rn_dm3 {x : Int32} (h : rn_q x) : rn_dm x = 3 ↔ x = 2 := by
  rcases h with rfl | rfl | rfl <;> decide
theorem rn_row : ∀ d, d < 3 → 0 < d → ∀ v, v < 3 → (∀ j, j < v → ¬ (((((1 : Int32) <<< (nI v &&& 31)) ||| ((nI d >>> ((1 : Int32) &&& 31)) <<< ((8 : Int32) &&& 31))) >>> (nI j &&& 31)) &&& 1) = 1) ∧ (((((1 : Int32) <<< (nI v &&& 31)) ||| ((nI d >>> ((1 : Int32) &&& 31)) <<< ((8 : Int32) &&& 31))) >>> (nI v &&& 31)) &&& 1) = 1 ∧ ¬ (((1 : Int32) <<< (nI v &&& 31)) ||| ((nI d >>> ((1 : Int32) &&& 31)) <<< ((8 : Int32) &&& 31))) = 0 := by decide +kernel
theorem rn_dmN {x : Int32} (h : rn_q x) (h3 : ¬ rn_dm x = 3) : ∃ d, d < 3 ∧ 0 < d ∧ rn_dm x = nI d := by
  rcases h with rfl | rfl | rfl
  · exact ⟨1, by omega, by omega, by decide⟩
  · exact ⟨2, by omega, by omega, by decide⟩
  · exact absurd (by decide) h3
section
variable {sk cl fo : Int32} {a1 a2 a3 a4 a5 a6 a7 a8 a9 a10 a11 a12 a13 a14 : Nat → Int32}
theorem rn_setD {post : St2 → Prop} (H : ∀ d, (∀ j, j < 3 → d j = rn_dm (a8 j)) → post (3, 0, sk, cl, fo, a1, a2, a3, a4, a5, a6, a7, a8, d, a10, a11, a12, a13, a14)) : wpX_setDomains post (3, 0, sk, cl, fo, a1, a2, a3, a4, a5, a6, a7, a8, a9, a10, a11, a12, a13, a14) :=
  pk_loop (fun n i s => wX_setDomains_2 post 3 0 sk cl fo n (nI i) a1 a2 a3 a4 a5 a6 a7 a8 s a10 a11 a12 a13 a14) (fun i s => ∀ j, j < i → s j = rn_dm (a8 j)) 3 0 a9 (by omega) (fun j hj => absurd hj (by omega))
    (fun n s h => pk_le 3 3 (fun _ => H s h) (fun z => absurd z (by omega)))
    (fun n i s hi h hw => pk_le 3 i (fun z => absurd z (by omega)) (fun _ => ⟨pk_in i 8 (by omega),
      br_c (fun g => ⟨pk_in i 8 (by omega), nm_e (nm_r (nI_1 i) (hw _ (rn_fill (nI_clamp (by omega)) h (by rw [nI_clamp (by omega)] at g; rw [rn_dm, if_pos g]))))⟩)
        (fun g => ⟨pk_in i 8 (by omega), pk_in i 8 (by omega), nm_e (nm_r (nI_1 i) (hw _ (rn_fill (nI_clamp (by omega)) h (by rw [nI_clamp (by omega)] at g ⊢; rw [rn_dm, if_neg g]))))⟩)⟩))
theorem rn_net {post : Int32 → Prop} (h3 : ∀ j, j < 6 → a3 j = 0) (H : post 127) : wpX_netTraits post (3, 0, sk, cl, fo, a1, a2, a3, a4, a5, a6, a7, a8, a9, a10, a11, a12, a13, a14) :=
  pk_loop (σ := Unit) (fun n i _ => wX_netTraits_5 post 3 0 sk cl fo a1 a2 a3 a4 a5 a6 a7 a8 a9 a10 a11 a12 a13 a14 n 127 (nI i)) (fun _ _ => True) 6 0 () (by omega) trivial
    (fun n _ _ => pk_le 6 6 (fun _ => H) (fun z => absurd z (by omega)))
    (fun n i _ hi _ hw => pk_le 6 i (fun z => absurd z (by omega)) (fun _ => ⟨pk_in i 6 hi, br_t (by rw [nI_clamp (by omega), h3 i hi]; decide) (nm_r (nI_1 i) (hw () trivial))⟩))
theorem rn_filt1 {post : Int32 → St2 → Prop} (h : ∀ j, j < 3 → ¬ a9 j = 0) (H : post 1 (3, 0, sk, cl, fo, a1, a2, a3, a4, a5, a6, a7, a8, a9, a10, a11, a12, a13, a14)) : wpX_filter post (3, 0, sk, cl, fo, a1, a2, a3, a4, a5, a6, a7, a8, a9, a10, a11, a12, a13, a14) :=
  pk_loop (σ := Unit) (fun n i _ => wX_filter_2 post 3 0 sk cl fo a1 a2 a3 a4 a5 a6 a7 a8 a9 a10 a11 a12 a13 a14 n (nI i)) (fun _ _ => True) 3 0 () (by omega) trivial
    (fun n _ _ => pk_le 3 3 (fun _ => ⟨0 + 1, br_f (by decide) ⟨0 + 1, br_t (by decide) (br_t rfl H)⟩⟩) (fun z => absurd z (by omega)))
    (fun n i _ hi _ hw => pk_le 3 i (fun z => absurd z (by omega)) (fun _ => ⟨pk_in i 8 (by omega), br_f (by rw [nI_clamp (by omega)]; exact h i hi) (nm_r (nI_1 i) (hw () trivial))⟩))
theorem rn_filt0 {post : Int32 → St2 → Prop} (k : Nat) (hk : k < 3) (h0 : a9 k = 0) (h : ∀ j, j < k → ¬ a9 j = 0) (H : post 0 (3, 0, sk, cl, fo, a1, a2, a3, a4, a5, a6, a7, a8, a9, a10, a11, a12, a13, a14)) : wpX_filter post (3, 0, sk, cl, fo, a1, a2, a3, a4, a5, a6, a7, a8, a9, a10, a11, a12, a13, a14) :=
  pk_loop (σ := Unit) (fun n i _ => wX_filter_2 post 3 0 sk cl fo a1 a2 a3 a4 a5 a6 a7 a8 a9 a10 a11 a12 a13 a14 n (nI i)) (fun _ _ => True) k 0 () (by omega) trivial
    (fun n _ _ => pk_le 3 k (fun z => absurd z (by omega)) (fun _ => ⟨pk_in k 8 (by omega), br_t (by rw [nI_clamp (by omega)]; exact h0) H⟩))
    (fun n i _ hi _ hw => pk_le 3 i (fun z => absurd z (by omega)) (fun _ => ⟨pk_in i 8 (by omega), br_f (by rw [nI_clamp (by omega)]; exact h i hi) (nm_r (nI_1 i) (hw () trivial))⟩))
theorem rn_dec1 {post : Int32 → St2 → Prop} (h3 : ∀ j, j < 6 → a3 j = 0) (h : ∀ j, j < 3 → ¬ a9 j = 0) (H : post 1 (3, 0, sk, cl, fo, a1, a2, a3, a4, a5, a6, a7, a8, a9, a10, a11, a12, a13, a14)) : wpX_decide post (3, 0, sk, cl, fo, a1, a2, a3, a4, a5, a6, a7, a8, a9, a10, a11, a12, a13, a14) := by
  unfold wpX_decide
  refine rn_net h3 (br_f (by decide) (rn_filt1 h ⟨rfl, H⟩))
theorem rn_dec0 {post : Int32 → St2 → Prop} (h3 : ∀ j, j < 6 → a3 j = 0) (k : Nat) (hk : k < 3) (h0 : a9 k = 0) (h : ∀ j, j < k → ¬ a9 j = 0) (H : post 0 (3, 0, sk, cl, fo, a1, a2, a3, a4, a5, a6, a7, a8, a9, a10, a11, a12, a13, a14)) : wpX_decide post (3, 0, sk, cl, fo, a1, a2, a3, a4, a5, a6, a7, a8, a9, a10, a11, a12, a13, a14) := by
  unfold wpX_decide
  refine rn_net h3 (br_f (by decide) (rn_filt0 k hk h0 h ⟨rfl, H⟩))
theorem rn_keep {post : St2 → Prop} (H : ∀ b, (∀ j, j < 8 → b j = a9 j) → post (3, 0, sk, cl, fo, a1, a2, a3, a4, a5, a6, a7, a8, a9, b, a11, a12, a13, a14)) : wpX_keep post (3, 0, sk, cl, fo, a1, a2, a3, a4, a5, a6, a7, a8, a9, a10, a11, a12, a13, a14) 0 :=
  pk_loop (fun n i s => wX_keep_2 post 0 3 0 sk cl fo n (nI i) a1 a2 a3 a4 a5 a6 a7 a8 a9 s a11 a12 a13 a14) (fun i s => ∀ j, j < i → s j = a9 j) 8 0 a10 (by omega) (fun j hj => absurd hj (by omega))
    (fun n s h => pk_le 8 8 (fun _ => H s h) (fun z => absurd z (by omega)))
    (fun n i s hi h hw => pk_le 8 i (fun z => absurd z (by omega)) (fun _ => ⟨pk_in i 8 hi, pk_in i 72 (by omega) (rn_z i),
      nm_e (nm_r (nI_1 i) (hw _ (rn_fill (pk_cl i (rn_z i)) h (by rw [nI_clamp (by omega)]))))⟩))
theorem rn_fetch {post : St2 → Prop} (H : ∀ d, (∀ j, j < 8 → d j = a10 j) → post (3, 0, sk, cl, fo, a1, a2, a3, a4, a5, a6, a7, a8, d, a10, a11, a12, a13, a14)) : wpX_fetch post (3, 0, sk, cl, fo, a1, a2, a3, a4, a5, a6, a7, a8, a9, a10, a11, a12, a13, a14) 0 :=
  pk_loop (fun n i s => wX_fetch_2 post 0 3 0 sk cl fo n (nI i) a1 a2 a3 a4 a5 a6 a7 a8 s a10 a11 a12 a13 a14) (fun i s => ∀ j, j < i → s j = a10 j) 8 0 a9 (by omega) (fun j hj => absurd hj (by omega))
    (fun n s h => pk_le 8 8 (fun _ => H s h) (fun z => absurd z (by omega)))
    (fun n i s hi h hw => pk_le 8 i (fun z => absurd z (by omega)) (fun _ => ⟨pk_in i 72 (by omega) (rn_z i), pk_in i 8 hi,
      nm_e (nm_r (nI_1 i) (hw _ (rn_fill (nI_clamp (by omega)) h (by rw [pk_cl i (rn_z i)]))))⟩))
theorem rn_join {post : Int32 → St2 → Prop} {row : Int32} (v : Nat) (hv : v < 3) (hl : ∀ j, j < v → ¬ ((row >>> (nI j &&& 31)) &&& 1) = 1) (h1 : ((row >>> (nI v &&& 31)) &&& 1) = 1) (h0 : a14 v = 0) (H : post 1 (3, 0, sk, cl, fo, a1, a2, a3, a4, a5, a6, a7, a8, a9, a10, a11, a12, a13, (upd a14 v row))) : wpX_join post (3, 0, sk, cl, fo, a1, a2, a3, a4, a5, a6, a7, a8, a9, a10, a11, a12, a13, a14) row :=
  pk_loop (σ := Unit) (fun n i _ => wX_join_4 post 3 0 sk cl fo a1 a2 a3 a4 a5 a6 a7 a8 a9 a10 a11 a12 a13 a14 n row (nI i)) (fun _ _ => True) v 0 () (by omega) trivial
    (fun n _ _ => pk_le 3 v (fun z => absurd z (by omega)) (fun _ => br_t h1 (br_f (by decide) ⟨pk_in v 8 (by omega), br_t (by rw [nI_clamp (by omega)]; exact h0) ⟨pk_in v 8 (by omega), nm_r (by rw [nI_clamp (by omega)]) H⟩⟩)))
    (fun n i _ hi _ hw => pk_le 3 i (fun z => absurd z (by omega)) (fun _ => br_f (hl i hi) (br_t rfl (nm_r (nI_1 i) (hw () trivial)))))
theorem rn_elim {post : Int32 → St2 → Prop} {q : Nat → Int32} (hq : ∀ j, j < 3 → rn_q (q j)) (h9 : ∀ j, j < 3 → a9 j = rn_dm (q j)) (H : ∀ s, (∀ j, j < 3 → (s j = 0 ↔ q j = 2)) → post 1 (3, 0, sk, cl, fo, a1, a2, a3, a4, a5, a6, a7, a8, a9, a10, a11, a12, a13, s)) : wpX_eliminate post (3, 0, sk, cl, fo, a1, a2, a3, a4, a5, a6, a7, a8, a9, a10, a11, a12, a13, a14) := by
  have main : ∀ s0 : Nat → Int32, (∀ j, j < 8 → s0 j = 0) → ∃ n, wX_eliminate_23 post n 0 3 0 sk cl fo a1 a2 a3 a4 a5 a6 a7 a8 a9 a10 a11 a12 a13 s0 := by
    intro s0 hs0
    refine pk_loop (fun n i s => wX_eliminate_23 post n (nI i) 3 0 sk cl fo a1 a2 a3 a4 a5 a6 a7 a8 a9 a10 a11 a12 a13 s) (fun i s => (∀ j, j < i → (s j = 0 ↔ q j = 2)) ∧ ∀ j, i ≤ j → j < 8 → s j = 0) 3 0 s0 (by omega) ⟨fun j hj => absurd hj (by omega), fun j _ hj => hs0 j hj⟩ ?_ ?_
    · intro n s h
      exact pk_le 3 3 (fun _ => ⟨0 + 1, br_t (by decide) (H s h.1)⟩) (fun z => absurd z (by omega))
    · intro n i s hi h hw
      have hc : (nI i).toNatClampNeg = i := nI_clamp (by omega)
      have e9 : a9 (nI i).toNatClampNeg = rn_dm (q i) := by rw [hc]; exact h9 i hi
      have hqi := hq i hi
      refine pk_le 3 i (fun z => absurd z (by omega)) (fun _ => ⟨pk_in i 8 (by omega), br_f (by rw [e9]; exact rn_dm0 hqi) ⟨pk_in i 8 (by omega), br_c (fun g => ?_) (fun g => ⟨pk_in i 8 (by omega), ?_⟩)⟩⟩)
      · rw [e9] at g
        refine nm_r (nI_1 i) (hw s ⟨fun j hj => ?_, fun j hj hj8 => h.2 j (by omega) hj8⟩)
        by_cases e : j = i
        · rw [e]
          exact ⟨fun _ => (rn_dm3 hqi).mp g, fun _ => h.2 i (Nat.le_refl i) (by omega)⟩
        · exact h.1 j (by omega)
      · rw [e9] at g ⊢
        obtain ⟨d, d1, d2, d3⟩ := rn_dmN hqi g
        obtain ⟨r1, r2, r3⟩ := rn_row d d1 d2 i hi
        rw [d3]
        refine rn_join i hi r1 r2 (h.2 i (Nat.le_refl i) (by omega)) (br_f (by decide) (nm_r (nI_1 i) (hw _ ⟨fun j hj => ?_, fun j hj hj8 => ?_⟩)))
        · by_cases e : j = i
          · rw [e, pk_us]
            exact ⟨fun z => absurd z r3, fun z => absurd ((rn_dm3 hqi).mpr z) g⟩
          · rw [pk_un e]
            exact h.1 j (by omega)
        · rw [pk_un (by omega)]
          exact h.2 j (by omega) hj8
  exact pk_loop (fun n i s => wX_eliminate_2 post 3 0 sk cl fo n (nI i) a1 a2 a3 a4 a5 a6 a7 a8 a9 a10 a11 a12 a13 s) (fun i s => ∀ j, j < i → s j = 0) 8 0 a14 (by omega) (fun j hj => absurd hj (by omega))
    (fun n s h => pk_le 8 8 (fun _ => main s h) (fun z => absurd z (by omega)))
    (fun n i s hi h hw => pk_le 8 i (fun z => absurd z (by omega)) (fun _ => ⟨pk_in i 8 hi, nm_e (nm_r (nI_1 i) (hw _ (rn_fill (f := fun _ => 0) (nI_clamp (by omega)) h rfl)))⟩))
/-- how many of the first i are fixed -/
def rn_fx (q : Nat → Int32) : Nat → Nat
  | 0 => 0
  | i + 1 => rn_fx q i + (if q i = 2 then 0 else 1)
theorem rn_rank {post : Int32 → Prop} {q : Nat → Int32} (h : ∀ j, j < 3 → (a14 j = 0 ↔ q j = 2)) (H : post (nI (rn_fx q 3))) : wpX_rank post (3, 0, sk, cl, fo, a1, a2, a3, a4, a5, a6, a7, a8, a9, a10, a11, a12, a13, a14) :=
  pk_loop (σ := Unit) (fun n i _ => wX_rank_4 post 3 0 sk cl fo a1 a2 a3 a4 a5 a6 a7 a8 a9 a10 a11 a12 a13 a14 n (nI (rn_fx q i)) (nI i)) (fun _ _ => True) 3 0 () (by omega) trivial
    (fun n _ _ => pk_le 3 3 (fun _ => H) (fun z => absurd z (by omega)))
    (fun n i _ hi _ hw => pk_le 3 i (fun z => absurd z (by omega)) (fun _ => ⟨pk_in i 8 (by omega), by
      have t : wX_rank_4 post 3 0 sk cl fo a1 a2 a3 a4 a5 a6 a7 a8 a9 a10 a11 a12 a13 a14 n (nI (rn_fx q (i + 1))) (nI (i + 1)) := hw () trivial
      rw [nI_clamp (show i < 2 ^ 31 by omega)]
      rw [rn_fx] at t
      refine br_c (fun g => nm_r (nI_1 i) ?_) (fun g => nm_r (nI_1 _) (nm_r (nI_1 i) ?_))
      · rw [if_pos ((h i hi).mp g)] at t
        exact t
      · rw [if_neg (fun z => g ((h i hi).mpr z))] at t
        exact t⟩))
theorem rn_sol {post : Int32 → St2 → Prop} (h3 : ∀ j, j < 6 → a3 j = 0) (hq : ∀ j, j < 3 → rn_q (a8 j)) (H : ∀ d s, post ((1 : Int32) <<< ((3 - nI (rn_fx a8 3)) &&& 31)) (3, 0, sk, cl, fo, a1, a2, a3, a4, a5, a6, a7, a8, d, a10, a11, a12, a13, s)) : wpX_solutions post (3, 0, sk, cl, fo, a1, a2, a3, a4, a5, a6, a7, a8, a9, a10, a11, a12, a13, a14) := by
  unfold wpX_solutions
  refine rn_setD (fun d hd => rn_net h3 (br_f (by decide) (rn_elim (q := a8) hq hd (fun s hs => br_f (by decide) (rn_rank (q := a8) hs (H d s))))))
end
end
section
/-- what always(w) adds at place i -/
def rn_ai (q w : Int32) (i : Nat) : Int32 := if q = w then (1 : Int32) <<< (nI i &&& 31) else 0
/-- what extreme(w) adds at place i -/
def rn_gi (q w : Int32) (i : Nat) : Int32 := (if q = 1 - w then 1 - w else w) <<< (nI i &&& 31)
theorem rn_cut {x w : Int32} (h : rn_q x) (hw : w = 0 ∨ w = 1) : (rn_dm x &&& ((1 : Int32) <<< ((1 - w) &&& 31))) = 0 ↔ x = w := by
  rcases hw with rfl | rfl <;> rcases h with rfl | rfl | rfl <;> decide
theorem rn_cut2 {x w : Int32} (h : rn_q x) (hw : w = 0 ∨ w = 1) : (rn_dm x &&& ((1 : Int32) <<< (w &&& 31))) = 0 ↔ x = 1 - w := by
  rcases hw with rfl | rfl <;> rcases h with rfl | rfl | rfl <;> decide
theorem rn_bit0 {w : Int32} (hw : w = 0 ∨ w = 1) : ¬ ((1 : Int32) <<< (w &&& 31)) = 0 := by
  rcases hw with rfl | rfl <;> decide
theorem rn_bit1 {w : Int32} (hw : w = 0 ∨ w = 1) : ¬ ((1 : Int32) <<< ((1 - w) &&& 31)) = 0 := by
  rcases hw with rfl | rfl <;> decide
section
variable {sk cl fo : Int32} {a1 a2 a3 a4 a5 a6 a7 a8 a9 a10 a11 a12 a13 a14 : Nat → Int32}
theorem rn_can {post : Int32 → St2 → Prop} (h3 : ∀ j, j < 6 → a3 j = 0) (hq : ∀ j, j < 3 → rn_q (a8 j)) {i : Nat} (hi : i < 3) (x : Int32)
    (H1 : ¬ (rn_dm (a8 i) &&& ((1 : Int32) <<< (x &&& 31))) = 0 → ∀ d, post 1 (3, 0, sk, cl, fo, a1, a2, a3, a4, a5, a6, a7, a8, d, a10, a11, a12, a13, a14))
    (H0 : (rn_dm (a8 i) &&& ((1 : Int32) <<< (x &&& 31))) = 0 → ∀ d, post 0 (3, 0, sk, cl, fo, a1, a2, a3, a4, a5, a6, a7, a8, d, a10, a11, a12, a13, a14)) : wpX_can post (3, 0, sk, cl, fo, a1, a2, a3, a4, a5, a6, a7, a8, a9, a10, a11, a12, a13, a14) (nI i) x (nI i) x := by
  have hc : (nI i).toNatClampNeg = i := nI_clamp (by omega)
  unfold wpX_can
  refine rn_setD (fun d hd => ⟨pk_in i 8 (by omega), pk_in i 8 (by omega), nm_e ⟨pk_in i 8 (by omega), pk_in i 8 (by omega), nm_e ?_⟩⟩)
  rw [hc]
  have e1 : upd (upd d i (d i &&& (1 : Int32) <<< (x &&& 31))) i (upd d i (d i &&& (1 : Int32) <<< (x &&& 31)) i &&& (1 : Int32) <<< (x &&& 31)) i = rn_dm (a8 i) &&& (1 : Int32) <<< (x &&& 31) := by
    rw [pk_us, pk_us, hd i hi, Int32.and_assoc, Int32.and_self]
  have e2 : ∀ j, j < 3 → j ≠ i → ¬ upd (upd d i (d i &&& (1 : Int32) <<< (x &&& 31))) i (upd d i (d i &&& (1 : Int32) <<< (x &&& 31)) i &&& (1 : Int32) <<< (x &&& 31)) j = 0 := by
    intro j hj hne
    rw [pk_un hne, pk_un hne, hd j hj]
    exact rn_dm0 (hq j hj)
  by_cases g : (rn_dm (a8 i) &&& ((1 : Int32) <<< (x &&& 31))) = 0
  · exact rn_dec0 h3 i hi (e1.trans g) (fun j hj => e2 j (by omega) (by omega)) ⟨rfl, H0 g _⟩
  · refine rn_dec1 h3 (fun j hj => ?_) ⟨rfl, H1 g _⟩
    by_cases e : j = i
    · rw [e, e1]
      exact g
    · exact e2 j hj e
theorem rn_alS {post : Int32 → St2 → Prop} (h3 : ∀ j, j < 6 → a3 j = 0) (hq : ∀ j, j < 3 → rn_q (a8 j)) {w : Int32} (hw : w = 0 ∨ w = 1) {n : Nat} {x2 x3 y : Int32} (i : Nat) (hi : i < 3) (hx : x3 = nI i) (hy : nI i + 1 = y)
    (H : ∀ d, wX_always_17 post w n (x2 + rn_ai (a8 i) w i) y 3 0 sk cl fo a1 a2 a3 a4 a5 a6 a7 a8 d a10 a11 a12 a13 a14) : wX_always_17 post w (n + 1) x2 x3 3 0 sk cl fo a1 a2 a3 a4 a5 a6 a7 a8 a9 a10 a11 a12 a13 a14 := by
  subst hx
  refine pk_le 3 i (fun z => absurd z (by omega)) (fun _ => rn_can h3 hq hi (1 - w) (fun g d => br_f (by decide) (nm_r hy ?_)) (fun g d => br_t rfl (nm_r (e' := x2 + rn_ai (a8 i) w i) ?_ (nm_r hy (H d)))))
  · have t := H d
    rw [rn_ai, if_neg (fun z => g ((rn_cut (hq i hi) hw).mpr z)), Int32.add_zero] at t
    exact t
  · rw [rn_ai, if_pos ((rn_cut (hq i hi) hw).mp g)]
/-- always(w) of three assumptions -/
def rn_al (q : Nat → Int32) (w : Int32) : Int32 := 0 + rn_ai (q 0) w 0 + rn_ai (q 1) w 1 + rn_ai (q 2) w 2
theorem rn_always {post : Int32 → St2 → Prop} (h3 : ∀ j, j < 6 → a3 j = 0) (hq : ∀ j, j < 3 → rn_q (a8 j)) {w : Int32} (hw : w = 0 ∨ w = 1)
    (H : ∀ d, post (rn_al a8 w) (3, 0, sk, cl, fo, a1, a2, a3, a4, a5, a6, a7, a8, d, a10, a11, a12, a13, a14)) : wpX_always post (3, 0, sk, cl, fo, a1, a2, a3, a4, a5, a6, a7, a8, a9, a10, a11, a12, a13, a14) w := by
  unfold wpX_always
  refine rn_setD (fun d hd => rn_dec1 h3 (fun j hj => by rw [hd j hj]; exact rn_dm0 (hq j hj)) (br_f (by decide) ⟨0 + 1 + 1 + 1 + 1, ?_⟩))
  refine rn_alS h3 hq hw 0 (by omega) rfl rfl (fun d => ?_)
  refine rn_alS h3 hq hw 1 (by omega) rfl rfl (fun d => ?_)
  refine rn_alS h3 hq hw 2 (by omega) rfl rfl (fun d => ?_)
  exact br_t (by decide) (H d)
theorem rn_alwaysOne {post : Int32 → St2 → Prop} (h3 : ∀ j, j < 6 → a3 j = 0) (hq : ∀ j, j < 3 → rn_q (a8 j))
    (H : ∀ d, post (rn_al a8 1) (3, 0, sk, cl, fo, a1, a2, a3, a4, a5, a6, a7, a8, d, a10, a11, a12, a13, a14)) : wpX_alwaysOne post (3, 0, sk, cl, fo, a1, a2, a3, a4, a5, a6, a7, a8, a9, a10, a11, a12, a13, a14) := by
  unfold wpX_alwaysOne
  exact rn_always h3 hq (Or.inr rfl) H
theorem rn_alwaysZero {post : Int32 → St2 → Prop} (h3 : ∀ j, j < 6 → a3 j = 0) (hq : ∀ j, j < 3 → rn_q (a8 j))
    (H : ∀ d, post (rn_al a8 0) (3, 0, sk, cl, fo, a1, a2, a3, a4, a5, a6, a7, a8, d, a10, a11, a12, a13, a14)) : wpX_alwaysZero post (3, 0, sk, cl, fo, a1, a2, a3, a4, a5, a6, a7, a8, a9, a10, a11, a12, a13, a14) := by
  unfold wpX_alwaysZero
  exact rn_always h3 hq (Or.inl rfl) H
theorem rn_x77 {post : Int32 → St2 → Prop} {w x2 x5 y : Int32} {n : Nat} {i : Nat} (hi : i < 3) (hy : nI i + (-1) = y)
    (H : ∀ d b, (∀ j, j < 3 → j ≠ i → b j = a9 j) → b i = (1 : Int32) <<< (x5 &&& 31) → wX_extreme_23 post w n (x2 + x5 <<< (nI i &&& 31)) y 3 0 sk cl fo a1 a2 a3 a4 a5 a6 a7 a8 d b a11 a12 a13 a14) :
    wX_extreme_77 post (wX_extreme_23 post w n) w x2 (nI i) x5 3 0 sk cl fo a1 a2 a3 a4 a5 a6 a7 a8 a9 a10 a11 a12 a13 a14 := by
  have hc : (nI i).toNatClampNeg = i := nI_clamp (by omega)
  unfold wX_extreme_77
  rw [hc]
  refine ⟨pk_in i 8 (by omega), nm_e (rn_keep (fun b hb => nm_e (nm_r hy (H _ b (fun j hj hne => ?_) ?_))))⟩
  · rw [hb j (by omega), pk_un hne]
  · rw [hb i (by omega), pk_us]
theorem rn_xS {post : Int32 → St2 → Prop} (h3 : ∀ j, j < 6 → a3 j = 0) (hq : ∀ j, j < 3 → rn_q (a8 j)) {w : Int32} (hw : w = 0 ∨ w = 1) {n : Nat} {x2 x3 y : Int32} (i : Nat) (hi : i < 3) (hx : x3 = nI i) (hy : nI i + (-1) = y)
    (b1 : ∀ j, j < i + 1 → a10 j = rn_dm (a8 j)) (b2 : ∀ j, j < 3 → ¬ a10 j = 0)
    (H : ∀ d b, (∀ j, j < i → b j = rn_dm (a8 j)) → (∀ j, j < 3 → ¬ b j = 0) → wX_extreme_23 post w n (x2 + rn_gi (a8 i) w i) y 3 0 sk cl fo a1 a2 a3 a4 a5 a6 a7 a8 d b a11 a12 a13 a14) : wX_extreme_23 post w (n + 1) x2 x3 3 0 sk cl fo a1 a2 a3 a4 a5 a6 a7 a8 a9 a10 a11 a12 a13 a14 := by
  subst hx
  have hc : (nI i).toNatClampNeg = i := nI_clamp (by omega)
  have hqi := hq i hi
  refine pk_lt i 0 (fun z => absurd z (by omega)) (fun _ => rn_fetch (fun d hd => ⟨pk_in i 8 (by omega), nm_e (nm_e ?_)⟩))
  rw [hc, hd i (by omega), b1 i (by omega)]
  refine br_c (fun g => rn_x77 hi hy (fun d' b hb hbi => ?_)) (fun g => ⟨pk_in i 8 (by omega), nm_e (rn_dec1 h3 (fun j hj => ?_) (br_f (by decide) (rn_fetch (fun d2 hd2 => rn_x77 hi hy (fun d' b hb hbi => ?_)))))⟩)
  · have e : rn_gi (a8 i) w i = (1 - w) <<< (nI i &&& 31) := by rw [rn_gi, if_pos ((rn_cut2 hqi hw).mp g)]
    rw [← e]
    refine H d' b (fun j hj => ?_) (fun j hj => ?_)
    · rw [hb j (by omega) (by omega), hd j (by omega)]
      exact b1 j (by omega)
    · by_cases ej : j = i
      · rw [ej, hbi]
        exact rn_bit1 hw
      · rw [hb j hj ej, hd j (by omega)]
        exact b2 j hj
  · by_cases ej : j = i
    · rw [ej, pk_us]
      exact g
    · rw [pk_un ej, hd j (by omega)]
      exact b2 j hj
  · have e : rn_gi (a8 i) w i = w <<< (nI i &&& 31) := by rw [rn_gi, if_neg (fun z => g ((rn_cut2 hqi hw).mpr z))]
    rw [← e]
    refine H d' b (fun j hj => ?_) (fun j hj => ?_)
    · rw [hb j (by omega) (by omega), hd2 j (by omega)]
      exact b1 j (by omega)
    · by_cases ej : j = i
      · rw [ej, hbi]
        exact rn_bit0 hw
      · rw [hb j hj ej, hd2 j (by omega)]
        exact b2 j hj
/-- extreme(w) of three assumptions -/
def rn_ex (q : Nat → Int32) (w : Int32) : Int32 := 0 + rn_gi (q 2) w 2 + rn_gi (q 1) w 1 + rn_gi (q 0) w 0
theorem rn_extreme {post : Int32 → St2 → Prop} (h3 : ∀ j, j < 6 → a3 j = 0) (hq : ∀ j, j < 3 → rn_q (a8 j)) (h9 : ∀ j, j < 3 → a9 j = rn_dm (a8 j)) {w : Int32} (hw : w = 0 ∨ w = 1)
    (H : ∀ d b, post (rn_ex a8 w) (3, 0, sk, cl, fo, a1, a2, a3, a4, a5, a6, a7, a8, d, b, a11, a12, a13, a14)) : wpX_extreme post (3, 0, sk, cl, fo, a1, a2, a3, a4, a5, a6, a7, a8, a9, a10, a11, a12, a13, a14) w := by
  have h0 : ∀ j, j < 3 → ¬ a9 j = 0 := fun j hj => by rw [h9 j hj]; exact rn_dm0 (hq j hj)
  unfold wpX_extreme
  refine rn_keep (fun b hb => rn_dec1 h3 h0 (br_f (by decide) (nm_e ⟨0 + 1 + 1 + 1 + 1, ?_⟩)))
  refine rn_xS h3 hq hw 2 (by omega) rfl rfl (fun j hj => by rw [hb j (by omega)]; exact h9 j hj) (fun j hj => by rw [hb j (by omega)]; exact h0 j hj) (fun d b e1 e2 => ?_)
  refine rn_xS h3 hq hw 1 (by omega) rfl rfl e1 e2 (fun d b e1 e2 => ?_)
  refine rn_xS h3 hq hw 0 (by omega) rfl rfl e1 e2 (fun d b e1 e2 => ?_)
  exact br_t (by decide) (H d b)
theorem rn_least {post : Int32 → St2 → Prop} (h3 : ∀ j, j < 6 → a3 j = 0) (hq : ∀ j, j < 3 → rn_q (a8 j))
    (H : ∀ d b, post (rn_ex a8 0) (3, 0, sk, cl, fo, a1, a2, a3, a4, a5, a6, a7, a8, d, b, a11, a12, a13, a14)) : wpX_least post (3, 0, sk, cl, fo, a1, a2, a3, a4, a5, a6, a7, a8, a9, a10, a11, a12, a13, a14) := by
  unfold wpX_least
  exact rn_setD (fun d hd => rn_extreme h3 hq hd (Or.inl rfl) H)
theorem rn_greatest {post : Int32 → St2 → Prop} (h3 : ∀ j, j < 6 → a3 j = 0) (hq : ∀ j, j < 3 → rn_q (a8 j))
    (H : ∀ d b, post (rn_ex a8 1) (3, 0, sk, cl, fo, a1, a2, a3, a4, a5, a6, a7, a8, d, b, a11, a12, a13, a14)) : wpX_greatest post (3, 0, sk, cl, fo, a1, a2, a3, a4, a5, a6, a7, a8, a9, a10, a11, a12, a13, a14) := by
  unfold wpX_greatest
  exact rn_setD (fun d hd => rn_extreme h3 hq hd (Or.inr rfl) H)
end
theorem rn_178 {post : St2 → Prop} {mc ms : Nat} {b1 b2 z : Nat → Int32} (H : ∀ b8, (∀ j, j < 8 → b8 j = 2) → post (3, 0, -1, 0, 0, b1, b2, z, z, z, z, z, b8, z, z, z, z, z, z)) : ∃ n, wX_init_178 post mc ms 14 226 3 0 0 0 0 n 0 b1 b2 z z z z z z z z z z z z :=
  pk_loop (fun n i s => wX_init_178 post mc ms 14 226 3 0 0 0 0 n (nI i) b1 b2 z z z z z s z z z z z z) (fun i s => ∀ j, j < i → s j = 2) 8 0 z (by omega) (fun j hj => absurd hj (by omega))
    (fun n s h => pk_le 8 8 (fun _ => H s h) (fun z => absurd z (by omega)))
    (fun n i s hi h hw => pk_le 8 i (fun z => absurd z (by omega)) (fun _ => ⟨pk_in i 8 hi, nm_e (nm_r (nI_1 i) (hw _ (rn_fill (f := fun _ => 2) (nI_clamp (by omega)) h rfl)))⟩))
theorem rn_init {post : St2 → Prop} (H : ∀ b1 b2 b8, (∀ j, j < 8 → b8 j = 2) → post (3, 0, -1, 0, 0, b1, b2, fun _ => 0, fun _ => 0, fun _ => 0, fun _ => 0, fun _ => 0, b8, fun _ => 0, fun _ => 0, fun _ => 0, fun _ => 0, fun _ => 0, fun _ => 0)) : wpX_init post 14 226 (0, 0, 0, 0, 0) 3 := by
  unfold wpX_init
  refine ⟨by omega, by omega, by omega, by omega, by omega, by omega, by omega, by omega, by omega, by omega, by omega, by omega, by omega, by omega, by omega, by omega, by omega, by omega, by omega, by omega, by omega, by omega, by omega, by omega, by omega, by omega, by omega, by omega, br_t (by decide) ?_⟩
  unfold wX_init_127
  refine br_t (by decide) ?_
  exact pk_loop (σ := (Nat → Int32) × (Nat → Int32)) (fun n i s => wX_init_147 post 14 226 14 226 3 0 0 0 0 n (nI i) s.1 s.2 (fun _ => 0) (fun _ => 0) (fun _ => 0) (fun _ => 0) (fun _ => 0) (fun _ => 0) (fun _ => 0) (fun _ => 0) (fun _ => 0) (fun _ => 0) (fun _ => 0) (fun _ => 0)) (fun _ _ => True) 6 0 (fun _ => 0, fun _ => 0) (by omega) trivial
    (fun n s _ => pk_le 6 6 (fun _ => rn_178 (fun b8 h => H s.1 s.2 b8 h)) (fun z => absurd z (by omega)))
    (fun n i s hi _ hw => pk_le 6 i (fun z => absurd z (by omega)) (fun _ => ⟨pk_in i 6 hi, nm_e ⟨pk_in i 6 hi, nm_e (nm_r (nI_1 i) (hw (_, _) trivial))⟩⟩))
end
section
/-- a bit set in m at v, if x holds and y is t -/
def rn_or (x t y v m : Int32) : Int32 := if x = 0 then m else if y = t then m ||| ((1 : Int32) <<< (v &&& 31)) else m
theorem rn_or0 (t y v m : Int32) : rn_or 0 t y v m = m := if_pos rfl
/-- the count halved if x holds -/
def rn_hf (x c : Int32) : Int32 := if x = 0 then c else c / 2
/-- fixed1 -/
def rn_f1 (x6 x1 x8 x2 x0 : Int32) : Int32 := if x6 = 0 then 0 else if 2 ≤ x1 then 0 else if x8 = 0 then 1 else if x2 = x0 then 0 else 1
/-- fixed2 -/
def rn_f2 (x8 x3 : Int32) : Int32 := if x8 = 0 then 0 else if 2 ≤ x3 then 0 else 1
/-- the assumptions behind the first and the second call -/
def rn_p1 (x6 x0 x1 : Int32) (j : Nat) : Int32 := if x6 = 1 ∧ x0 = nI j then x1 else 2
def rn_pp (x6 x0 x1 x8 x2 x3 : Int32) (j : Nat) : Int32 := if x8 = 1 ∧ x2 = nI j then x3 else rn_p1 x6 x0 x1 j
/-- what solutions answers -/
def rn_so (q : Nat → Int32) : Int32 := (1 : Int32) <<< ((3 - nI (rn_fx q 3)) &&& 31)
/-- what the law asks of the three numbers -/
def rn_G (x0 x1 x2 x3 x6 x8 : Int32) (q : Nat → Int32) : Prop :=
  rn_so q = rn_hf (rn_f2 x8 x3) (rn_hf (rn_f1 x6 x1 x8 x2 x0) 8)
  ∧ rn_or (rn_f2 x8 x3) 1 x3 x2 (rn_or (rn_f1 x6 x1 x8 x2 x0) 1 x1 x0 0) = rn_al q 1
  ∧ rn_or (rn_f2 x8 x3) 0 x3 x2 (rn_or (rn_f1 x6 x1 x8 x2 x0) 0 x1 x0 0) = rn_al q 0
theorem rn_al_c {q q' : Nat → Int32} (h : ∀ j, j < 3 → q j = q' j) (w : Int32) : rn_al q w = rn_al q' w := by
  rw [rn_al, rn_al, h 0 (by omega), h 1 (by omega), h 2 (by omega)]
theorem rn_so_c {q q' : Nat → Int32} (h : ∀ j, j < 3 → q j = q' j) : rn_so q = rn_so q' := by
  have e : rn_fx q 3 = rn_fx q' 3 := by
    show 0 + (if q 0 = 2 then 0 else 1) + (if q 1 = 2 then 0 else 1) + (if q 2 = 2 then 0 else 1) = 0 + (if q' 0 = 2 then 0 else 1) + (if q' 1 = 2 then 0 else 1) + (if q' 2 = 2 then 0 else 1)
    rw [h 0 (by omega), h 1 (by omega), h 2 (by omega)]
  rw [rn_so, rn_so, e]
theorem rn_G_c {x0 x1 x2 x3 x6 x8 : Int32} {q q' : Nat → Int32} (h : ∀ j, j < 3 → q j = q' j) (g : rn_G x0 x1 x2 x3 x6 x8 q') : rn_G x0 x1 x2 x3 x6 x8 q := by
  unfold rn_G
  rw [rn_so_c h, rn_al_c h, rn_al_c h]
  exact g
theorem rn_ends {q : Nat → Int32} (h : ∀ j, j < 3 → rn_q (q j)) : rn_ex q 0 = rn_al q 1 ∧ rn_ex q 1 = 7 - rn_al q 0 := by
  have h0 := h 0 (by omega)
  have h1 := h 1 (by omega)
  have h2 := h 2 (by omega)
  rw [rn_ex, rn_ex, rn_al, rn_al]
  generalize q 0 = u0 at *
  generalize q 1 = u1 at *
  generalize q 2 = u2 at *
  rcases h0 with rfl | rfl | rfl <;> rcases h1 with rfl | rfl | rfl <;> rcases h2 with rfl | rfl | rfl <;> decide
theorem rn_G11 : ∀ i, i < 3 → ∀ b, b < 3 → ∀ k, k < 3 → ∀ c, c < 3 → rn_so (rn_pp 1 (nI i) (nI b) 1 (nI k) (nI c)) = rn_hf (rn_f2 1 (nI c)) (rn_hf (rn_f1 1 (nI b) 1 (nI k) (nI i)) 8)
  ∧ rn_or (rn_f2 1 (nI c)) 1 (nI c) (nI k) (rn_or (rn_f1 1 (nI b) 1 (nI k) (nI i)) 1 (nI b) (nI i) 0) = rn_al (rn_pp 1 (nI i) (nI b) 1 (nI k) (nI c)) 1
  ∧ rn_or (rn_f2 1 (nI c)) 0 (nI c) (nI k) (rn_or (rn_f1 1 (nI b) 1 (nI k) (nI i)) 0 (nI b) (nI i) 0) = rn_al (rn_pp 1 (nI i) (nI b) 1 (nI k) (nI c)) 0 := by decide +kernel
theorem rn_G10 : ∀ i, i < 3 → ∀ b, b < 3 → rn_so (rn_p1 1 (nI i) (nI b)) = (if (2 : Int32) ≤ nI b then 8 else 4)
  ∧ rn_or (if (2 : Int32) ≤ nI b then 0 else 1) 1 (nI b) (nI i) 0 = rn_al (rn_p1 1 (nI i) (nI b)) 1
  ∧ rn_or (if (2 : Int32) ≤ nI b then 0 else 1) 0 (nI b) (nI i) 0 = rn_al (rn_p1 1 (nI i) (nI b)) 0 := by decide +kernel
theorem rn_pp0 (x6 x0 x1 x2 x3 : Int32) (j : Nat) : rn_pp x6 x0 x1 0 x2 x3 j = rn_p1 x6 x0 x1 j := if_neg (fun z => absurd z.1 (by decide))
theorem rn_p10 (x0 x1 : Int32) (j : Nat) : rn_p1 0 x0 x1 j = 2 := if_neg (fun z => absurd z.1 (by decide))
theorem rn_pp2 (x0 x1 x2 x3 : Int32) (j : Nat) : rn_pp 0 x0 x1 1 x2 x3 j = rn_p1 1 x2 x3 j := by
  rw [rn_pp, rn_p10]
  rfl
theorem rn_G0 (x0 x1 x2 x3 : Int32) : rn_G x0 x1 x2 x3 0 0 (rn_pp 0 x0 x1 0 x2 x3) := by
  refine rn_G_c (q' := fun _ => 2) (fun j _ => (rn_pp0 ..).trans (rn_p10 ..)) ?_
  rw [rn_G, show rn_f2 0 x3 = 0 from if_pos rfl, show rn_f1 0 x1 0 x2 x0 = 0 from if_pos rfl]
  rw [rn_or0, rn_or0, rn_or0, rn_or0]
  exact ⟨by decide, by decide, by decide⟩
theorem rn_Ga (x2 x3 : Int32) {i b : Nat} (hi : i < 3) (hb : b < 3) : rn_G (nI i) (nI b) x2 x3 1 0 (rn_pp 1 (nI i) (nI b) 0 x2 x3) := by
  refine rn_G_c (q' := rn_p1 1 (nI i) (nI b)) (fun j _ => rn_pp0 ..) ?_
  obtain ⟨g1, g2, g3⟩ := rn_G10 i hi b hb
  have e1 : rn_f1 1 (nI b) 0 x2 (nI i) = if (2 : Int32) ≤ nI b then 0 else 1 := by
    rw [rn_f1, if_neg (by decide), if_pos rfl]
  rw [rn_G, show rn_f2 0 x3 = 0 from if_pos rfl, e1]
  refine ⟨g1.trans ?_, g2, g3⟩
  by_cases h : (2 : Int32) ≤ nI b
  · rw [if_pos h, if_pos h]
    decide
  · rw [if_neg h, if_neg h]
    decide
theorem rn_Gb (x0 x1 : Int32) {k c : Nat} (hk : k < 3) (hc : c < 3) : rn_G x0 x1 (nI k) (nI c) 0 1 (rn_pp 0 x0 x1 1 (nI k) (nI c)) := by
  refine rn_G_c (q' := rn_p1 1 (nI k) (nI c)) (fun j _ => rn_pp2 ..) ?_
  obtain ⟨g1, g2, g3⟩ := rn_G10 k hk c hc
  have e2 : rn_f2 1 (nI c) = if (2 : Int32) ≤ nI c then 0 else 1 := by
    rw [rn_f2, if_neg (by decide)]
  rw [rn_G, show rn_f1 0 x1 1 (nI k) x0 = 0 from if_pos rfl, e2]
  refine ⟨g1.trans ?_, g2, g3⟩
  by_cases h : (2 : Int32) ≤ nI c
  · rw [if_pos h, if_pos h]
    decide
  · rw [if_neg h, if_neg h]
    decide
/-- a flag and the pair it speaks of -/
def rn_ok (f x v : Int32) : Prop := f = 0 ∨ (f = 1 ∧ ∃ i b : Nat, i < 3 ∧ b < 3 ∧ x = nI i ∧ v = nI b)
theorem rn_Gall {x0 x1 x2 x3 x6 x8 : Int32} (h1 : rn_ok x6 x0 x1) (h2 : rn_ok x8 x2 x3) : rn_G x0 x1 x2 x3 x6 x8 (rn_pp x6 x0 x1 x8 x2 x3) := by
  rcases h1 with rfl | ⟨rfl, i, b, hi, hb, rfl, rfl⟩ <;> rcases h2 with rfl | ⟨rfl, k, c, hk, hc, rfl, rfl⟩
  · exact rn_G0 x0 x1 x2 x3
  · exact rn_Gb x0 x1 hk hc
  · exact rn_Ga x2 x3 hi hb
  · exact rn_G11 i hi b hb k hk c hc
theorem rn_qN : ∀ b, b < 3 → rn_q (nI b) := by
  intro b hb
  rcases (by omega : b = 0 ∨ b = 1 ∨ b = 2) with rfl | rfl | rfl
  · exact Or.inl rfl
  · exact Or.inr (Or.inl rfl)
  · exact Or.inr (Or.inr rfl)
theorem rn_p1q {x0 x1 x6 : Int32} (h1 : rn_ok x6 x0 x1) (j : Nat) : rn_q (rn_p1 x6 x0 x1 j) := by
  rcases h1 with rfl | ⟨rfl, i, b, hi, hb, rfl, rfl⟩
  · rw [rn_p10]
    exact Or.inr (Or.inr rfl)
  · unfold rn_p1
    split
    · exact rn_qN b hb
    · exact Or.inr (Or.inr rfl)
theorem rn_ppq {x0 x1 x2 x3 x6 x8 : Int32} (h1 : rn_ok x6 x0 x1) (h2 : rn_ok x8 x2 x3) (j : Nat) : rn_q (rn_pp x6 x0 x1 x8 x2 x3 j) := by
  rcases h2 with rfl | ⟨rfl, k, c, hk, hc, rfl, rfl⟩
  · rw [rn_pp0]
    exact rn_p1q h1 j
  · unfold rn_pp
    split
    · exact rn_qN c hc
    · exact rn_p1q h1 j
/-- the value that the law expects of the second call -/
def rn_bf (x6 x0 x1 x2 : Int32) : Int32 := if x6 = 0 then 2 else if x0 = x2 then x1 else 2
theorem rn_bfp {x0 x1 x6 : Int32} (h1 : rn_ok x6 x0 x1) (k : Nat) : rn_bf x6 x0 x1 (nI k) = rn_p1 x6 x0 x1 k := by
  rcases h1 with rfl | ⟨rfl, i, b, hi, hb, rfl, rfl⟩
  · rw [rn_p10]
    exact if_pos rfl
  · rw [rn_bf, if_neg (by decide), rn_p1]
    by_cases e : nI i = nI k
    · rw [if_pos e, if_pos ⟨rfl, e⟩]
    · rw [if_neg e, if_neg (fun z => e z.2)]
theorem rn_pic1 {q : Nat → Int32} (h : ∀ j, j < 3 → q j = 2) {i b : Nat} (hi : i < 3) (j : Nat) (hj : j < 3) : upd q i (nI b) j = rn_p1 1 (nI i) (nI b) j := by
  by_cases e : j = i
  · rw [e, pk_us, rn_p1, if_pos ⟨rfl, rfl⟩]
  · rw [pk_un e, rn_p1, if_neg (fun z => e ((nI_eq (by omega) (by omega)).mp z.2).symm), h j hj]
theorem rn_pic2 {x0 x1 x6 : Int32} {q : Nat → Int32} (h : ∀ j, j < 3 → q j = rn_p1 x6 x0 x1 j) {k c : Nat} (hk : k < 3) (j : Nat) (hj : j < 3) : upd q k (nI c) j = rn_pp x6 x0 x1 1 (nI k) (nI c) j := by
  by_cases e : j = k
  · rw [e, pk_us, rn_pp, if_pos ⟨rfl, rfl⟩]
  · rw [pk_un e, rn_pp, if_neg (fun z => e ((nI_eq (by omega) (by omega)).mp z.2).symm), h j hj]
end
section
section
variable {sk cl fo : Int32} {a1 a2 a3 a4 a5 a6 a7 a8 a9 a10 a11 a12 a13 a14 : Nat → Int32} {post : Int32 → St0 → Prop} {mc ms kc ks : Nat} {x0 x1 x2 x3 : Int32}
theorem rn_324 (hp : post 1 ()) (h3 : ∀ j, j < 6 → a3 j = 0) (hq : ∀ j, j < 3 → rn_q (a8 j)) {x13 x14 : Int32} (h13 : x13 = rn_al a8 1) (h14 : x14 = rn_al a8 0) : wL_lawOf_324 post mc ms x13 x14 kc ks 3 0 sk cl fo a1 a2 a3 a4 a5 a6 a7 a8 a9 a10 a11 a12 a13 a14 := by
  subst h13 h14
  obtain ⟨e1, e2⟩ := rn_ends hq
  unfold wL_lawOf_324
  exact rn_alwaysOne h3 hq (fun d => br_t rfl (rn_alwaysZero h3 hq (fun d => br_t rfl (rn_least h3 hq (fun d b => br_t e1 (rn_greatest h3 hq (fun d b => br_t e2 (rn_net h3 (br_t rfl hp)))))))))
theorem rn_307 (hp : post 1 ()) (h3 : ∀ j, j < 6 → a3 j = 0) (hq : ∀ j, j < 3 → rn_q (a8 j)) {x11 x13 x14 : Int32} (h13 : x13 = rn_al a8 1) (h14 : rn_or x11 0 x3 x2 x14 = rn_al a8 0) : wL_lawOf_307 post mc ms x2 x3 x11 x13 x14 kc ks 3 0 sk cl fo a1 a2 a3 a4 a5 a6 a7 a8 a9 a10 a11 a12 a13 a14 := by
  unfold rn_or at h14
  unfold wL_lawOf_307
  refine br_c (fun g => ?_) (fun g => br_c (fun g2 => nm_e ?_) (fun g2 => ?_))
  · rw [if_pos g] at h14
    exact rn_324 hp h3 hq h13 h14
  · rw [if_neg g, if_pos g2] at h14
    exact rn_324 hp h3 hq h13 h14
  · rw [if_neg g, if_neg g2] at h14
    exact rn_324 hp h3 hq h13 h14
theorem rn_290 (hp : post 1 ()) (h3 : ∀ j, j < 6 → a3 j = 0) (hq : ∀ j, j < 3 → rn_q (a8 j)) {x10 x11 x13 x14 : Int32} (h13 : x13 = rn_al a8 1) (h14 : rn_or x11 0 x3 x2 (rn_or x10 0 x1 x0 x14) = rn_al a8 0) : wL_lawOf_290 post mc ms x0 x1 x2 x3 x10 x11 x13 x14 kc ks 3 0 sk cl fo a1 a2 a3 a4 a5 a6 a7 a8 a9 a10 a11 a12 a13 a14 := by
  unfold wL_lawOf_290
  refine br_c (fun g => ?_) (fun g => br_c (fun g2 => nm_e ?_) (fun g2 => ?_))
  · rw [show rn_or x10 0 x1 x0 x14 = x14 from if_pos g] at h14
    exact rn_307 hp h3 hq h13 h14
  · rw [show rn_or x10 0 x1 x0 x14 = x14 ||| ((1 : Int32) <<< (x0 &&& 31)) from by rw [rn_or, if_neg g, if_pos g2]] at h14
    exact rn_307 hp h3 hq h13 h14
  · rw [show rn_or x10 0 x1 x0 x14 = x14 from by rw [rn_or, if_neg g, if_neg g2]] at h14
    exact rn_307 hp h3 hq h13 h14
theorem rn_272 (hp : post 1 ()) (h3 : ∀ j, j < 6 → a3 j = 0) (hq : ∀ j, j < 3 → rn_q (a8 j)) {x10 x11 x13 x14 : Int32} (h13 : rn_or x11 1 x3 x2 x13 = rn_al a8 1) (h14 : rn_or x11 0 x3 x2 (rn_or x10 0 x1 x0 x14) = rn_al a8 0) : wL_lawOf_272 post mc ms x0 x1 x2 x3 x10 x11 x13 x14 kc ks 3 0 sk cl fo a1 a2 a3 a4 a5 a6 a7 a8 a9 a10 a11 a12 a13 a14 := by
  unfold wL_lawOf_272
  unfold rn_or at h13
  refine br_c (fun g => ?_) (fun g => br_c (fun g2 => nm_e ?_) (fun g2 => ?_))
  · rw [if_pos g] at h13
    exact rn_290 hp h3 hq h13 h14
  · rw [if_neg g, if_pos g2] at h13
    exact rn_290 hp h3 hq h13 h14
  · rw [if_neg g, if_neg g2] at h13
    exact rn_290 hp h3 hq h13 h14
theorem rn_236 (hp : post 1 ()) (h3 : ∀ j, j < 6 → a3 j = 0) (hq : ∀ j, j < 3 → rn_q (a8 j)) {x10 x11 x12 : Int32} (h12 : rn_so a8 = x12) (h13 : rn_or x11 1 x3 x2 (rn_or x10 1 x1 x0 0) = rn_al a8 1) (h14 : rn_or x11 0 x3 x2 (rn_or x10 0 x1 x0 0) = rn_al a8 0) : wL_lawOf_236 post mc ms x0 x1 x2 x3 x10 x11 x12 kc ks 3 0 sk cl fo a1 a2 a3 a4 a5 a6 a7 a8 a9 a10 a11 a12 a13 a14 := by
  unfold wL_lawOf_236
  refine rn_sol h3 hq (fun d s => br_t h12 (br_c (fun g => ?_) (fun g => br_c (fun g2 => nm_e ?_) (fun g2 => ?_))))
  · rw [show rn_or x10 1 x1 x0 0 = 0 from if_pos g] at h13
    exact rn_272 hp h3 hq h13 h14
  · rw [show rn_or x10 1 x1 x0 0 = 0 ||| ((1 : Int32) <<< (x0 &&& 31)) from by rw [rn_or, if_neg g, if_pos g2]] at h13
    exact rn_272 hp h3 hq h13 h14
  · rw [show rn_or x10 1 x1 x0 0 = 0 from by rw [rn_or, if_neg g, if_neg g2]] at h13
    exact rn_272 hp h3 hq h13 h14
theorem rn_225 (hp : post 1 ()) (h3 : ∀ j, j < 6 → a3 j = 0) (hq : ∀ j, j < 3 → rn_q (a8 j)) {x10 x11 x12 : Int32} (h12 : rn_so a8 = rn_hf x11 x12) (h13 : rn_or x11 1 x3 x2 (rn_or x10 1 x1 x0 0) = rn_al a8 1) (h14 : rn_or x11 0 x3 x2 (rn_or x10 0 x1 x0 0) = rn_al a8 0) : wL_lawOf_225 post mc ms x0 x1 x2 x3 x10 x11 x12 kc ks 3 0 sk cl fo a1 a2 a3 a4 a5 a6 a7 a8 a9 a10 a11 a12 a13 a14 := by
  unfold wL_lawOf_225
  unfold rn_hf at h12
  refine br_c (fun g => ?_) (fun g => ⟨by decide, nm_e ?_⟩)
  · rw [if_pos g] at h12
    exact rn_236 hp h3 hq h12 h13 h14
  · rw [if_neg g] at h12
    exact rn_236 hp h3 hq h12 h13 h14
theorem rn_208 (hp : post 1 ()) (h3 : ∀ j, j < 6 → a3 j = 0) (hq : ∀ j, j < 3 → rn_q (a8 j)) {x10 x11 : Int32} (h12 : rn_so a8 = rn_hf x11 (rn_hf x10 8)) (h13 : rn_or x11 1 x3 x2 (rn_or x10 1 x1 x0 0) = rn_al a8 1) (h14 : rn_or x11 0 x3 x2 (rn_or x10 0 x1 x0 0) = rn_al a8 0) : wL_lawOf_208 post mc ms x0 x1 x2 x3 x10 x11 kc ks 3 0 sk cl fo a1 a2 a3 a4 a5 a6 a7 a8 a9 a10 a11 a12 a13 a14 := by
  unfold wL_lawOf_208
  refine br_c (fun g => ?_) (fun g => ⟨by decide, nm_e ?_⟩)
  · rw [show rn_hf x10 8 = 8 from if_pos g] at h12
    exact rn_225 hp h3 hq h12 h13 h14
  · rw [show rn_hf x10 8 = 8 / 2 from if_neg g] at h12
    exact rn_225 hp h3 hq h12 h13 h14
theorem rn_191 {x8 z0 : Int32} (H : wL_lawOf_208 post mc ms x0 x1 x2 x3 z0 (rn_f2 x8 x3) kc ks 3 0 sk cl fo a1 a2 a3 a4 a5 a6 a7 a8 a9 a10 a11 a12 a13 a14) : wL_lawOf_191 post mc ms x0 x1 x2 x3 x8 z0 kc ks 3 0 sk cl fo a1 a2 a3 a4 a5 a6 a7 a8 a9 a10 a11 a12 a13 a14 := by
  unfold wL_lawOf_191 wL_lawOf_207
  unfold rn_f2 at H
  refine br_c (fun g => ?_) (fun g => br_c (fun g2 => ?_) (fun g2 => ?_))
  · rw [if_pos g] at H
    exact H
  · rw [if_neg g, if_pos g2] at H
    exact H
  · rw [if_neg g, if_neg g2] at H
    exact H
theorem rn_161 (hp : post 1 ()) (h3 : ∀ j, j < 6 → a3 j = 0) {x6 x8 z : Int32} (k1 : rn_ok x6 x0 x1) (k2 : rn_ok x8 x2 x3) (h8 : ∀ j, j < 3 → a8 j = rn_pp x6 x0 x1 x8 x2 x3 j) : wL_lawOf_161 post mc ms x0 x1 x2 x3 x6 x8 z z kc ks 3 0 sk cl fo a1 a2 a3 a4 a5 a6 a7 a8 a9 a10 a11 a12 a13 a14 := by
  have hq : ∀ j, j < 3 → rn_q (a8 j) := fun j hj => by rw [h8 j hj]; exact rn_ppq k1 k2 j
  obtain ⟨g1, g2, g3⟩ := rn_G_c h8 (rn_Gall k1 k2)
  have H : wL_lawOf_208 post mc ms x0 x1 x2 x3 (rn_f1 x6 x1 x8 x2 x0) (rn_f2 x8 x3) kc ks 3 0 sk cl fo a1 a2 a3 a4 a5 a6 a7 a8 a9 a10 a11 a12 a13 a14 := rn_208 hp h3 hq g1 g2 g3
  have H' := rn_191 H
  unfold rn_f1 at H'
  unfold wL_lawOf_161 wL_lawOf_190 wL_lawOf_186
  refine br_t rfl (br_c (fun g => ?_) (fun g => br_c (fun g2 => ?_) (fun g2 => br_c (fun g3 => ?_) (fun g3 => br_c (fun g4 => ?_) (fun g4 => ?_)))))
  · rw [if_pos g] at H'
    exact H'
  · rw [if_neg g, if_pos g2] at H'
    exact H'
  · rw [if_neg g, if_neg g2, if_pos g3] at H'
    exact H'
  · rw [if_neg g, if_neg g2, if_neg g3, if_pos g4] at H'
    exact H'
  · rw [if_neg g, if_neg g2, if_neg g3, if_neg g4] at H'
    exact H'
theorem rn_assume {pst : Int32 → St2 → Prop} {x v : Int32} (H1 : (x < 0 ∨ 3 ≤ x) → pst (-1) (3, 0, sk, cl, fo, a1, a2, a3, a4, a5, a6, a7, a8, a9, a10, a11, a12, a13, a14)) (H2 : ¬ x < 0 → ¬ 3 ≤ x → (v < 0 ∨ ¬ v ≤ 2) → pst (-2) (3, 0, sk, cl, fo, a1, a2, a3, a4, a5, a6, a7, a8, a9, a10, a11, a12, a13, a14))
    (H3 : ∀ i b, i < 3 → b < 3 → x = nI i → v = nI b → pst (a8 i) (3, 0, sk, cl, fo, a1, a2, a3, a4, a5, a6, a7, (upd a8 i (nI b)), a9, a10, a11, a12, a13, a14)) : wpX_assume pst (3, 0, sk, cl, fo, a1, a2, a3, a4, a5, a6, a7, a8, a9, a10, a11, a12, a13, a14) x v := by
  unfold wpX_assume
  refine br_c (fun g => br_t rfl (H1 (Or.inl g))) (fun g => br_c (fun g2 => br_t rfl (H1 (Or.inr g2))) (fun g2 => br_f (by decide) (br_c (fun g3 => H2 g g2 (Or.inl g3)) (fun g3 => br_c (fun g4 => ?_) (fun g4 => H2 g g2 (Or.inr g4))))))
  obtain ⟨b, hb, rfl⟩ := nI_of2 (n := 2) (by decide) g3 g4
  rcases pk_ix x (n := 3) (by omega) with z | z | ⟨i, hi, rfl⟩
  · exact absurd z g
  · exact absurd z g2
  · have t := H3 i b hi (by omega) rfl rfl
    have hc : (nI i).toNatClampNeg = i := nI_clamp (by omega)
    rw [hc]
    exact ⟨pk_in i 8 (by omega), nm_e ⟨pk_in i 8 (by omega), nm_e t⟩⟩
/-- the flags that the law keeps of a pair, as assume takes it -/
def rn_fl (x v f o : Int32) : Prop := ((x < 0 ∨ 3 ≤ x) → f = 0 ∧ o = 0) ∧ (¬ x < 0 → ¬ 3 ≤ x → (v < 0 ∨ ¬ v ≤ 2) → ¬ f = 0 ∧ o = 0) ∧ (∀ i b : Nat, i < 3 → b < 3 → x = nI i → v = nI b → ¬ f = 0 ∧ o = 1)
theorem rn_131 (hp : post 1 ()) (h3 : ∀ j, j < 6 → a3 j = 0) {x6 x7 x8 : Int32} (k1 : rn_ok x6 x0 x1) (hf : rn_fl x2 x3 x7 x8) (h8 : ∀ j, j < 3 → a8 j = rn_p1 x6 x0 x1 j) : wL_lawOf_131 post mc ms x0 x1 x2 x3 x6 x7 x8 (rn_bf x6 x0 x1 x2) kc ks 3 0 sk cl fo a1 a2 a3 a4 a5 a6 a7 a8 a9 a10 a11 a12 a13 a14 := by
  obtain ⟨f1, f2, f3⟩ := hf
  unfold wL_lawOf_131
  refine rn_assume (fun g => ?_) (fun g g2 g3 => ?_) (fun k c hk hc e0 e1 => ?_)
  · obtain ⟨rfl, rfl⟩ := f1 g
    exact br_t rfl (rn_161 hp h3 k1 (Or.inl rfl) (fun j hj => (h8 j hj).trans (rn_pp0 ..).symm))
  · obtain ⟨n7, rfl⟩ := f2 g g2 g3
    exact br_f n7 (br_t rfl (rn_161 hp h3 k1 (Or.inl rfl) (fun j hj => (h8 j hj).trans (rn_pp0 ..).symm)))
  · obtain ⟨n7, rfl⟩ := f3 k c hk hc e0 e1
    subst e0 e1
    rw [rn_bfp k1 k, h8 k hk]
    exact br_f n7 (br_f (by decide) (rn_161 hp h3 k1 (Or.inr ⟨rfl, k, c, hk, hc, rfl, rfl⟩) (fun j hj => rn_pic2 h8 hk j hj)))
theorem rn_114 (hp : post 1 ()) (h3 : ∀ j, j < 6 → a3 j = 0) {x6 x7 x8 : Int32} (k1 : rn_ok x6 x0 x1) (hf : rn_fl x2 x3 x7 x8) (h8 : ∀ j, j < 3 → a8 j = rn_p1 x6 x0 x1 j) : wL_lawOf_114 post mc ms x0 x1 x2 x3 x6 x7 x8 kc ks 3 0 sk cl fo a1 a2 a3 a4 a5 a6 a7 a8 a9 a10 a11 a12 a13 a14 := by
  have H : wL_lawOf_131 post mc ms x0 x1 x2 x3 x6 x7 x8 (rn_bf x6 x0 x1 x2) kc ks 3 0 sk cl fo a1 a2 a3 a4 a5 a6 a7 a8 a9 a10 a11 a12 a13 a14 := rn_131 hp h3 k1 hf h8
  unfold rn_bf at H
  unfold wL_lawOf_114 wL_lawOf_130
  refine br_c (fun g => ?_) (fun g => br_c (fun g2 => ?_) (fun g2 => ?_))
  · rw [if_pos g] at H
    exact H
  · rw [if_neg g, if_pos g2] at H
    exact H
  · rw [if_neg g, if_neg g2] at H
    exact H
theorem rn_fl0 {x v : Int32} (h : x < 0 ∨ 3 ≤ x) : rn_fl x v 0 0 :=
  ⟨fun _ => ⟨rfl, rfl⟩, fun g g2 _ => absurd h (fun z => z.elim g g2), fun i b hi hb e _ => absurd h (fun z => z.elim (by rw [e]; exact nI_pos (by omega)) (by rw [e]; exact nI_ge (b := 3) hi (by omega)))⟩
theorem rn_fl1 {x v : Int32} (h : ¬ x < 0) (h2 : ¬ 3 ≤ x) (hv : v < 0 ∨ 2 < v) : rn_fl x v 1 0 :=
  ⟨fun z => absurd z (fun z => z.elim h h2), fun _ _ _ => ⟨by decide, rfl⟩, fun i b hi hb _ e => absurd hv (fun z => z.elim (by rw [e]; exact nI_pos (by omega)) (by rw [e]; exact nI_nlt (a := 2) (b := b) (by omega) (by omega)))⟩
theorem rn_fl2 {x v : Int32} (h : ¬ x < 0) (h2 : ¬ 3 ≤ x) (hv : ¬ v < 0) (hv2 : ¬ 2 < v) : rn_fl x v 1 1 :=
  ⟨fun z => absurd z (fun z => z.elim h h2), fun _ _ z => absurd z (fun z => z.elim hv (fun y => hv2 (Int32.not_le.mp y))), fun _ _ _ _ _ _ => ⟨by decide, rfl⟩⟩
theorem rn_93a (hp : post 1 ()) (h3 : ∀ j, j < 6 → a3 j = 0) {x6 : Int32} (k1 : rn_ok x6 x0 x1) (h8 : ∀ j, j < 3 → a8 j = rn_p1 x6 x0 x1 j) (h : x2 < 0 ∨ 3 ≤ x2) : wL_lawOf_92 post mc ms x0 x1 x2 x3 x6 kc ks 3 0 sk cl fo a1 a2 a3 a4 a5 a6 a7 a8 a9 a10 a11 a12 a13 a14 := by
  unfold wL_lawOf_92 wL_lawOf_93 wL_lawOf_113
  exact br_t rfl (rn_114 hp h3 k1 (rn_fl0 h) h8)
theorem rn_93b (hp : post 1 ()) (h3 : ∀ j, j < 6 → a3 j = 0) {x6 : Int32} (k1 : rn_ok x6 x0 x1) (h8 : ∀ j, j < 3 → a8 j = rn_p1 x6 x0 x1 j) (h : ¬ x2 < 0) (h2 : ¬ 3 ≤ x2) : wL_lawOf_93 post mc ms x0 x1 x2 x3 x6 1 kc ks 3 0 sk cl fo a1 a2 a3 a4 a5 a6 a7 a8 a9 a10 a11 a12 a13 a14 := by
  unfold wL_lawOf_93 wL_lawOf_113
  exact br_f (by decide) (br_c (fun g => rn_114 hp h3 k1 (rn_fl1 h h2 (Or.inl g)) h8) (fun g => br_c (fun g2 => rn_114 hp h3 k1 (rn_fl1 h h2 (Or.inr g2)) h8) (fun g2 => rn_114 hp h3 k1 (rn_fl2 h h2 g g2) h8)))
theorem rn_74 (hp : post 1 ()) (h3 : ∀ j, j < 6 → a3 j = 0) {x6 z : Int32} (k1 : rn_ok x6 x0 x1) (h8 : ∀ j, j < 3 → a8 j = rn_p1 x6 x0 x1 j) : wL_lawOf_74 post mc ms x0 x1 x2 x3 x6 z z kc ks 3 0 sk cl fo a1 a2 a3 a4 a5 a6 a7 a8 a9 a10 a11 a12 a13 a14 := by
  unfold wL_lawOf_74
  exact br_t rfl (br_c (fun g => rn_93a hp h3 k1 h8 (Or.inl g)) (fun g => br_c (fun g2 => rn_93a hp h3 k1 h8 (Or.inr g2)) (fun g2 => rn_93b hp h3 k1 h8 g g2)))
theorem rn_45 (hp : post 1 ()) (h3 : ∀ j, j < 6 → a3 j = 0) {x5 z : Int32} (hf : rn_fl x0 x1 x5 z) (h8 : ∀ j, j < 3 → a8 j = 2) : wL_lawOf_45 post mc ms x0 x1 x2 x3 x5 z kc ks 3 0 sk cl fo a1 a2 a3 a4 a5 a6 a7 a8 a9 a10 a11 a12 a13 a14 := by
  obtain ⟨f1, f2, f3⟩ := hf
  unfold wL_lawOf_45
  refine rn_assume (fun g => ?_) (fun g g2 g3 => ?_) (fun i b hi hb e0 e1 => ?_)
  · obtain ⟨rfl, rfl⟩ := f1 g
    exact br_t rfl (rn_74 hp h3 (Or.inl rfl) (fun j hj => (h8 j hj).trans (rn_p10 ..).symm))
  · obtain ⟨n5, rfl⟩ := f2 g g2 g3
    exact br_f n5 (br_t rfl (rn_74 hp h3 (Or.inl rfl) (fun j hj => (h8 j hj).trans (rn_p10 ..).symm)))
  · obtain ⟨n5, rfl⟩ := f3 i b hi hb e0 e1
    subst e0 e1
    rw [h8 i hi]
    exact br_f n5 (br_f (by decide) (rn_74 hp h3 (Or.inr ⟨rfl, i, b, hi, hb, rfl, rfl⟩) (fun j hj => rn_pic1 h8 hi j hj)))
theorem rn_23 (hp : post 1 ()) (h3 : ∀ j, j < 6 → a3 j = 0) (h8 : ∀ j, j < 3 → a8 j = 2) (h : x0 < 0 ∨ 3 ≤ x0) : wL_lawOf_23 post mc ms x0 x1 x2 x3 kc ks 3 0 sk cl fo a1 a2 a3 a4 a5 a6 a7 a8 a9 a10 a11 a12 a13 a14 := by
  unfold wL_lawOf_23 wL_lawOf_24 wL_lawOf_44
  exact br_t rfl (rn_45 hp h3 (rn_fl0 h) h8)
theorem rn_24 (hp : post 1 ()) (h3 : ∀ j, j < 6 → a3 j = 0) (h8 : ∀ j, j < 3 → a8 j = 2) (h : ¬ x0 < 0) (h2 : ¬ 3 ≤ x0) : wL_lawOf_24 post mc ms x0 x1 x2 x3 1 kc ks 3 0 sk cl fo a1 a2 a3 a4 a5 a6 a7 a8 a9 a10 a11 a12 a13 a14 := by
  unfold wL_lawOf_24 wL_lawOf_44
  exact br_f (by decide) (br_c (fun g => rn_45 hp h3 (rn_fl1 h h2 (Or.inl g)) h8) (fun g => br_c (fun g2 => rn_45 hp h3 (rn_fl1 h h2 (Or.inr g2)) h8) (fun g2 => rn_45 hp h3 (rn_fl2 h h2 g g2) h8)))
theorem rn_lawOf (hp : post 1 ()) : wpL_lawOf post 15 245 () x0 x1 x2 x3 := by
  unfold wpL_lawOf
  refine ⟨by omega, by omega, 14, 226, by omega, by omega, rn_init (fun b1 b2 b8 h => ?_)⟩
  have h8 : ∀ j, j < 3 → b8 j = 2 := fun j hj => h j (by omega)
  exact br_c (fun g => rn_23 hp (fun _ _ => rfl) h8 (Or.inl g)) (fun g => br_c (fun g2 => rn_23 hp (fun _ _ => rfl) h8 (Or.inr g2)) (fun g2 => rn_24 hp (fun _ _ => rfl) h8 g g2))
end
end
section
theorem rn_cell {post : Int32 → Prop} {L : Nat} {xs : Nat → Int32} (hL : L ≤ 4) (k : Nat) (hk : k < 4) {x : Int32} (hx : x = nI k) (H : ∀ r, post r) : wpL_cellAt post L xs () x := by
  unfold wpL_cellAt
  exact pk_le L k (fun _ => H _) (fun z => ⟨pk_in k L z hx, H _⟩) rfl hx
theorem i_vc (xs : Nat → Int32) (L : Nat) (hL : L ≤ 4) : wpL_law (fun r => r = 1) L xs := by
  unfold wpL_law
  exact rn_cell hL 0 (by omega) rfl (fun r0 => rn_cell hL 1 (by omega) rfl (fun r1 => rn_cell hL 2 (by omega) rfl (fun r2 => rn_cell hL 3 (by omega) rfl (fun r3 => ⟨15, 245, by omega, by omega, rn_lawOf rfl⟩))))
end
