section
/-- the states: transaction c alone is committed (no one, if 4 ≤ c) -/
def hj_A (c : Nat) (a : Nat → Int32) : Prop := ∀ j, j < 4 → a j = if j = c then 1 else 0
/-- what was read: the ground or nothing -/
def hj_R (a : Nat → Int32) : Prop := ∀ j, j < 16 → a j = 0 ∨ a j = 1
/-- no edge -/
def hj_Z (a : Nat → Int32) : Prop := ∀ j, j < 4 → a j = 0
/-- the list: c alone (nothing, if 4 ≤ c) -/
def hj_L (c : Nat) (ls : Int32) (a : Nat → Int32) : Prop := (c < 4 → ls = 1 ∧ a 0 = nI c) ∧ (¬ c < 4 → ls = 0)
/-- the set of the committed ones below q -/
def hj_w (c q : Nat) : Int32 := if c < q then (1 : Int32) <<< (nI c &&& 31) else 0
theorem hj_00 : (0 : Int32) ≤ 0 := by decide
theorem hj_10 : ¬ (1 : Int32) = 0 := by decide
theorem hj_ix (i x : Nat) : nI i * 4 + nI x = nI (i * 4 + x) := by
  rw [show (4 : Int32) = nI 4 from rfl, pk_mul, nI_add]
theorem hj_in (i x : Nat) (hi : i < 4) (hx : x < 4) : vp_in (nI i * 4 + nI x) 16 := by
  rw [hj_ix]
  exact pk_in (i * 4 + x) 16 (by omega)
theorem hj_rd0 : ∀ q, q < 4 → ((0 : Int32) >>> ((1 + (2 * nI q)) &&& 31)) &&& 3 = 0 := by decide +kernel
theorem hj_rd1 : ∀ q, q < 4 → ((1 : Int32) >>> ((1 + (2 * nI q)) &&& 31)) &&& 3 = 0 := by decide +kernel
theorem hj_rd {q : Nat} (hq : q < 4) {s : Int32} (hs : s = 0 ∨ s = 1) : (s >>> ((1 + (2 * nI q)) &&& 31)) &&& 3 = 0 := by
  rcases hs with e | e
  · rw [e]
    exact hj_rd0 q hq
  · rw [e]
    exact hj_rd1 q hq
theorem hj_sh0 : ∀ q, q < 4 → ((0 : Int32) >>> (nI q &&& 31)) &&& 1 = 0 := by decide +kernel
theorem hj_bn : ∀ c, c < 4 → ∀ q, q < c → ((((1 : Int32) <<< (nI c &&& 31)) &&& ((0 : Int32) ^^^ (-1))) >>> (nI q &&& 31)) &&& 1 = 0 := by decide +kernel
theorem hj_by : ∀ c, c < 4 → ¬ ((((1 : Int32) <<< (nI c &&& 31)) &&& ((0 : Int32) ^^^ (-1))) >>> (nI c &&& 31)) &&& 1 = 0 := by decide +kernel
theorem hj_bx : ∀ c, c < 4 → ((1 : Int32) <<< (nI c &&& 31)) &&& (((1 : Int32) <<< (nI c &&& 31)) ^^^ (-1)) = 0 := by decide +kernel
theorem hj_b0 : ∀ c, c < 4 → ¬ ((1 : Int32) <<< (nI c &&& 31)) = 0 := by decide +kernel
theorem hj_c8 : ∀ c, c < 4 → (nI c).toInt8.toInt32 = nI c := by decide +kernel
theorem hj_v3 {x y z : Int32} (hx : x = 0) (hy : y = 0) (hz : z = 0) : ((x ||| y) ||| z).toInt8.toInt32 = 0 := by
  rw [hx, hy, hz]
  decide
theorem hj_v2 {x y : Int32} (hx : x = 0) (hy : y = 0) : (x ||| y).toInt8.toInt32 = 0 := by
  rw [hx, hy]
  decide
theorem hj_o2 {x y : Int32} (hx : x = 0) (hy : y = 0) : x ||| y = 0 := by
  rw [hx, hy]
  decide
theorem hj_va {x y z : Int32} (hx : x = 0) (hy : y = 0) : (x ||| (y &&& z)).toInt8.toInt32 = 0 := by
  rw [hx, hy, Int32.zero_and]
  decide
theorem hj_vn {x : Int32} (hx : x = 0) : vp_nar .byte x = 0 := by
  rw [hx, vp_nar_byte]
  decide
theorem hj_Zc {a : Nat → Int32} {i : Nat} (h : hj_Z a) (hi : i < 4) : a (nI i).toNatClampNeg = 0 := by
  rw [nI_clamp (by omega)]
  exact h i hi
theorem hj_Zu {a : Nat → Int32} {k : Nat} {v : Int32} (h : hj_Z a) (hv : v = 0) : hj_Z (upd a k v) := by
  intro j hj
  by_cases e : j = k
  · rw [e, pk_us, hv]
  · rw [pk_un e]
    exact h j hj
theorem hj_fill {s : Nat → Int32} {i k : Nat} {v : Int32} (hk : k = i) (h : ∀ j, j < i → s j = 0) (hv : v = 0) : ∀ j, j < i + 1 → upd s k v j = 0 := by
  intro j hj
  by_cases e : j = k
  · rw [e, pk_us, hv]
  · rw [pk_un e]
    exact h j (by omega)
theorem hj_w0 (c : Nat) : hj_w c 0 = 0 := if_neg (by omega)
theorem hj_w1 {c q : Nat} (e : q = c) : hj_w c q ||| ((1 : Int32) <<< (nI q &&& 31)) = hj_w c (q + 1) := by
  subst e
  unfold hj_w
  rw [if_neg (by omega), if_pos (by omega), Int32.zero_or]
theorem hj_w2 {c q : Nat} (e : q ≠ c) : hj_w c (q + 1) = hj_w c q := by
  unfold hj_w
  by_cases h : c < q
  · rw [if_pos h, if_pos (by omega)]
  · rw [if_neg h, if_neg (by omega)]
theorem hj_A0 : hj_A 4 (fun _ => 0) := fun j hj => by
  rw [if_neg (by omega)]
theorem hj_Au {a : Nat → Int32} {k i : Nat} {v : Int32} (hk : k = i) (hv : v = 1) (h : hj_A 4 a) : hj_A i (upd a k v) := by
  intro j hj
  by_cases e : j = k
  · rw [e, pk_us, hv, if_pos hk]
  · rw [pk_un e, h j hj, if_neg (by omega), if_neg (by omega)]
theorem hj_R0 : hj_R (fun _ => 0) := fun _ _ => Or.inl rfl
theorem hj_g0 : ((0 : Int32) ||| 1).toInt16.toInt32 = 1 := by decide
theorem hj_Ru {k : Nat} {v : Int32} (hv : v = 1) : hj_R (upd (fun _ => 0) k v) := by
  intro j _
  by_cases e : j = k
  · rw [e, pk_us, hv]
    exact Or.inr rfl
  · rw [pk_un e]
    exact Or.inl rfl
end
section
theorem hj_com {post : Int32 → Prop} {f0 f1 f2 f3 : Int32} {a1 a2 a3 a4 a5 a6 a7 a8 a9 a10 a11 : Nat → Int32} {c j : Nat} (hA : hj_A c a1) (hj : j < 4) (h1 : j = c → post 1) (h0 : j ≠ c → post 0) :
    wpX_committed post (f0, f1, f2, f3, a1, a2, a3, a4, a5, a6, a7, a8, a9, a10, a11) (nI j) := by
  unfold wpX_committed
  dsimp only
  rw [nI_clamp (show j < 2 ^ 31 by omega), hA j hj]
  refine ⟨pk_in j 4 hj, ?_⟩
  by_cases e : j = c
  · rw [if_pos e]
    exact br_t rfl (h1 e)
  · rw [if_neg e]
    exact br_f (by decide) (h0 e)
theorem hj_cR {post : Int32 → Prop} {f1 f2 f3 : Int32} {a1 a2 a3 a4 a5 a6 a7 a8 a9 a10 a11 : Nat → Int32} {t i x : Nat} (ht : t ≤ 4) (hi : i < 4) (hx : x < 4) (hR : hj_R a3) (hp : post 1) :
    wpX_cleanReads post (nI t, f1, f2, f3, a1, a2, a3, a4, a5, a6, a7, a8, a9, a10, a11) (nI i) (nI x) := by
  unfold wpX_cleanReads
  dsimp only
  rw [hj_ix, nI_clamp (show i * 4 + x < 2 ^ 31 by omega)]
  refine ⟨pk_in (i * 4 + x) 16 (by omega), nm_e ?_⟩
  exact pk_loop (σ := Unit) (fun n q _ => wX_cleanReads_14 post (nI x) (a3 (i * 4 + x)) (nI t) f1 f2 f3 a1 a2 a3 a4 a5 a6 a7 a8 a9 a10 a11 n (nI q)) (fun _ _ => True) t 0 () (by omega) trivial
    (fun n _ _ => pk_le t t (fun _ => hp) (fun z => absurd z (by omega)))
    (fun n q _ hq _ hw => pk_le t q (fun z => absurd z (by omega)) (fun _ => nm_e ⟨hj_in q x (by omega) hx, nm_e (br_t (hj_rd (by omega) (hR _ (by omega))) (nm_r (nI_1 q) (hw () trivial)))⟩))
theorem hj_clean {post : Int32 → Prop} {f2 f3 : Int32} {a1 a2 a3 a4 a5 a6 a7 a8 a9 a10 a11 : Nat → Int32} {t k c : Nat} (ht : t ≤ 4) (hk : k ≤ 4) (hA : hj_A c a1) (hR : hj_R a3) (hp : post 1) :
    wpX_clean post (nI t, nI k, f2, f3, a1, a2, a3, a4, a5, a6, a7, a8, a9, a10, a11) :=
  pk_loop (σ := Unit) (fun n i _ => wX_clean_2 post (nI t) (nI k) f2 f3 a1 a2 a3 a4 a5 a6 a7 a8 a9 a10 a11 n (nI i)) (fun _ _ => True) t 0 () (by omega) trivial
    (fun n _ _ => pk_le t t (fun _ => hp) (fun z => absurd z (by omega)))
    (fun n i _ hi _ hw => pk_le t i (fun z => absurd z (by omega)) (fun _ =>
      pk_loop (σ := Unit) (fun m x _ => wX_clean_12 post (wX_clean_2 post (nI t) (nI k) f2 f3 a1 a2 a3 a4 a5 a6 a7 a8 a9 a10 a11 n) (nI i) (nI t) (nI k) f2 f3 a1 a2 a3 a4 a5 a6 a7 a8 a9 a10 a11 m (nI x)) (fun _ _ => True) k 0 () (by omega) trivial
        (fun m _ _ => pk_le k k (fun _ => nm_r (nI_1 i) (hw () trivial)) (fun z => absurd z (by omega)))
        (fun m x _ hx _ hv => pk_le k x (fun z => absurd z (by omega)) (fun _ =>
          hj_com hA (by omega) (fun _ => br_f hj_10 (hj_cR ht (by omega) (by omega) hR (br_f hj_10 (nm_r (nI_1 x) (hv () trivial)))))
            (fun _ => br_t rfl (nm_r (nI_1 x) (hv () trivial)))))))
theorem hj_rk77 {post : St2 → Prop} {f1 f2 f3 : Int32} {a1 a3 a4 a5 a6 a7 a8 a9 a10 a11 : Nat → Int32} {t c x : Nat} (ht : t ≤ 4) (hx : x < 4) (hA : hj_A c a1) (H : post (nI t, f1, f2, f3, a1, (fun _ => 0), a3, a4, a5, a6, a7, a8, a9, a10, a11)) :
    ∃ n, wX_rank_77 post (nI x) 0 (nI t) f1 f3 n 0 f2 a1 (fun _ => 0) a3 a4 a5 a6 a7 a8 a9 a10 a11 :=
  pk_loop (σ := Unit) (fun n q _ => wX_rank_77 post (nI x) 0 (nI t) f1 f3 n (nI q) f2 a1 (fun _ => 0) a3 a4 a5 a6 a7 a8 a9 a10 a11) (fun _ _ => True) t 0 () (by omega) trivial
    (fun n _ _ => pk_le t t (fun _ => H) (fun z => absurd z (by omega)))
    (fun n q _ hq _ hw => pk_le t q (fun z => absurd z (by omega)) (fun _ => br_t (hj_sh0 q (by omega)) (br_f hj_10
      (hj_com hA (by omega) (fun _ => br_f hj_10 ⟨hj_in q x (by omega) hx, br_t hj_00 (nm_r (nI_1 q) (hw () trivial))⟩) (fun _ => br_t rfl (nm_r (nI_1 q) (hw () trivial)))))))
theorem hj_rank {post : St2 → Prop} {f1 f2 f3 : Int32} {a1 a3 a4 a6 a7 a8 a9 a10 a11 : Nat → Int32} {t c x : Nat} (ht : t ≤ 4) (hx : x < 4) (hA : hj_A c a1) (H : post (nI t, f1, 0, f3, a1, (fun _ => 0), a3, a4, (fun _ => 0), a6, a7, a8, a9, a10, a11)) :
    wpX_rank post (nI t, f1, f2, f3, a1, (fun _ => 0), a3, a4, (fun _ => 0), a6, a7, a8, a9, a10, a11) (nI x) :=
  ⟨0 + 1, pk_in x 4 hx, br_t hj_00 (hj_rk77 ht hx hA H)⟩
theorem hj_from {post : Int32 → Prop} {f0 f1 f3 : Int32} {a1 a2 a3 a4 a5 a6 a7 a8 a9 a10 a11 : Nat → Int32} {q : Nat} (hq : q < 2 ^ 31) (hp : post 0) :
    wpX_from post (f0, f1, 0, f3, a1, a2, a3, a4, a5, a6, a7, a8, a9, a10, a11) (nI q) :=
  ⟨0 + 1, br_t (nI_pos' hq) hp⟩
theorem hj_add {post : St2 → Prop} {f0 f1 f3 : Int32} {a1 a2 a3 a4 a5 a6 a7 a8 a9 a10 a11 : Nat → Int32} {i x : Nat} (hi : i < 4) (hx : x < 4) (hZ : hj_Z a9) (H : ∀ a, hj_Z a → post (f0, f1, 0, f3, a1, a2, a3, a4, a5, a6, a7, a8, a, a10, a11)) :
    wpX_addReads post (f0, f1, 0, f3, a1, a2, a3, a4, a5, a6, a7, a8, a9, a10, a11) (nI i) (nI x) := by
  unfold wpX_addReads
  dsimp only
  refine ⟨hj_in i x hi hx, nm_e (nm_e (br_c (fun _ => ?_) (fun _ => ⟨pk_in i 4 hi, hj_from (q := 0) (by omega) ⟨pk_in i 4 hi, nm_e ?_⟩⟩)))⟩
  · exact ⟨0 + 1, br_t hj_00 (H a9 hZ)⟩
  · exact ⟨0 + 1, br_t hj_00 (H _ (hj_Zu hZ (hj_va (hj_Zc hZ hi) rfl)))⟩
theorem hj_b98 {post : St2 → Prop} {J : Int32 → Int32 → Int32 → Int32 → Int32 → (Nat → Int32) → (Nat → Int32) → (Nat → Int32) → (Nat → Int32) → (Nat → Int32) → (Nat → Int32) → (Nat → Int32) → (Nat → Int32) → (Nat → Int32) → (Nat → Int32) → (Nat → Int32) → Prop}
    {f1 f3 : Int32} {a1 a2 a3 a4 a5 a6 a7 a8 a9 a10 a11 : Nat → Int32} {t c x : Nat} (ht : t ≤ 4) (hx : x < 4) (hA : hj_A c a1) (hZ : hj_Z a9) (H : ∀ a, hj_Z a → J (nI (x + 1)) (nI t) f1 0 f3 a1 a2 a3 a4 a5 a6 a7 a8 a a10 a11) :
    ∃ n, wX_build_98 post J (nI x) n 0 (nI t) f1 0 f3 a1 a2 a3 a4 a5 a6 a7 a8 a9 a10 a11 :=
  pk_loop (fun n i s => wX_build_98 post J (nI x) n (nI i) (nI t) f1 0 f3 a1 a2 a3 a4 a5 a6 a7 a8 s a10 a11) (fun _ s => hj_Z s) t 0 a9 (by omega) hZ
    (fun n s h => pk_le t t (fun _ => nm_r (nI_1 x) (H s h)) (fun z => absurd z (by omega)))
    (fun n i s hi h hw => pk_le t i (fun z => absurd z (by omega)) (fun _ =>
      hj_com hA (by omega) (fun _ => br_f hj_10 (hj_add (by omega) hx h (fun a ha => nm_r (nI_1 i) (hw a ha)))) (fun _ => br_t rfl (nm_r (nI_1 i) (hw s h)))))
theorem hj_b36 {post : St2 → Prop} {f2 f3 : Int32} {a1 a3 a4 a6 a7 a8 a9 a10 a11 : Nat → Int32} {t k c : Nat} (ht : t ≤ 4) (hk : k ≤ 4) (hA : hj_A c a1) (hZ : hj_Z a9) (H : ∀ rc a, hj_Z a → post (nI t, nI k, rc, f3, a1, (fun _ => 0), a3, a4, (fun _ => 0), a6, a7, a8, a, a10, a11)) :
    ∃ n, wX_build_36 post n 0 (nI t) (nI k) f2 f3 a1 (fun _ => 0) a3 a4 (fun _ => 0) a6 a7 a8 a9 a10 a11 :=
  pk_loop (σ := Int32 × (Nat → Int32)) (fun n x s => wX_build_36 post n (nI x) (nI t) (nI k) s.1 f3 a1 (fun _ => 0) a3 a4 (fun _ => 0) a6 a7 a8 s.2 a10 a11) (fun _ s => hj_Z s.2) k 0 (f2, a9) (by omega) hZ
    (fun n s h => pk_le k k (fun _ => H s.1 s.2 h) (fun z => absurd z (by omega)))
    (fun n x s hx h hw => pk_le k x (fun z => absurd z (by omega)) (fun _ =>
      hj_rank ht (by omega) hA ⟨0 + 1, br_t hj_00 (hj_b98 ht (by omega) hA h (fun a ha => hw (0, a) ha))⟩))
theorem hj_build {post : St2 → Prop} {f2 f3 : Int32} {a1 a3 a4 a6 a7 a8 a9 a10 a11 : Nat → Int32} {t k c : Nat} (ht : t ≤ 4) (hk : k ≤ 4) (hA : hj_A c a1)
    (H : ∀ rc b7 b8 b9, hj_Z b7 → hj_Z b8 → hj_Z b9 → post (nI t, nI k, rc, f3, a1, (fun _ => 0), a3, a4, (fun _ => 0), a6, b7, b8, b9, a10, a11)) :
    wpX_build post (nI t, nI k, f2, f3, a1, (fun _ => 0), a3, a4, (fun _ => 0), a6, a7, a8, a9, a10, a11) :=
  pk_loop (σ := (Nat → Int32) × (Nat → Int32) × (Nat → Int32)) (fun n i s => wX_build_2 post (nI t) (nI k) f2 f3 n (nI i) a1 (fun _ => 0) a3 a4 (fun _ => 0) a6 s.1 s.2.1 s.2.2 a10 a11)
    (fun i s => (∀ j, j < i → s.1 j = 0) ∧ (∀ j, j < i → s.2.1 j = 0) ∧ (∀ j, j < i → s.2.2 j = 0)) 4 0 (a7, a8, a9) (by omega)
    ⟨fun j hj => absurd hj (by omega), fun j hj => absurd hj (by omega), fun j hj => absurd hj (by omega)⟩
    (fun n s h => pk_le 4 4 (fun _ => hj_b36 ht hk hA h.2.2 (fun rc a ha => H rc s.1 s.2.1 a h.1 h.2.1 ha)) (fun z => absurd z (by omega)))
    (fun n i s hi h hw => pk_le 4 i (fun z => absurd z (by omega)) (fun _ => ⟨pk_in i 4 hi, nm_e ⟨pk_in i 4 hi, nm_e ⟨pk_in i 4 hi, nm_e (nm_r (nI_1 i)
      (hw (_, _, _) ⟨hj_fill (nI_clamp (by omega)) h.1 rfl, hj_fill (nI_clamp (by omega)) h.2.1 rfl, hj_fill (nI_clamp (by omega)) h.2.2 rfl⟩))⟩⟩⟩))
end
section
theorem hj_cset {post : Int32 → Prop} {f1 f2 f3 : Int32} {a1 a2 a3 a4 a5 a6 a7 a8 a9 a10 a11 : Nat → Int32} {t c : Nat} (ht : t ≤ 4) (hA : hj_A c a1) (hp : post (hj_w c t)) :
    wpX_committedSet post (nI t, f1, f2, f3, a1, a2, a3, a4, a5, a6, a7, a8, a9, a10, a11) := by
  refine Exists.elim (pk_loop (σ := Unit) (fun n q _ => wX_committedSet_4 post (nI t) f1 f2 f3 a1 a2 a3 a4 a5 a6 a7 a8 a9 a10 a11 n (hj_w c q) (nI q)) (fun _ _ => True) t 0 () (by omega) trivial
    (fun n _ _ => pk_le t t (fun _ => hp) (fun z => absurd z (by omega)))
    (fun n q _ hq _ hw => pk_le t q (fun z => absurd z (by omega)) (fun _ =>
      hj_com hA (by omega) (fun e => br_f hj_10 (nm_r (hj_w1 e) (nm_r (nI_1 q) (hw () trivial)))) (fun e => br_t rfl (nm_r (nI_1 q) ?_))))) (fun n hn => ?_)
  · have h' : wX_committedSet_4 post (nI t) f1 f2 f3 a1 a2 a3 a4 a5 a6 a7 a8 a9 a10 a11 n (hj_w c (q + 1)) (nI (q + 1)) := hw () trivial
    rw [hj_w2 e] at h'
    exact h'
  · have h' : wX_committedSet_4 post (nI t) f1 f2 f3 a1 a2 a3 a4 a5 a6 a7 a8 a9 a10 a11 n (hj_w c 0) (nI 0) := hn
    rw [hj_w0] at h'
    exact ⟨n, h'⟩
theorem hj_lf34 {post : Int32 → Prop} {f0 f1 f2 f3 : Int32} {a1 a2 a3 a4 a5 a6 a7 a8 a9 a10 a11 : Nat → Int32} {c : Nat} (hc : c < 4) (hp : post (nI c)) :
    ∃ n, wX_leastFree_34 post ((1 : Int32) <<< (nI c &&& 31)) 0 f0 f1 f2 f3 a1 a2 a3 a4 a5 a6 a7 a8 a9 a10 a11 n 0 :=
  pk_loop (σ := Unit) (fun n q _ => wX_leastFree_34 post ((1 : Int32) <<< (nI c &&& 31)) 0 f0 f1 f2 f3 a1 a2 a3 a4 a5 a6 a7 a8 a9 a10 a11 n (nI q)) (fun _ _ => True) c 0 () (by omega) trivial
    (fun n _ _ => pk_le 4 c (fun z => absurd z (by omega)) (fun _ => br_f (hj_by c hc) hp))
    (fun n q _ hq _ hw => pk_le 4 q (fun z => absurd z (by omega)) (fun _ => br_t (hj_bn c hc q hq) (nm_r (nI_1 q) (hw () trivial))))
theorem hj_lf {post : Int32 → Prop} {f0 f1 f2 f3 : Int32} {a1 a2 a3 a4 a5 a6 a7 a8 a9 a10 a11 : Nat → Int32} {c : Nat} (hc : c < 4) (hZ : hj_Z a10) (hp : post (nI c)) :
    wpX_leastFree post (f0, f1, f2, f3, a1, a2, a3, a4, a5, a6, a7, a8, a9, a10, a11) ((1 : Int32) <<< (nI c &&& 31)) :=
  pk_loop (σ := Unit) (fun n q _ => wX_leastFree_4 post ((1 : Int32) <<< (nI c &&& 31)) f0 f1 f2 f3 a1 a2 a3 a4 a5 a6 a7 a8 a9 a10 a11 n 0 (nI q)) (fun _ _ => True) 4 0 () (by omega) trivial
    (fun n _ _ => pk_le 4 4 (fun _ => hj_lf34 hc hp) (fun z => absurd z (by omega)))
    (fun n q _ hq _ hw => pk_le 4 q (fun z => absurd z (by omega)) (fun _ => br_c (fun _ => nm_r (nI_1 q) (hw () trivial))
      (fun _ => ⟨pk_in q 4 hq, nm_r (hj_o2 rfl (hj_Zc hZ hq)) (nm_r (nI_1 q) (hw () trivial))⟩)))
theorem hj_list {post : Int32 → St2 → Prop} {f1 f2 f3 : Int32} {a1 a2 a3 a4 a5 a6 a7 a8 a9 a10 a11 : Nat → Int32} {t c : Nat} (ht : t ≤ 4) (hct : c < 4 → c < t) (hA : hj_A c a1) (hZ : hj_Z a10)
    (H : ∀ ls a, hj_L c ls a → post 1 (nI t, f1, f2, ls, a1, a2, a3, a4, a5, a6, a7, a8, a9, a10, a)) :
    wpX_listByEdges post (nI t, f1, f2, f3, a1, a2, a3, a4, a5, a6, a7, a8, a9, a10, a11) := by
  unfold wpX_listByEdges
  dsimp only
  refine hj_cset ht hA ?_
  by_cases hc : c < 4
  · rw [show hj_w c t = (1 : Int32) <<< (nI c &&& 31) from if_pos (hct hc)]
    refine ⟨0 + 1 + 1, pk_le 4 0 (fun z => absurd z (by omega)) (fun _ => br_f (hj_b0 c hc) (hj_lf hc hZ (br_t (nI_pos' (by omega)) ⟨pk_in 0 4 (by omega), nm_e (nm_r (show (0 : Int32) + 1 = 1 by decide)
      (nm_r (hj_bx c hc) (nm_r (show (0 : Int32) + 1 = 1 by decide) (pk_le 4 1 (fun z => absurd z (by omega)) (fun _ => br_t rfl (H _ _ ⟨fun _ => ⟨rfl, ?_⟩, fun z => absurd hc z⟩))))))⟩)))⟩
    show upd a11 (0 : Int32).toNatClampNeg ((nI c).toInt8.toInt32) 0 = nI c
    rw [show (0 : Int32).toNatClampNeg = 0 from by decide, pk_us, hj_c8 c hc]
  · rw [show hj_w c t = 0 from if_neg (by omega)]
    exact ⟨0 + 1, pk_le 4 0 (fun z => absurd z (by omega)) (fun _ => br_t rfl (H _ _ ⟨fun z => absurd z hc, fun _ => rfl⟩))⟩
theorem hj_over {post : Int32 → Prop} {f0 f1 f2 f3 x : Int32} {a1 a2 a3 a4 a5 a6 a7 a8 a9 a10 a11 : Nat → Int32} (hZ : hj_Z a9) (hp : post 0) :
    wpX_overwritten post (f0, f1, f2, f3, a1, a2, a3, a4, a5, a6, a7, a8, a9, a10, a11) x :=
  pk_loop (σ := Unit) (fun n q _ => wX_overwritten_4 post x f0 f1 f2 f3 a1 a2 a3 a4 a5 a6 a7 a8 a9 a10 a11 n 0 (nI q)) (fun _ _ => True) 4 0 () (by omega) trivial
    (fun n _ _ => pk_le 4 4 (fun _ => hp) (fun z => absurd z (by omega)))
    (fun n q _ hq _ hw => pk_le 4 q (fun z => absurd z (by omega)) (fun _ => br_c (fun _ => nm_r (nI_1 q) (hw () trivial))
      (fun _ => ⟨pk_in q 4 hq, nm_r (hj_o2 rfl (hj_Zc hZ hq)) (nm_r (nI_1 q) (hw () trivial))⟩)))
end
section
theorem hj_ser15 {post : Int32 → St2 → Prop} {f1 f2 f3 : Int32} {a1 a2 a3 a4 a5 a6 a7 a8 a9 a10 a11 : Nat → Int32} {t c : Nat} (ht : t ≤ 4) (hct : c < 4 → c < t) (hA : hj_A c a1) (h7 : hj_Z a7) (h8 : hj_Z a8) (h9 : hj_Z a9)
    (H : ∀ ls b a, hj_L c ls a → post 1 (nI t, f1, f2, ls, a1, a2, a3, a4, a5, a6, a7, a8, a9, b, a)) :
    ∃ n, wX_serial_15 post (nI t) f1 f2 f3 n 0 a1 a2 a3 a4 a5 a6 a7 a8 a9 a10 a11 :=
  pk_loop (fun n i s => wX_serial_15 post (nI t) f1 f2 f3 n (nI i) a1 a2 a3 a4 a5 a6 a7 a8 a9 s a11) (fun i s => ∀ j, j < i → s j = 0) 4 0 a10 (by omega) (fun j hj => absurd hj (by omega))
    (fun n s h => pk_le 4 4 (fun _ => hj_list ht hct hA h (fun ls a hl => ⟨rfl, H ls s a hl⟩)) (fun z => absurd z (by omega)))
    (fun n i s hi h hw => pk_le 4 i (fun z => absurd z (by omega)) (fun _ => ⟨pk_in i 4 hi, pk_in i 4 hi, pk_in i 4 hi, pk_in i 4 hi, nm_e (nm_r (nI_1 i)
      (hw _ (hj_fill (nI_clamp (by omega)) h (hj_v3 (hj_Zc h7 hi) (hj_Zc h8 hi) (hj_Zc h9 hi)))))⟩))
theorem hj_snap15 {post : Int32 → St2 → Prop} {f1 f2 f3 : Int32} {a1 a2 a3 a4 a5 a6 a7 a8 a9 a10 a11 : Nat → Int32} {t c : Nat} (ht : t ≤ 4) (hct : c < 4 → c < t) (hA : hj_A c a1) (h7 : hj_Z a7) (h8 : hj_Z a8) (h9 : hj_Z a9)
    (H : ∀ ls b a, hj_L c ls a → post 1 (nI t, f1, f2, ls, a1, a2, a3, a4, a5, a6, a7, a8, a9, b, a)) :
    ∃ n, wX_snapshot_15 post (nI t) f1 f2 f3 n 0 a1 a2 a3 a4 a5 a6 a7 a8 a9 a10 a11 :=
  pk_loop (fun n i s => wX_snapshot_15 post (nI t) f1 f2 f3 n (nI i) a1 a2 a3 a4 a5 a6 a7 a8 a9 s a11) (fun i s => ∀ j, j < i → s j = 0) 4 0 a10 (by omega) (fun j hj => absurd hj (by omega))
    (fun n s h => pk_le 4 4 (fun _ => hj_list ht hct hA h (fun ls a hl => ⟨rfl, H ls s a hl⟩)) (fun z => absurd z (by omega)))
    (fun n i s hi h hw => pk_le 4 i (fun z => absurd z (by omega)) (fun _ => ⟨pk_in i 4 hi, pk_in i 4 hi, nm_e (hj_over h9 ⟨pk_in i 4 hi, nm_e (nm_r (nI_1 i)
      (hw _ (hj_fill (nI_clamp (by omega)) h (hj_v2 (hj_o2 (hj_Zc h7 hi) (hj_Zc h8 hi)) rfl))))⟩)⟩))
theorem hj_src15 {post : Int32 → St2 → Prop} {f1 f2 f3 : Int32} {a1 a2 a3 a4 a5 a6 a7 a8 a9 a10 a11 : Nat → Int32} {t c : Nat} (ht : t ≤ 4) (hct : c < 4 → c < t) (hA : hj_A c a1) (h7 : hj_Z a7) (h8 : hj_Z a8)
    (H : ∀ ls b a, hj_L c ls a → post 1 (nI t, f1, f2, ls, a1, a2, a3, a4, a5, a6, a7, a8, a9, b, a)) :
    ∃ n, wX_sourced_15 post (nI t) f1 f2 f3 n 0 a1 a2 a3 a4 a5 a6 a7 a8 a9 a10 a11 :=
  pk_loop (fun n i s => wX_sourced_15 post (nI t) f1 f2 f3 n (nI i) a1 a2 a3 a4 a5 a6 a7 a8 a9 s a11) (fun i s => ∀ j, j < i → s j = 0) 4 0 a10 (by omega) (fun j hj => absurd hj (by omega))
    (fun n s h => pk_le 4 4 (fun _ => hj_list ht hct hA h (fun ls a hl => ⟨rfl, H ls s a hl⟩)) (fun z => absurd z (by omega)))
    (fun n i s hi h hw => pk_le 4 i (fun z => absurd z (by omega)) (fun _ => ⟨pk_in i 4 hi, pk_in i 4 hi, pk_in i 4 hi, nm_e (nm_r (nI_1 i)
      (hw _ (hj_fill (nI_clamp (by omega)) h (hj_v2 (hj_Zc h7 hi) (hj_Zc h8 hi)))))⟩))
theorem hj_ord6 {post : Int32 → St2 → Prop} {f1 f2 f3 : Int32} {a1 a2 a3 a4 a5 a6 a7 a8 a9 a10 a11 : Nat → Int32} {t c : Nat} (ht : t ≤ 4) (hct : c < 4 → c < t) (hA : hj_A c a1) (h7 : hj_Z a7)
    (H : ∀ ls b a, hj_L c ls a → post 1 (nI t, f1, f2, ls, a1, a2, a3, a4, a5, a6, a7, a8, a9, b, a)) :
    ∃ n, wX_ordered_6 post (nI t) f1 f2 f3 n 0 a1 a2 a3 a4 a5 a6 a7 a8 a9 a10 a11 :=
  pk_loop (fun n i s => wX_ordered_6 post (nI t) f1 f2 f3 n (nI i) a1 a2 a3 a4 a5 a6 a7 a8 a9 s a11) (fun i s => ∀ j, j < i → s j = 0) 4 0 a10 (by omega) (fun j hj => absurd hj (by omega))
    (fun n s h => pk_le 4 4 (fun _ => hj_list ht hct hA h (fun ls a hl => ⟨rfl, H ls s a hl⟩)) (fun z => absurd z (by omega)))
    (fun n i s hi h hw => pk_le 4 i (fun z => absurd z (by omega)) (fun _ => ⟨pk_in i 4 hi, pk_in i 4 hi, nm_e (nm_r (nI_1 i)
      (hw _ (hj_fill (nI_clamp (by omega)) h (hj_vn (hj_Zc h7 hi)))))⟩))
theorem hj_serial {post : Int32 → St2 → Prop} {f2 f3 : Int32} {a1 a3 a4 a6 a7 a8 a9 a10 a11 : Nat → Int32} {t k c : Nat} (ht : t ≤ 4) (hk : k ≤ 4) (hct : c < 4 → c < t) (hA : hj_A c a1) (hR : hj_R a3)
    (H : ∀ rc ls b7 b8 b9 b10 a, hj_L c ls a → post 1 (nI t, nI k, rc, ls, a1, (fun _ => 0), a3, a4, (fun _ => 0), a6, b7, b8, b9, b10, a)) :
    wpX_serial post (nI t, nI k, f2, f3, a1, (fun _ => 0), a3, a4, (fun _ => 0), a6, a7, a8, a9, a10, a11) := by
  unfold wpX_serial
  dsimp only
  refine hj_clean ht hk hA hR (br_f hj_10 ?_)
  refine hj_build ht hk hA (fun rc b7 b8 b9 h7 h8 h9 => ?_)
  exact hj_ser15 ht hct hA h7 h8 h9 (fun ls b a hl => H rc ls b7 b8 b9 b a hl)
theorem hj_snap {post : Int32 → St2 → Prop} {f2 f3 : Int32} {a1 a3 a4 a6 a7 a8 a9 a10 a11 : Nat → Int32} {t k c : Nat} (ht : t ≤ 4) (hk : k ≤ 4) (hct : c < 4 → c < t) (hA : hj_A c a1) (hR : hj_R a3)
    (H : ∀ rc ls b7 b8 b9 b10 a, hj_L c ls a → post 1 (nI t, nI k, rc, ls, a1, (fun _ => 0), a3, a4, (fun _ => 0), a6, b7, b8, b9, b10, a)) :
    wpX_snapshot post (nI t, nI k, f2, f3, a1, (fun _ => 0), a3, a4, (fun _ => 0), a6, a7, a8, a9, a10, a11) := by
  unfold wpX_snapshot
  dsimp only
  refine hj_clean ht hk hA hR (br_f hj_10 ?_)
  refine hj_build ht hk hA (fun rc b7 b8 b9 h7 h8 h9 => ?_)
  exact hj_snap15 ht hct hA h7 h8 h9 (fun ls b a hl => H rc ls b7 b8 b9 b a hl)
theorem hj_src {post : Int32 → St2 → Prop} {f2 f3 : Int32} {a1 a3 a4 a6 a7 a8 a9 a10 a11 : Nat → Int32} {t k c : Nat} (ht : t ≤ 4) (hk : k ≤ 4) (hct : c < 4 → c < t) (hA : hj_A c a1) (hR : hj_R a3)
    (H : ∀ rc ls b7 b8 b9 b10 a, hj_L c ls a → post 1 (nI t, nI k, rc, ls, a1, (fun _ => 0), a3, a4, (fun _ => 0), a6, b7, b8, b9, b10, a)) :
    wpX_sourced post (nI t, nI k, f2, f3, a1, (fun _ => 0), a3, a4, (fun _ => 0), a6, a7, a8, a9, a10, a11) := by
  unfold wpX_sourced
  dsimp only
  refine hj_clean ht hk hA hR (br_f hj_10 ?_)
  refine hj_build ht hk hA (fun rc b7 b8 b9 h7 h8 h9 => ?_)
  exact hj_src15 ht hct hA h7 h8 (fun ls b a hl => H rc ls b7 b8 b9 b a hl)
theorem hj_ord {post : Int32 → St2 → Prop} {f2 f3 : Int32} {a1 a3 a4 a6 a7 a8 a9 a10 a11 : Nat → Int32} {t k c : Nat} (ht : t ≤ 4) (hk : k ≤ 4) (hct : c < 4 → c < t) (hA : hj_A c a1)
    (H : ∀ rc ls b7 b8 b9 b10 a, hj_L c ls a → post 1 (nI t, nI k, rc, ls, a1, (fun _ => 0), a3, a4, (fun _ => 0), a6, b7, b8, b9, b10, a)) :
    wpX_ordered post (nI t, nI k, f2, f3, a1, (fun _ => 0), a3, a4, (fun _ => 0), a6, a7, a8, a9, a10, a11) := by
  unfold wpX_ordered
  dsimp only
  refine hj_build ht hk hA (fun rc b7 b8 b9 h7 h8 h9 => ?_)
  exact hj_ord6 ht hct hA h7 (fun ls b a hl => H rc ls b7 b8 b9 b a hl)
theorem hj_kind {post : Int32 → St2 → Prop} {f2 f3 p : Int32} {a1 a3 a4 a6 a7 a8 a9 a10 a11 : Nat → Int32} {t k c : Nat} (ht : t ≤ 4) (hk : k ≤ 4) (hct : c < 4 → c < t) (hA : hj_A c a1) (hR : hj_R a3)
    (H : ∀ rc ls b7 b8 b9 b10 a, post 1 (nI t, nI k, rc, ls, a1, (fun _ => 0), a3, a4, (fun _ => 0), a6, b7, b8, b9, b10, a)) :
    wpX_ofKind post (nI t, nI k, f2, f3, a1, (fun _ => 0), a3, a4, (fun _ => 0), a6, a7, a8, a9, a10, a11) p := by
  unfold wpX_ofKind
  dsimp only
  refine br_c (fun _ => ?_) (fun _ => br_c (fun _ => ?_) (fun _ => br_c (fun _ => ?_) (fun _ => br_c (fun _ => ?_) (fun _ => ?_))))
  · exact hj_clean ht hk hA hR ⟨rfl, H _ _ _ _ _ _ _⟩
  · exact hj_ord ht hk hct hA (fun rc ls b7 b8 b9 b10 a _ => ⟨rfl, H _ _ _ _ _ _ _⟩)
  · exact hj_src ht hk hct hA hR (fun rc ls b7 b8 b9 b10 a _ => ⟨rfl, H _ _ _ _ _ _ _⟩)
  · exact hj_snap ht hk hct hA hR (fun rc ls b7 b8 b9 b10 a _ => ⟨rfl, H _ _ _ _ _ _ _⟩)
  · exact hj_serial ht hk hct hA hR (fun rc ls b7 b8 b9 b10 a _ => ⟨rfl, H _ _ _ _ _ _ _⟩)
end
section
/-- an answer: x where C holds, y elsewhere -/
def hj_if (C : Prop) (r x y : Int32) : Prop := (C → r = x) ∧ (¬ C → r = y)
theorem hj_it {C : Prop} {x y : Int32} (h : C) : hj_if C x x y := ⟨fun _ => rfl, fun z => absurd h z⟩
theorem hj_ie {C : Prop} {x y : Int32} (h : ¬ C) : hj_if C y x y := ⟨fun z => absurd z h, fun _ => rfl⟩
theorem hj_n1 {p : Int32} (h : ¬ p < 1) : ¬ p ≤ 0 := fun g => h (Int32.lt_of_le_of_lt g (by decide))
theorem hj_nat {t : Nat} {p : Int32} (ht : t ≤ 4) (h : ¬ p < 0 ∧ ¬ nI t ≤ p) : ∃ i : Nat, i < t ∧ p = nI i := by
  rcases pk_ix p (n := t) (by omega) with z | z | z
  · exact absurd z h.1
  · exact absurd z h.2
  · exact z
theorem hj_p0 {p : Int32} (g : ¬ p < 0) (g1 : p < 1) : p = 0 := by
  obtain ⟨j, hj, rfl⟩ := nI_of g
  have h : j < 1 := (nI_ltI hj (by omega)).mp g1
  have e : j = 0 := by omega
  rw [e]
  rfl
theorem hj_isT {post : Int32 → Prop} {f0 f1 f2 f3 p : Int32} {a1 a2 a3 a4 a5 a6 a7 a8 a9 a10 a11 : Nat → Int32} (h1 : ¬ p < 0 ∧ ¬ f0 ≤ p → post 1) (h0 : ¬ (¬ p < 0 ∧ ¬ f0 ≤ p) → post 0) :
    wpX_isTransaction post (f0, f1, f2, f3, a1, a2, a3, a4, a5, a6, a7, a8, a9, a10, a11) p :=
  br_c (fun a => h0 (fun q => q.1 a)) (fun a => br_c (fun b => h0 (fun q => q.2 b)) (fun b => h1 ⟨a, b⟩))
theorem hj_isK {post : Int32 → Prop} {f0 f1 f2 f3 p : Int32} {a1 a2 a3 a4 a5 a6 a7 a8 a9 a10 a11 : Nat → Int32} (h1 : ¬ p < 0 ∧ ¬ f1 ≤ p → post 1) (h0 : ¬ (¬ p < 0 ∧ ¬ f1 ≤ p) → post 0) :
    wpX_isKey post (f0, f1, f2, f3, a1, a2, a3, a4, a5, a6, a7, a8, a9, a10, a11) p :=
  br_c (fun a => h0 (fun q => q.1 a)) (fun a => br_c (fun b => h0 (fun q => q.2 b)) (fun b => h1 ⟨a, b⟩))
theorem hj_read {post : Int32 → St2 → Prop} {f2 f3 p0 p1 p2 p3 : Int32} {a3 a4 a5 a6 a7 a8 a9 a10 a11 : Nat → Int32} {t k : Nat} (ht : t ≤ 4) (hk : k ≤ 4)
    (H : ∀ r, hj_if ((¬ p0 < 0 ∧ ¬ nI t ≤ p0) ∧ (¬ p1 < 0 ∧ ¬ nI k ≤ p1) ∧ (¬ p2 < 0 ∧ ¬ nI t ≤ p2 ∧ ¬ p0 = p2)) r (-3) (-1) → post r (nI t, nI k, f2, f3, (fun _ => 0), (fun _ => 0), a3, a4, a5, a6, a7, a8, a9, a10, a11)) :
    wpX_read post (nI t, nI k, f2, f3, (fun _ => 0), (fun _ => 0), a3, a4, a5, a6, a7, a8, a9, a10, a11) p0 p1 p2 p3 := by
  unfold wpX_read
  dsimp only
  refine hj_isT (fun h0 => br_f hj_10 ?_) (fun h0 => br_t rfl (H _ (hj_ie (fun q => h0 q.1))))
  refine hj_isT (fun h2 => br_f hj_10 ?_) (fun h2 => br_t rfl (H _ (hj_ie (fun q => h2 ⟨q.2.2.1, q.2.2.2.1⟩))))
  refine hj_isK (fun h1 => br_f hj_10 ?_) (fun h1 => br_t rfl (H _ (hj_ie (fun q => h1 q.2.1))))
  refine br_c (fun e => H _ (hj_ie (fun q => q.2.2.2.2 e))) (fun e => ?_)
  have G := H (-3) (hj_it ⟨h0, h1, h2.1, h2.2, e⟩)
  obtain ⟨i, hi, ei⟩ := hj_nat ht h0
  obtain ⟨x, hx, ex⟩ := hj_nat hk h1
  obtain ⟨j, hj, ej⟩ := hj_nat ht h2
  subst ei ex ej
  exact ⟨pk_in i 4 (by omega), br_t rfl (br_c (fun _ => G) (fun z => ⟨hj_in j x (by omega) (by omega), br_f (hj_n1 z) G⟩))⟩
theorem hj_ground {post : Int32 → St2 → Prop} {f2 f3 p0 p1 : Int32} {a2 a4 a5 a6 a7 a8 a9 a10 a11 : Nat → Int32} {t k : Nat} (ht : t ≤ 4) (hk : k ≤ 4)
    (H : ∀ r a, hj_R a → hj_if ((¬ p0 < 0 ∧ ¬ nI t ≤ p0) ∧ (¬ p1 < 0 ∧ ¬ nI k ≤ p1)) r 0 (-1) → post r (nI t, nI k, f2, f3, (fun _ => 0), a2, a, a4, a5, a6, a7, a8, a9, a10, a11)) :
    wpX_readGround post (nI t, nI k, f2, f3, (fun _ => 0), a2, (fun _ => 0), a4, a5, a6, a7, a8, a9, a10, a11) p0 p1 := by
  unfold wpX_readGround
  dsimp only
  refine hj_isT (fun h0 => br_f hj_10 ?_) (fun h0 => br_t rfl (H _ _ hj_R0 (hj_ie (fun q => h0 q.1))))
  refine hj_isK (fun h1 => br_f hj_10 ?_) (fun h1 => br_t rfl (H _ _ hj_R0 (hj_ie (fun q => h1 q.2))))
  have G := fun a h => H 0 a h (hj_it ⟨h0, h1⟩)
  obtain ⟨i, hi, ei⟩ := hj_nat ht h0
  obtain ⟨x, hx, ex⟩ := hj_nat hk h1
  subst ei ex
  exact ⟨pk_in i 4 (by omega), br_t rfl (nm_e ⟨hj_in i x (by omega) (by omega), hj_in i x (by omega) (by omega), nm_e (G _ (hj_Ru hj_g0))⟩)⟩
theorem hj_inst {post : Int32 → St2 → Prop} {f2 f3 p0 p1 : Int32} {a1 a3 a4 a5 a6 a7 a8 a9 a10 a11 : Nat → Int32} {t k : Nat} (ht : t ≤ 4) (hk : k ≤ 4)
    (H : ∀ r, hj_if ((¬ p1 < 0 ∧ ¬ nI t ≤ p1) ∧ (¬ p0 < 0 ∧ ¬ nI k ≤ p0)) r (-3) (-1) → post r (nI t, nI k, f2, f3, a1, (fun _ => 0), a3, a4, a5, a6, a7, a8, a9, a10, a11)) :
    wpX_install post (nI t, nI k, f2, f3, a1, (fun _ => 0), a3, a4, a5, a6, a7, a8, a9, a10, a11) p0 p1 := by
  unfold wpX_install
  dsimp only
  refine hj_isT (fun h0 => br_f hj_10 ?_) (fun h0 => br_t rfl (H _ (hj_ie (fun q => h0 q.1))))
  refine hj_isK (fun h1 => br_f hj_10 ?_) (fun h1 => br_t rfl (H _ (hj_ie (fun q => h1 q.2))))
  have G := H (-3) (hj_it ⟨h0, h1⟩)
  obtain ⟨i, hi, ei⟩ := hj_nat ht h0
  obtain ⟨x, hx, ex⟩ := hj_nat hk h1
  subst ei ex
  exact ⟨hj_in i x (by omega) (by omega), br_t rfl G⟩
theorem hj_close {post : Int32 → St2 → Prop} {f1 f2 f3 : Int32} {a1 a2 a3 a4 a5 a6 a7 a8 a9 a10 a11 : Nat → Int32} {t i : Nat} (ht : t ≤ 4) (hi : i < t) (hA : hj_A 4 a1) (H : ∀ a, hj_A i a → post 0 (nI t, f1, f2, f3, a, a2, a3, a4, a5, a6, a7, a8, a9, a10, a11)) :
    wpX_close post (nI t, f1, f2, f3, a1, a2, a3, a4, a5, a6, a7, a8, a9, a10, a11) (nI i) 1 := by
  unfold wpX_close
  dsimp only
  refine hj_isT (fun h0 => br_f hj_10 ?_) (fun h0 => (h0 ⟨nI_pos (by omega), nI_ge hi (by omega)⟩).elim)
  refine ⟨pk_in i 4 (by omega), br_t ?_ ⟨pk_in i 4 (by omega), nm_e (H _ (hj_Au (nI_clamp (by omega)) (by decide) hA))⟩⟩
  rw [nI_clamp (show i < 2 ^ 31 by omega), hA i (by omega), if_neg (by omega)]
theorem hj_comIf {post : Int32 → St2 → Prop} {f2 f3 p0 p1 : Int32} {a1 a3 a4 a6 a7 a8 a9 a10 a11 : Nat → Int32} {t k : Nat} (ht : t ≤ 4) (hk : k ≤ 4) (hA : hj_A 4 a1) (hR : hj_R a3)
    (H : ∀ r c a rc ls b7 b8 b9 b10 b11, hj_A c a → c ≤ 4 → (c < 4 → c < t) →
      ((¬ p0 < 0 ∧ ¬ nI t ≤ p0) ∧ (¬ p1 < 0 ∧ ¬ 4 < p1) → c < t ∧ p0 = nI c) → (¬ ((¬ p0 < 0 ∧ ¬ nI t ≤ p0) ∧ (¬ p1 < 0 ∧ ¬ 4 < p1)) → c = 4) →
      hj_if ((¬ p0 < 0 ∧ ¬ nI t ≤ p0) ∧ (¬ p1 < 0 ∧ ¬ 4 < p1)) r 0 (-1) → post r (nI t, nI k, rc, ls, a, (fun _ => 0), a3, a4, (fun _ => 0), a6, b7, b8, b9, b10, b11)) :
    wpX_commitIf post (nI t, nI k, f2, f3, a1, (fun _ => 0), a3, a4, (fun _ => 0), a6, a7, a8, a9, a10, a11) p0 p1 := by
  have H1 : ¬ ((¬ p0 < 0 ∧ ¬ nI t ≤ p0) ∧ (¬ p1 < 0 ∧ ¬ 4 < p1)) → post (-1) (nI t, nI k, f2, f3, a1, (fun _ => 0), a3, a4, (fun _ => 0), a6, a7, a8, a9, a10, a11) := fun z =>
    H (-1) 4 a1 f2 f3 a7 a8 a9 a10 a11 hA (by omega) (fun h => absurd h (by omega)) (fun q => absurd q z) (fun _ => rfl) (hj_ie z)
  unfold wpX_commitIf
  dsimp only
  refine hj_isT (fun h0 => br_f hj_10 ?_) (fun h0 => br_t rfl (H1 (fun q => h0 q.1)))
  refine br_c (fun e => H1 (fun q => q.2.1 e)) (fun e => br_c (fun e4 => ?_) (fun e4 => H1 (fun q => e4 (Int32.not_lt.mp q.2.2))))
  obtain ⟨i, hi, ei⟩ := hj_nat ht h0
  subst ei
  refine hj_close ht hi hA (fun a ha => br_t rfl ?_)
  refine hj_kind ht hk (fun _ => hi) ha hR (fun rc ls b7 b8 b9 b10 b11 => br_f hj_10 ?_)
  have D : (¬ nI i < 0 ∧ ¬ nI t ≤ nI i) ∧ (¬ p1 < 0 ∧ ¬ 4 < p1) := ⟨h0, e, fun g => absurd e4 (Int32.not_le.mpr g)⟩
  exact H 0 i a rc ls b7 b8 b9 b10 b11 ha (by omega) (fun _ => hi) (fun _ => ⟨hi, rfl⟩) (fun z => absurd D z) (hj_it D)
theorem hj_state {post : Int32 → Prop} {f1 f2 f3 p : Int32} {a1 a2 a3 a4 a5 a6 a7 a8 a9 a10 a11 : Nat → Int32} {t c : Nat} (ht : t ≤ 4) (hc : c ≤ 4) (hA : hj_A c a1)
    (H : ∀ r, (¬ (¬ p < 0 ∧ ¬ nI t ≤ p) → r = -1) → ((¬ p < 0 ∧ ¬ nI t ≤ p) → hj_if (p = nI c) r 1 0) → post r) :
    wpX_state post (nI t, f1, f2, f3, a1, a2, a3, a4, a5, a6, a7, a8, a9, a10, a11) p := by
  unfold wpX_state
  dsimp only
  refine hj_isT (fun h0 => br_f hj_10 ?_) (fun h0 => br_t rfl (H _ (fun _ => rfl) (fun z => absurd z h0)))
  obtain ⟨i, hi, ei⟩ := hj_nat ht h0
  subst ei
  refine ⟨pk_in i 4 (by omega), ?_⟩
  rw [nI_clamp (show i < 2 ^ 31 by omega), hA i (by omega)]
  refine H _ (fun z => absurd h0 z) (fun _ => ⟨fun z => ?_, fun z => ?_⟩)
  · rw [if_pos ((nI_eq (by omega) (by omega)).mp z)]
  · rw [if_neg (fun e => z (by rw [e]))]
theorem hj_at {post : Int32 → St2 → Prop} {f2 f3 p : Int32} {a1 a3 a4 a6 a7 a8 a9 a10 a11 : Nat → Int32} {t k c : Nat} (ht : t ≤ 4) (hk : k ≤ 4) (hct : c < 4 → c < t) (hA : hj_A c a1) (hR : hj_R a3)
    (H : ∀ r u, hj_if (c < 4 ∧ p = 0) r (nI c) (-1) → post r u) :
    wpX_serialAt post (nI t, nI k, f2, f3, a1, (fun _ => 0), a3, a4, (fun _ => 0), a6, a7, a8, a9, a10, a11) p := by
  unfold wpX_serialAt
  dsimp only
  refine hj_serial ht hk hct hA hR (fun rc ls b7 b8 b9 b10 a hl => br_f hj_10 ?_)
  dsimp only
  by_cases hc : c < 4
  · obtain ⟨e1, e2⟩ := hl.1 hc
    subst e1
    refine br_c (fun g => H _ _ (hj_ie (fun q => absurd g (by rw [q.2]; decide)))) (fun g => br_c (fun g1 => ?_) (fun g1 => H _ _ (hj_ie (fun q => g1 (by rw [q.2]; decide)))))
    have e := hj_p0 g g1
    subst e
    refine ⟨pk_in 0 4 (by omega), ?_⟩
    rw [show (0 : Int32).toNatClampNeg = 0 from by decide, e2]
    exact H _ _ (hj_it ⟨hc, rfl⟩)
  · have e1 := hl.2 hc
    subst e1
    exact br_c (fun g => H _ _ (hj_ie (fun q => hc q.1))) (fun g => br_f g (H _ _ (hj_ie (fun q => hc q.1))))
end
section
/-- the six answers -/
def hj_ans (who what other done : Prop) (i j r g n c s f : Int32) : Prop :=
  hj_if (who ∧ what ∧ other) r (-3) (-1) ∧ hj_if (who ∧ what) g 0 (-1) ∧ hj_if (who ∧ what) n (-3) (-1) ∧ hj_if done c 0 (-1) ∧ ((¬ who → s = -1) ∧ (who → hj_if done s 1 0)) ∧ hj_if (done ∧ j = 0) f i (-1)
theorem hj_cg {a b c d a' b' c' d' : Prop} {i j r g n m s f : Int32} (ea : a' ↔ a) (eb : b' ↔ b) (ec : c' ↔ c) (ed : d' ↔ d) (h : hj_ans a b c d i j r g n m s f) : hj_ans a' b' c' d' i j r g n m s f := by
  rw [propext ea, propext eb, propext ec, propext ed]
  exact h
theorem hj_f0 {X : Prop} (h : ¬ X) : (¬ (0 : Int32) = 0) ↔ X := ⟨fun q => absurd rfl q, fun q => absurd q h⟩
theorem hj_f1 {X : Prop} (h : X) : (¬ (1 : Int32) = 0) ↔ X := ⟨fun _ => h, fun _ => hj_10⟩
theorem hj_308 {post : Int32 → St0 → Prop} {mc ms kc ks : Nat} {x2 x4 x12 x19 z0 z1 : Int32} (hp : post 1 ()) (e : z1 = z0) (h : hj_if (¬ x19 = 0 ∧ x4 = 0) x12 x2 (-1)) :
    wL_lawOf_308 post mc ms x2 x4 x12 x19 z0 z1 kc ks :=
  br_t e (br_c (fun a => br_t (h.2 (fun q => q.1 a)) hp) (fun a => br_c (fun b => br_t (h.1 ⟨a, b⟩) hp) (fun b => br_t (h.2 (fun q => b q.2)) hp)))
theorem hj_284 {post : Int32 → St0 → Prop} {mc ms kc ks : Nat} {x2 x4 x11 x12 x15 x19 z0 z1 : Int32} (hp : post 1 ()) (e : z1 = z0) (g1 : ¬ ¬ x15 = 0 → x11 = -1) (g2 : ¬ x15 = 0 → hj_if (¬ x19 = 0) x11 1 0) (h : hj_if (¬ x19 = 0 ∧ x4 = 0) x12 x2 (-1)) :
    wL_lawOf_284 post mc ms x2 x4 x11 x12 x15 x19 z0 z1 kc ks :=
  br_t e (br_c (fun a => hj_308 hp (g1 (fun q => q a)) h) (fun a => br_c (fun b => hj_308 hp ((g2 a).2 (fun q => q b)) h) (fun b => hj_308 hp ((g2 a).1 b) h)))
theorem hj_269 {post : Int32 → St0 → Prop} {mc ms kc ks : Nat} {x2 x4 x10 x11 x12 x15 x19 z0 z1 : Int32} (hp : post 1 ()) (e : z1 = z0) (h0 : hj_if (¬ x19 = 0) x10 0 (-1)) (g1 : ¬ ¬ x15 = 0 → x11 = -1) (g2 : ¬ x15 = 0 → hj_if (¬ x19 = 0) x11 1 0) (h : hj_if (¬ x19 = 0 ∧ x4 = 0) x12 x2 (-1)) :
    wL_lawOf_269 post mc ms x2 x4 x10 x11 x12 x15 x19 z0 z1 kc ks :=
  br_t e (br_c (fun a => hj_284 hp (h0.2 (fun q => q a)) g1 g2 h) (fun a => hj_284 hp (h0.1 a) g1 g2 h))
theorem hj_203 {post : Int32 → St0 → Prop} {mc ms kc ks : Nat} {x2 x4 x7 x8 x9 x10 x11 x12 x15 x16 x17 z0 : Int32} (hp : post 1 ()) (h : hj_ans (¬ x15 = 0) (¬ x16 = 0) (¬ x17 = 0) (¬ z0 = 0) x2 x4 x7 x8 x9 x10 x11 x12) :
    wL_lawOf_203 post mc ms x2 x4 x7 x8 x9 x10 x11 x12 x15 x16 x17 z0 kc ks := by
  obtain ⟨h1, h2, h3, h4, ⟨g1, g2⟩, h6⟩ := h
  have K1 : ∀ q w, w = q → wL_lawOf_248 post mc ms x2 x4 x9 x10 x11 x12 x15 x16 z0 q w kc ks := fun q w e =>
    br_t e (br_c (fun a => hj_269 hp (h3.2 (fun q => q.1 a)) h4 g1 g2 h6) (fun a => br_c (fun b => hj_269 hp (h3.2 (fun q => q.2 b)) h4 g1 g2 h6) (fun b => hj_269 hp (h3.1 ⟨a, b⟩) h4 g1 g2 h6)))
  have K2 : ∀ q w, w = q → wL_lawOf_228 post mc ms x2 x4 x8 x9 x10 x11 x12 x15 x16 z0 q w kc ks := fun q w e =>
    br_t e (br_c (fun a => K1 _ _ (h2.2 (fun q => q.1 a))) (fun a => br_c (fun b => K1 _ _ (h2.2 (fun q => q.2 b))) (fun b => K1 _ _ (h2.1 ⟨a, b⟩))))
  exact br_c (fun a => K2 _ _ (h1.2 (fun q => q.1 a))) (fun a => br_c (fun b => K2 _ _ (h1.2 (fun q => q.2.1 b))) (fun b => br_c (fun d => K2 _ _ (h1.2 (fun q => q.2.2 d))) (fun d => K2 _ _ (h1.1 ⟨a, b, d⟩))))
theorem hj_186 {post : Int32 → St0 → Prop} {mc ms kc ks : Nat} {x2 x4 x7 x8 x9 x10 x11 x12 x15 x16 x17 z0 : Int32} (hp : post 1 ()) (h : hj_ans (¬ x15 = 0) (¬ x16 = 0) (¬ x17 = 0) (¬ x15 = 0 ∧ ¬ z0 = 0) x2 x4 x7 x8 x9 x10 x11 x12) :
    wL_lawOf_186 post mc ms x2 x4 x7 x8 x9 x10 x11 x12 x15 x16 x17 z0 kc ks :=
  br_c (fun a => hj_203 hp (hj_cg Iff.rfl Iff.rfl Iff.rfl (hj_f0 (fun q => q.1 a)) h))
    (fun a => br_c (fun b => hj_203 hp (hj_cg Iff.rfl Iff.rfl Iff.rfl (hj_f0 (fun q => q.2 b)) h)) (fun b => hj_203 hp (hj_cg Iff.rfl Iff.rfl Iff.rfl (hj_f1 ⟨a, b⟩) h)))
theorem hj_168 {post : Int32 → St0 → Prop} {mc ms kc ks : Nat} {x2 x4 x5 x7 x8 x9 x10 x11 x12 x15 x16 z0 : Int32} (hp : post 1 ()) (h : hj_ans (¬ x15 = 0) (¬ x16 = 0) (¬ z0 = 0) (¬ x15 = 0 ∧ (¬ x5 < 0 ∧ ¬ 4 < x5)) x2 x4 x7 x8 x9 x10 x11 x12) :
    wL_lawOf_168 post mc ms x2 x4 x5 x7 x8 x9 x10 x11 x12 x15 x16 z0 kc ks :=
  br_c (fun a => hj_186 hp (hj_cg Iff.rfl Iff.rfl Iff.rfl (and_congr Iff.rfl (hj_f0 (fun q => q.1 a))) h))
    (fun a => br_c (fun b => hj_186 hp (hj_cg Iff.rfl Iff.rfl Iff.rfl (and_congr Iff.rfl (hj_f0 (fun q => q.2 b))) h)) (fun b => hj_186 hp (hj_cg Iff.rfl Iff.rfl Iff.rfl (and_congr Iff.rfl (hj_f1 ⟨a, b⟩)) h)))
theorem hj_143 {post : Int32 → St0 → Prop} {mc ms kc ks : Nat} {x2 x4 x5 x7 x8 x9 x10 x11 x12 x13 x15 z0 : Int32} (hp : post 1 ()) (h : hj_ans (¬ x15 = 0) (¬ z0 = 0) (¬ x4 < 0 ∧ ¬ x13 ≤ x4 ∧ ¬ x2 = x4) (¬ x15 = 0 ∧ (¬ x5 < 0 ∧ ¬ 4 < x5)) x2 x4 x7 x8 x9 x10 x11 x12) :
    wL_lawOf_143 post mc ms x2 x4 x5 x7 x8 x9 x10 x11 x12 x13 x15 z0 kc ks :=
  br_c (fun a => hj_168 hp (hj_cg Iff.rfl Iff.rfl (hj_f0 (fun q => q.1 a)) Iff.rfl h))
    (fun a => br_c (fun b => hj_168 hp (hj_cg Iff.rfl Iff.rfl (hj_f0 (fun q => q.2.1 b)) Iff.rfl h))
      (fun b => br_c (fun d => hj_168 hp (hj_cg Iff.rfl Iff.rfl (hj_f0 (fun q => q.2.2 d)) Iff.rfl h)) (fun d => hj_168 hp (hj_cg Iff.rfl Iff.rfl (hj_f1 ⟨a, b, d⟩) Iff.rfl h))))
theorem hj_126 {post : Int32 → St0 → Prop} {mc ms kc ks : Nat} {x2 x3 x4 x5 x7 x8 x9 x10 x11 x12 x13 x14 z0 : Int32} (hp : post 1 ()) (h : hj_ans (¬ z0 = 0) (¬ x3 < 0 ∧ ¬ x14 ≤ x3) (¬ x4 < 0 ∧ ¬ x13 ≤ x4 ∧ ¬ x2 = x4) (¬ z0 = 0 ∧ (¬ x5 < 0 ∧ ¬ 4 < x5)) x2 x4 x7 x8 x9 x10 x11 x12) :
    wL_lawOf_126 post mc ms x2 x3 x4 x5 x7 x8 x9 x10 x11 x12 x13 x14 z0 kc ks :=
  br_c (fun a => hj_143 hp (hj_cg Iff.rfl (hj_f0 (fun q => q.1 a)) Iff.rfl Iff.rfl h))
    (fun a => br_c (fun b => hj_143 hp (hj_cg Iff.rfl (hj_f0 (fun q => q.2 b)) Iff.rfl Iff.rfl h)) (fun b => hj_143 hp (hj_cg Iff.rfl (hj_f1 ⟨a, b⟩) Iff.rfl Iff.rfl h)))
theorem hj_109 {post : Int32 → St0 → Prop} {mc ms kc ks : Nat} {x2 x3 x4 x5 x7 x8 x9 x10 x11 x12 x13 z0 : Int32} (hp : post 1 ())
    (h : hj_ans (¬ x2 < 0 ∧ ¬ x13 ≤ x2) (¬ x3 < 0 ∧ ¬ z0 ≤ x3) (¬ x4 < 0 ∧ ¬ x13 ≤ x4 ∧ ¬ x2 = x4) ((¬ x2 < 0 ∧ ¬ x13 ≤ x2) ∧ (¬ x5 < 0 ∧ ¬ 4 < x5)) x2 x4 x7 x8 x9 x10 x11 x12) :
    wL_lawOf_109 post mc ms x2 x3 x4 x5 x7 x8 x9 x10 x11 x12 x13 z0 kc ks :=
  br_c (fun a => hj_126 hp (hj_cg (hj_f0 (fun q => q.1 a)) Iff.rfl Iff.rfl (and_congr (hj_f0 (fun q => q.1 a)) Iff.rfl) h))
    (fun a => br_c (fun b => hj_126 hp (hj_cg (hj_f0 (fun q => q.2 b)) Iff.rfl Iff.rfl (and_congr (hj_f0 (fun q => q.2 b)) Iff.rfl) h))
      (fun b => hj_126 hp (hj_cg (hj_f1 ⟨a, b⟩) Iff.rfl Iff.rfl (and_congr (hj_f1 ⟨a, b⟩) Iff.rfl) h)))
end
section
/-- c is what a bound p is cut to: t -/
def hj_cl (p : Int32) (t : Nat) : Prop := ∀ P : Int32 → Prop, P (nI t) → ((1 ≤ p → ((p ≤ 4 → P p) ∧ (¬ p ≤ 4 → P 4))) ∧ (¬ 1 ≤ p → P 1))
theorem hj_clamp (p : Int32) : ∃ t : Nat, t ≤ 4 ∧ hj_cl p t := by
  by_cases h1 : 1 ≤ p
  · by_cases h4 : p ≤ 4
    · obtain ⟨j, hj, e⟩ := nI_of2 (M := 4) (n := 4) (by decide) (fun g => absurd (Int32.lt_of_le_of_lt h1 g) (by decide)) h4
      exact ⟨j, hj, fun P hP => br_t h1 (br_t h4 (by rw [e]; exact hP))⟩
    · exact ⟨4, by omega, fun P hP => br_t h1 (br_f h4 hP)⟩
  · exact ⟨1, by omega, fun P hP => br_f h1 hP⟩
theorem hj_init {post : St2 → Prop} {p0 p1 : Int32} {t k : Nat} (ct : hj_cl p0 t) (ck : hj_cl p1 k) (H : post (nI t, nI k, 0, 0, (fun _ => 0), (fun _ => 0), (fun _ => 0), (fun _ => 0), (fun _ => 0), (fun _ => 0), (fun _ => 0), (fun _ => 0), (fun _ => 0), (fun _ => 0), (fun _ => 0))) :
    wpX_init post 11 80 (0, 0, 0, 0) p0 p1 :=
  ⟨by decide, by decide, by decide, by decide, by decide, by decide, by decide, by decide, by decide, by decide, by decide, by decide, by decide, by decide, by decide, by decide, by decide, by decide, by decide, by decide, by decide, by decide,
    ct (fun z => wX_init_104 post 11 80 p1 z 11 80 0 0 0 0 (fun _ => 0) (fun _ => 0) (fun _ => 0) (fun _ => 0) (fun _ => 0) (fun _ => 0) (fun _ => 0) (fun _ => 0) (fun _ => 0) (fun _ => 0) (fun _ => 0))
      (ck (fun z => post (nI t, z, 0, 0, (fun _ => 0), (fun _ => 0), (fun _ => 0), (fun _ => 0), (fun _ => 0), (fun _ => 0), (fun _ => 0), (fun _ => 0), (fun _ => 0), (fun _ => 0), (fun _ => 0))) H)⟩
theorem hj_of {post : Int32 → St0 → Prop} (p0 p1 p2 p3 p4 p5 : Int32) (hp : post 1 ()) : wpL_lawOf post 48 752 () p0 p1 p2 p3 p4 p5 := by
  obtain ⟨t, ht, ct⟩ := hj_clamp p0
  obtain ⟨k, hk, ck⟩ := hj_clamp p1
  unfold wpL_lawOf
  refine ⟨by decide, by decide, 11, 80, by decide, by decide, hj_init ct ck ?_⟩
  refine hj_read ht hk (fun r hr => ?_)
  refine hj_ground ht hk (fun g b3 hR hg => ?_)
  refine hj_inst ht hk (fun n hn => ?_)
  refine hj_comIf ht hk hj_A0 hR (fun m c b1 rc ls b7 b8 b9 b10 b11 hA hc hct hd hnd hm => ?_)
  refine hj_state ht hc hA (fun s hs0 hs => ?_)
  refine hj_at ht hk hct hA hR (fun f u hf => ?_)
  refine ct (fun z => wL_lawOf_88 post 48 752 p1 p2 p3 p4 p5 r g n m s f z (1 + 11) (15 + 80)) ?_
  refine ck (fun z => wL_lawOf_109 post 48 752 p2 p3 p4 p5 r g n m s f (nI t) z (1 + 11) (15 + 80)) ?_
  refine hj_109 hp ⟨hr, hg, hn, hm, ⟨hs0, fun w => ⟨fun d => (hs w).1 (hd d).2, fun d => (hs w).2 (fun e => ?_)⟩⟩, ⟨fun d => ?_, fun d => hf.2 (fun q => ?_)⟩⟩
  · rw [hnd d] at e
    exact w.2 (by rw [e]; exact nI_le ht (by omega))
  · have h := hd d.1
    rw [hf.1 ⟨by omega, d.2⟩, h.2]
  · refine d ⟨Classical.byContradiction (fun z => ?_), q.2⟩
    have h := hnd z
    omega
theorem hj_cell {post : Int32 → Prop} {L : Nat} {xs : Nat → Int32} (hL : L ≤ 6) (j : Nat) (hj : j < 6) (H : ∀ x, post x) : wpL_cellAt post L xs () (nI j) :=
  pk_le L j (fun _ => H 0) (fun z => ⟨pk_in j L z, H _⟩)
end
section
theorem i_vc (xs : Nat → Int32) (L : Nat) (hL : L ≤ 6) : wpL_law (fun r => r = 1) L xs :=
  hj_cell hL 0 (by omega) (fun x0 => hj_cell hL 1 (by omega) (fun x1 => hj_cell hL 2 (by omega) (fun x2 => hj_cell hL 3 (by omega) (fun x3 => hj_cell hL 4 (by omega) (fun x4 => hj_cell hL 5 (by omega) (fun x5 =>
    ⟨48, 752, by decide, by decide, hj_of x0 x1 x2 x3 x4 x5 rfl⟩))))))
end
