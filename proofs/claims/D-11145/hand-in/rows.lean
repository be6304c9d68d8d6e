section
/-! ===== bits of places, small numbers ===== -/
def lj_b (k : Nat) : Int32 := (1 : Int32) <<< (nI k &&& 31)
theorem lj_b0 : ∀ i, i < 11 → ((0 : Int32) >>> (nI i &&& 31)) &&& 1 = 0 := by decide +kernel
theorem lj_b1 : ∀ k, k < 11 → ∀ i, i < 11 → ((lj_b k >>> (nI i &&& 31)) &&& 1 = 0 ↔ i ≠ k) := by decide +kernel
theorem lj_b2 : ∀ j, j < 11 → ∀ k, k < 11 → ∀ i, i < 11 → (((lj_b j ||| lj_b k) >>> (nI i &&& 31)) &&& 1 = 0 ↔ (i ≠ j ∧ i ≠ k)) := by decide +kernel
theorem lj_c1 : ∀ k, k < 11 → lj_b k &&& (lj_b k ^^^ (-1)) = 0 := by decide +kernel
theorem lj_c2 : ∀ j, j < 11 → ∀ k, k < 11 → j ≠ k → (lj_b j ||| lj_b k) &&& (lj_b j ^^^ (-1)) = lj_b k := by decide +kernel
theorem lj_c3 : ∀ j, j < 11 → ∀ k, k < 11 → j ≠ k → (lj_b j ||| lj_b k) &&& (lj_b k ^^^ (-1)) = lj_b j := by decide +kernel
theorem lj_o0 : ∀ k, k < 11 → 0 ||| lj_b k = lj_b k := by decide +kernel
theorem lj_m1 : ∀ i, i < 11 → (((1 : Int32) >>> (nI i &&& 31)) &&& 1 = 0 ↔ i ≠ 0) := by decide +kernel
theorem lj_m3 : ∀ i, i < 11 → (((3 : Int32) >>> (nI i &&& 31)) &&& 1 = 0 ↔ (i ≠ 0 ∧ i ≠ 1)) := by decide +kernel
theorem lj_i8 : ∀ n, n < 128 → (nI n).toInt8.toInt32 = nI n := by decide +kernel
theorem lj_i16 : ∀ n, n < 256 → (nI n).toInt16.toInt32 = nI n := by decide +kernel
theorem lj_n16 : ∀ n, n < 256 → 0 < n → ¬ (0 : Int32) ≤ (-(nI n)).toInt16.toInt32 := by decide +kernel
theorem lj_vb {n : Nat} (h : n < 128) : vp_nar .byte (nI n) = nI n := lj_i8 n h
theorem lj_sub {a b : Nat} (h : b ≤ a) (ha : a < 256) : (nI a - nI b).toInt16.toInt32 = nI (a - b) := by
  rw [pk_sub h]
  exact lj_i16 _ (by omega)
theorem lj_neg {a b : Nat} (h : a < b) (hb : b < 256) : ¬ (0 : Int32) ≤ (nI a - nI b).toInt16.toInt32 := by
  have e : nI a - nI b = -(nI (b - a)) := by
    rw [← pk_sub (Nat.le_of_lt h), Int32.neg_sub]
  rw [e]
  exact lj_n16 _ (by omega) (by omega)
/-! ===== giveUpLongest: the longest of the candidates C, or none ===== -/
theorem lj_gu {post : Int32 → St2 → Prop} {jc rk ad ct ti : Int32} {a1 a2 a3 a4 : Nat → Int32} (C : Nat → Prop)
    (hC : ∀ i, i < 11 → C i → ¬ (ad >>> (nI i &&& 31)) &&& 1 = 0 ∧ a3 i = 0)
    (hN : ∀ i, i < 11 → ¬ C i → (ad >>> (nI i &&& 31)) &&& 1 = 0 ∨ ¬ a3 i = 0)
    (H0 : (∀ i, i < 11 → ¬ C i) → post 0 (jc, rk, ad, ct, ti, a1, a2, a3, a4))
    (H1 : ∀ j, j < 11 → C j → (∀ i, i < 11 → C i → a1 i ≤ a1 j) → post 1 (jc, rk, ad &&& (lj_b j ^^^ (-1)), ct - 1, ti - a1 j, a1, a2, a3, a4)) :
    wpX_giveUpLongest post (jc, rk, ad, ct, ti, a1, a2, a3, a4) := by
  refine Exists.elim (pk_loop (fun n i x => wX_giveUpLongest_4 post jc rk ad ct ti a1 a2 a3 a4 n x (nI i))
    (fun i x => (x = -1 ∧ ∀ i', i' < i → ¬ C i') ∨ (∃ j, j < i ∧ x = nI j ∧ C j ∧ ∀ i', i' < i → C i' → a1 i' ≤ a1 j)) 11 0 (-1) (by omega)
    (Or.inl ⟨rfl, fun _ h => absurd h (by omega)⟩) ?_ ?_) (fun n hn => ⟨n, hn⟩)
  · intro n x h
    refine pk_le 11 11 (fun _ => ?_) (fun z => absurd z (by omega))
    rcases h with ⟨hx, hn⟩ | ⟨j, hj, hx, hc, hm⟩
    · subst hx
      exact br_f (by decide) (H0 hn)
    · subst hx
      exact br_t (nI_pos' (by omega)) (nm_e (nm_e ⟨pk_in j 11 hj, nm_r (by rw [nI_clamp (by omega)]) (H1 j hj hc hm)⟩))
  · intro n i x hi h hw
    refine pk_le 11 i (fun z => absurd z (by omega)) (fun _ => ?_)
    by_cases hc : C i
    · obtain ⟨hb, hf⟩ := hC i hi hc
      refine br_f hb ⟨pk_in i 11 hi, ?_⟩
      rw [nI_clamp (show i < 2 ^ 31 by omega)]
      refine br_t hf ?_
      rcases h with ⟨hx, hn⟩ | ⟨j, hj, hx, hcj, hm⟩
      · subst hx
        refine br_t (by decide) (nm_r (nI_1 i) (hw _ (Or.inr ⟨i, by omega, rfl, hc, fun i' h' hc' => ?_⟩)))
        by_cases e : i' = i
        · rw [e]
          exact Int32.le_refl _
        · exact absurd hc' (hn i' (by omega))
      · subst hx
        refine br_f (nI_pos (by omega)) ⟨pk_in i 11 hi, pk_in j 11 (by omega), ?_⟩
        rw [nI_clamp (show j < 2 ^ 31 by omega)]
        refine br_c (fun g => nm_r (nI_1 i) (hw _ (Or.inr ⟨j, by omega, rfl, hcj, fun i' h' hc' => ?_⟩))) (fun g => nm_r (nI_1 i) (hw _ (Or.inr ⟨i, by omega, rfl, hc, fun i' h' hc' => ?_⟩)))
        · by_cases e : i' = i
          · rw [e]
            exact g
          · exact hm i' (by omega) hc'
        · by_cases e : i' = i
          · rw [e]
            exact Int32.le_refl _
          · exact Int32.le_trans (hm i' (by omega) hc') (Int32.le_of_lt (Int32.not_le.mp g))
    · have hk : (x = -1 ∧ ∀ i', i' < i + 1 → ¬ C i') ∨ (∃ j, j < i + 1 ∧ x = nI j ∧ C j ∧ ∀ i', i' < i + 1 → C i' → a1 i' ≤ a1 j) := by
        rcases h with ⟨hx, hn⟩ | ⟨j, hj, hx, hcj, hm⟩
        · refine Or.inl ⟨hx, fun i' h' => ?_⟩
          by_cases e : i' = i
          · rw [e]
            exact hc
          · exact hn i' (by omega)
        · refine Or.inr ⟨j, by omega, hx, hcj, fun i' h' hc' => ?_⟩
          by_cases e : i' = i
          · rw [e] at hc'
            exact absurd hc' hc
          · exact hm i' (by omega) hc'
      refine br_c (fun _ => nm_r (nI_1 i) (hw _ hk)) (fun hb => ⟨pk_in i 11 hi, ?_⟩)
      rcases hN i hi hc with hz | hf
      · exact absurd hz hb
      · rw [nI_clamp (show i < 2 ^ 31 by omega)]
        exact br_f hf (nm_r (nI_1 i) (hw _ hk))
/-! ===== the admission's inner loop: in time; late ===== -/
theorem lj_in {post : Int32 → St2 → Prop} {J : Int32 → Int32 → Int32 → Int32 → Int32 → Int32 → (Nat → Int32) → (Nat → Int32) → (Nat → Int32) → (Nat → Int32) → Prop} {v k c n T D : Nat} {jc rk ad ct : Int32} {a1 a2 a3 a4 : Nat → Int32}
    (hk : k < 11) (hc : c < 11) (hd : a2 k = nI D) (hD : D ≤ 200) (h : T ≤ D) (H : J (nI (v + 1)) jc rk ad ct (nI T) a1 a2 a3 a4) :
    wX_admit_71 post J (nI v) (nI k) (n + 1) (nI c) jc rk ad ct (nI T) a1 a2 a3 a4 := by
  refine pk_le 11 c (fun z => absurd z (by omega)) (fun _ => ⟨pk_in k 11 hk, ?_⟩)
  rw [nI_clamp (show k < 2 ^ 31 by omega), hd]
  exact pk_le T D (fun _ => nm_r (nI_1 v) H) (fun z => absurd z (by omega))
theorem lj_out {post : Int32 → St2 → Prop} {J : Int32 → Int32 → Int32 → Int32 → Int32 → Int32 → (Nat → Int32) → (Nat → Int32) → (Nat → Int32) → (Nat → Int32) → Prop} {v k c n T D : Nat} {jc rk ad ct : Int32} {a1 a2 a3 a4 : Nat → Int32} (C : Nat → Prop)
    (hk : k < 11) (hc : c < 11) (hd : a2 k = nI D) (hT : T ≤ 200) (h : D < T)
    (hC : ∀ i, i < 11 → C i → ¬ (ad >>> (nI i &&& 31)) &&& 1 = 0 ∧ a3 i = 0)
    (hN : ∀ i, i < 11 → ¬ C i → (ad >>> (nI i &&& 31)) &&& 1 = 0 ∨ ¬ a3 i = 0)
    (H0 : (∀ i, i < 11 → ¬ C i) → post 0 (jc, rk, ad, ct, nI T, a1, a2, a3, a4))
    (H1 : ∀ j, j < 11 → C j → (∀ i, i < 11 → C i → a1 i ≤ a1 j) → wX_admit_71 post J (nI v) (nI k) n (nI (c + 1)) jc rk (ad &&& (lj_b j ^^^ (-1))) (ct - 1) (nI T - a1 j) a1 a2 a3 a4) :
    wX_admit_71 post J (nI v) (nI k) (n + 1) (nI c) jc rk ad ct (nI T) a1 a2 a3 a4 := by
  refine pk_le 11 c (fun z => absurd z (by omega)) (fun _ => ⟨pk_in k 11 hk, ?_⟩)
  rw [nI_clamp (show k < 2 ^ 31 by omega), hd]
  refine pk_le T D (fun z => absurd z (by omega)) (fun _ => ?_)
  refine lj_gu C hC hN (fun h0 => ?_) (fun j hj hcj hm => ?_)
  · exact br_t rfl (H0 h0)
  · exact br_f (by decide) (nm_r (nI_1 c) (H1 j hj hcj hm))
/-! ===== the admission's outer loop: a step, the end ===== -/
theorem lj_st {post : Int32 → St2 → Prop} {n v r k L T : Nat} {jc ad ct : Int32} {a1 a2 a3 a4 : Nat → Int32} (hv : v < r) (hr : r ≤ 11) (hk : k < 11) (e : a4 v = nI k) (l : a1 k = nI L) (f : Nat)
    (H : wX_admit_71 post (wX_admit_17 post n) (nI v) (nI k) f (nI 0) jc (nI r) (ad ||| lj_b k) (ct + 1) (nI (T + L)) a1 a2 a3 a4) :
    wX_admit_17 post (n + 1) (nI v) jc (nI r) ad ct (nI T) a1 a2 a3 a4 := by
  refine pk_le r v (fun z => absurd z (by omega)) (fun _ => ⟨pk_in v 11 (by omega), nm_r (show a4 (nI v).toNatClampNeg = nI k by rw [nI_clamp (by omega), e]) (nm_e (nm_e ⟨pk_in k 11 hk, nm_r (show nI T + a1 (nI k).toNatClampNeg = nI (T + L) by rw [nI_clamp (by omega), l, nI_add]) ⟨f, H⟩⟩))⟩)
theorem lj_ex {post : Int32 → St2 → Prop} {n r : Nat} {jc ad ct ti : Int32} {a1 a2 a3 a4 : Nat → Int32} (hr : r ≤ 11) (H : post 1 (jc, nI r, ad, ct, ti, a1, a2, a3, a4)) :
    wX_admit_17 post (n + 1) (nI r) jc (nI r) ad ct ti a1 a2 a3 a4 :=
  pk_le r r (fun _ => H) (fun z => absurd z (by omega))
end
section
/-! ===== one job taken up: s0 with none before, s1 with one before; f: the new one is firm, g: the one before is firm ===== -/
theorem lj_s0 {post : Int32 → St2 → Prop} {n v r k L D : Nat} {jc : Int32} {a1 a2 a3 a4 : Nat → Int32} (hv : v < r) (hr : r ≤ 11) (hk : k < 11) (e : a4 v = nI k) (l : a1 k = nI L) (d : a2 k = nI D) (hL : L ≤ 50) (hD : D ≤ 200) (f : a3 k = 0)
    (HA : L ≤ D → wX_admit_17 post n (nI (v + 1)) jc (nI r) (lj_b k) (nI 1) (nI L) a1 a2 a3 a4)
    (HB : D < L → wX_admit_17 post n (nI (v + 1)) jc (nI r) 0 (nI 0) (nI 0) a1 a2 a3 a4) :
    wX_admit_17 post (n + 1) (nI v) jc (nI r) 0 (nI 0) (nI 0) a1 a2 a3 a4 := by
  refine lj_st hv hr hk e l 2 ?_
  rw [lj_o0 k hk, nI_1, Nat.zero_add, Nat.zero_add]
  rcases Nat.lt_or_ge D L with h | h
  · refine lj_out (fun i => i = k) hk (by omega) d (by omega) h (fun i hi z => ?_) (fun i hi z => ?_) (fun z => absurd rfl (z k hk)) (fun j hj z _ => ?_)
    · rw [z]
      exact ⟨fun y => (lj_b1 k hk k hk).mp y rfl, f⟩
    · exact Or.inl ((lj_b1 k hk i hi).mpr z)
    · have z' : j = k := z
      rw [z', l, lj_c1 k hk, pk_sub (Nat.le_refl L), Nat.sub_self]
      exact lj_in hk (by omega) d hD (by omega) (HB h)
  · exact lj_in hk (by omega) d hD h (HA h)
theorem lj_s0f {post : Int32 → St2 → Prop} {n v r k L D : Nat} {jc : Int32} {a1 a2 a3 a4 : Nat → Int32} (hv : v < r) (hr : r ≤ 11) (hk : k < 11) (e : a4 v = nI k) (l : a1 k = nI L) (d : a2 k = nI D) (hL : L ≤ 50) (hD : D ≤ 200) (f : ¬ a3 k = 0)
    (HA : L ≤ D → wX_admit_17 post n (nI (v + 1)) jc (nI r) (lj_b k) (nI 1) (nI L) a1 a2 a3 a4)
    (HB : D < L → ∀ ad ct ti, post 0 (jc, nI r, ad, ct, ti, a1, a2, a3, a4)) :
    wX_admit_17 post (n + 1) (nI v) jc (nI r) 0 (nI 0) (nI 0) a1 a2 a3 a4 := by
  refine lj_st hv hr hk e l 2 ?_
  rw [lj_o0 k hk, nI_1, Nat.zero_add, Nat.zero_add]
  rcases Nat.lt_or_ge D L with h | h
  · refine lj_out (fun _ => False) hk (by omega) d (by omega) h (fun i hi z => z.elim) (fun i hi z => ?_) (fun _ => HB h _ _ _) (fun j hj z _ => z.elim)
    by_cases y : i = k
    · rw [y]
      exact Or.inr f
    · exact Or.inl ((lj_b1 k hk i hi).mpr y)
  · exact lj_in hk (by omega) d hD h (HA h)
theorem lj_s1 {post : Int32 → St2 → Prop} {n v r j k M L D : Nat} {jc : Int32} {a1 a2 a3 a4 : Nat → Int32} (hv : v < r) (hr : r ≤ 11) (hj : j < 11) (hk : k < 11) (hjk : j ≠ k) (e : a4 v = nI k) (lj : a1 j = nI M) (l : a1 k = nI L) (d : a2 k = nI D) (hM : M ≤ 50) (hL : L ≤ 50) (hD : D ≤ 200) (fj : a3 j = 0) (f : a3 k = 0) (hMD : M ≤ D)
    (HA : M + L ≤ D → ∀ ad, wX_admit_17 post n (nI (v + 1)) jc (nI r) ad (nI 2) (nI (M + L)) a1 a2 a3 a4)
    (HB : D < M + L → ∀ ad, wX_admit_17 post n (nI (v + 1)) jc (nI r) ad (nI 1) (nI (min M L)) a1 a2 a3 a4) :
    wX_admit_17 post (n + 1) (nI v) jc (nI r) (lj_b j) (nI 1) (nI M) a1 a2 a3 a4 := by
  refine lj_st hv hr hk e l 2 ?_
  rw [nI_1]
  rcases Nat.lt_or_ge D (M + L) with h | h
  · refine lj_out (fun i => i = j ∨ i = k) hk (by omega) d (by omega) h (fun i hi z => ⟨fun y => ?_, ?_⟩) (fun i hi z => Or.inl ((lj_b2 j hj k hk i hi).mpr ⟨fun y => z (Or.inl y), fun y => z (Or.inr y)⟩)) (fun z => absurd (Or.inl rfl) (z j hj)) (fun x hx z hm => ?_)
    · have y' := (lj_b2 j hj k hk i hi).mp y
      rcases z with z | z
      · exact y'.1 z
      · exact y'.2 z
    · rcases z with z | z
      · rw [z]
        exact fj
      · rw [z]
        exact f
    · rcases z with z | z
      · have g : L ≤ M := by
          have g' := hm k hk (Or.inr rfl)
          rw [z, lj, l, nI_leI (by omega) (by omega)] at g'
          exact g'
        have hb := HB h
        rw [Nat.min_eq_right g] at hb
        rw [z, lj, pk_sub (by omega), show M + L - M = L by omega]
        exact lj_in hk (by omega) d hD (by omega) (hb _)
      · have g : M ≤ L := by
          have g' := hm j hj (Or.inl rfl)
          rw [z, lj, l, nI_leI (by omega) (by omega)] at g'
          exact g'
        have hb := HB h
        rw [Nat.min_eq_left g] at hb
        rw [z, l, pk_sub (by omega), show M + L - L = M by omega]
        exact lj_in hk (by omega) d hD (by omega) (hb _)
  · exact lj_in hk (by omega) d hD h (HA h _)
theorem lj_s1f {post : Int32 → St2 → Prop} {n v r j k M L D : Nat} {jc : Int32} {a1 a2 a3 a4 : Nat → Int32} (hv : v < r) (hr : r ≤ 11) (hj : j < 11) (hk : k < 11) (hjk : j ≠ k) (e : a4 v = nI k) (lj : a1 j = nI M) (l : a1 k = nI L) (d : a2 k = nI D) (hM : M ≤ 50) (hL : L ≤ 50) (hD : D ≤ 200) (fj : a3 j = 0) (f : ¬ a3 k = 0)
    (HA : M + L ≤ D → ∀ ad, wX_admit_17 post n (nI (v + 1)) jc (nI r) ad (nI 2) (nI (M + L)) a1 a2 a3 a4)
    (HB : D < M + L → L ≤ D → ∀ ad, wX_admit_17 post n (nI (v + 1)) jc (nI r) ad (nI 1) (nI L) a1 a2 a3 a4)
    (HC : D < L → ∀ ad ct ti, post 0 (jc, nI r, ad, ct, ti, a1, a2, a3, a4)) :
    wX_admit_17 post (n + 1) (nI v) jc (nI r) (lj_b j) (nI 1) (nI M) a1 a2 a3 a4 := by
  refine lj_st hv hr hk e l 3 ?_
  rw [nI_1]
  rcases Nat.lt_or_ge D (M + L) with h | h
  · refine lj_out (fun i => i = j) hk (by omega) d (by omega) h (fun i hi z => ?_) (fun i hi z => ?_) (fun z => absurd rfl (z j hj)) (fun x hx z _ => ?_)
    · rw [z]
      exact ⟨fun y => ((lj_b2 j hj k hk j hj).mp y).1 rfl, fj⟩
    · by_cases y : i = k
      · rw [y]
        exact Or.inr f
      · exact Or.inl ((lj_b2 j hj k hk i hi).mpr ⟨z, y⟩)
    · have z' : x = j := z
      rw [z', lj, lj_c2 j hj k hk hjk, pk_sub (by omega), show M + L - M = L by omega]
      rcases Nat.lt_or_ge D L with g | g
      · refine lj_out (fun _ => False) hk (by omega) d (by omega) g (fun i hi z => z.elim) (fun i hi z => ?_) (fun _ => HC g _ _ _) (fun j hj z _ => z.elim)
        by_cases y : i = k
        · rw [y]
          exact Or.inr f
        · exact Or.inl ((lj_b1 k hk i hi).mpr y)
      · exact lj_in hk (by omega) d hD g (HB h g _)
  · exact lj_in hk (by omega) d hD h (HA h _)
theorem lj_s1g {post : Int32 → St2 → Prop} {n v r j k M L D : Nat} {jc : Int32} {a1 a2 a3 a4 : Nat → Int32} (hv : v < r) (hr : r ≤ 11) (hj : j < 11) (hk : k < 11) (hjk : j ≠ k) (e : a4 v = nI k) (lj : a1 j = nI M) (l : a1 k = nI L) (d : a2 k = nI D) (hM : M ≤ 50) (hL : L ≤ 50) (hD : D ≤ 200) (fj : ¬ a3 j = 0) (f : a3 k = 0) (hMD : M ≤ D)
    (HA : M + L ≤ D → ∀ ad, wX_admit_17 post n (nI (v + 1)) jc (nI r) ad (nI 2) (nI (M + L)) a1 a2 a3 a4)
    (HB : D < M + L → ∀ ad, wX_admit_17 post n (nI (v + 1)) jc (nI r) ad (nI 1) (nI M) a1 a2 a3 a4) :
    wX_admit_17 post (n + 1) (nI v) jc (nI r) (lj_b j) (nI 1) (nI M) a1 a2 a3 a4 := by
  refine lj_st hv hr hk e l 2 ?_
  rw [nI_1]
  rcases Nat.lt_or_ge D (M + L) with h | h
  · refine lj_out (fun i => i = k) hk (by omega) d (by omega) h (fun i hi z => ?_) (fun i hi z => ?_) (fun z => absurd rfl (z k hk)) (fun x hx z _ => ?_)
    · rw [z]
      exact ⟨fun y => ((lj_b2 j hj k hk k hk).mp y).2 rfl, f⟩
    · by_cases y : i = j
      · rw [y]
        exact Or.inr fj
      · exact Or.inl ((lj_b2 j hj k hk i hi).mpr ⟨y, z⟩)
    · have z' : x = k := z
      rw [z', l, pk_sub (by omega), show M + L - L = M by omega]
      exact lj_in hk (by omega) d hD hMD (HB h _)
  · exact lj_in hk (by omega) d hD h (HA h _)
/-! ===== the admission with one job ===== -/
theorem lj_ad1 {post : Int32 → St2 → Prop} {k L D : Nat} {jc ad ct ti : Int32} {a1 a2 a3 a4 : Nat → Int32} (hk : k < 11) (e : a4 0 = nI k) (l : a1 k = nI L) (d : a2 k = nI D) (hL : L ≤ 50) (hD : D ≤ 200) (f : a3 k = 0)
    (H : ∀ ad' ti' c, (L ≤ D → c = 1) → (D < L → c = 0) → post 1 (jc, nI 1, ad', nI c, ti', a1, a2, a3, a4)) :
    wpX_admit post (jc, nI 1, ad, ct, ti, a1, a2, a3, a4) :=
  ⟨2, lj_s0 (n := 1) (v := 0) (by omega) (by omega) hk e l d hL hD f
    (fun h => lj_ex (n := 0) (by omega) (H _ _ 1 (fun _ => rfl) (fun z => absurd z (by omega))))
    (fun h => lj_ex (n := 0) (by omega) (H _ _ 0 (fun z => absurd z (by omega)) (fun _ => rfl)))⟩
/-! ===== the admission with two jobs, in the order of their deadlines ===== -/
theorem lj_ad2 {post : Int32 → St2 → Prop} {j k M L B D : Nat} {jc ad ct ti : Int32} {a1 a2 a3 a4 : Nat → Int32} (hj : j < 11) (hk : k < 11) (hjk : j ≠ k) (e0 : a4 0 = nI j) (e1 : a4 1 = nI k) (lj : a1 j = nI M) (l : a1 k = nI L) (b : a2 j = nI B) (d : a2 k = nI D) (hM : M ≤ 50) (hL : L ≤ 50) (hBD : B ≤ D) (hD : D ≤ 200) (fj : a3 j = 0) (f : a3 k = 0)
    (H : ∀ ad' c t, (M ≤ B → M + L ≤ D → c = 2 ∧ t = M + L) → (M ≤ B → D < M + L → c = 1 ∧ t = min M L) → (B < M → L ≤ D → c = 1 ∧ t = L) → (B < M → D < L → c = 0 ∧ t = 0) → post 1 (jc, nI 2, ad', nI c, nI t, a1, a2, a3, a4)) :
    wpX_admit post (jc, nI 2, ad, ct, ti, a1, a2, a3, a4) := by
  refine ⟨3, lj_s0 (n := 2) (v := 0) (by omega) (by omega) hj e0 lj b hM (by omega) fj (fun h => ?_) (fun h => ?_)⟩
  · refine lj_s1 (n := 1) (v := 1) (by omega) (by omega) hj hk hjk e1 lj l d hM hL hD fj f (by omega) (fun g x => ?_) (fun g x => ?_)
    · exact lj_ex (n := 0) (by omega) (H _ 2 (M + L) (by omega) (by omega) (by omega) (by omega))
    · exact lj_ex (n := 0) (by omega) (H _ 1 (min M L) (by omega) (by omega) (by omega) (by omega))
  · refine lj_s0 (n := 1) (v := 1) (by omega) (by omega) hk e1 l d hL hD f (fun g => ?_) (fun g => ?_)
    · exact lj_ex (n := 0) (by omega) (H _ 1 L (by omega) (by omega) (by omega) (by omega))
    · exact lj_ex (n := 0) (by omega) (H _ 0 0 (by omega) (by omega) (by omega) (by omega))
/-! ===== the later one is firm ===== -/
theorem lj_ad2f {post : Int32 → St2 → Prop} {j k M L B D : Nat} {jc ad ct ti : Int32} {a1 a2 a3 a4 : Nat → Int32} (hj : j < 11) (hk : k < 11) (hjk : j ≠ k) (e0 : a4 0 = nI j) (e1 : a4 1 = nI k) (lj : a1 j = nI M) (l : a1 k = nI L) (b : a2 j = nI B) (d : a2 k = nI D) (hM : M ≤ 50) (hL : L ≤ 50) (hBD : B ≤ D) (hD : D ≤ 200) (fj : a3 j = 0) (f : ¬ a3 k = 0)
    (H : ∀ ad' c t, L ≤ D → (M ≤ B → M + L ≤ D → c = 2) → ((B < M ∨ D < M + L) → c = 1) → post 1 (jc, nI 2, ad', nI c, t, a1, a2, a3, a4))
    (H0 : D < L → ∀ ad ct ti, post 0 (jc, nI 2, ad, ct, ti, a1, a2, a3, a4)) :
    wpX_admit post (jc, nI 2, ad, ct, ti, a1, a2, a3, a4) := by
  refine ⟨3, lj_s0 (n := 2) (v := 0) (by omega) (by omega) hj e0 lj b hM (by omega) fj (fun h => ?_) (fun h => ?_)⟩
  · refine lj_s1f (n := 1) (v := 1) (by omega) (by omega) hj hk hjk e1 lj l d hM hL hD fj f (fun g x => ?_) (fun g g' x => ?_) H0
    · exact lj_ex (n := 0) (by omega) (H _ 2 _ (by omega) (by omega) (by omega))
    · exact lj_ex (n := 0) (by omega) (H _ 1 _ (by omega) (by omega) (by omega))
  · refine lj_s0f (n := 1) (v := 1) (by omega) (by omega) hk e1 l d hL hD f (fun g => ?_) H0
    · exact lj_ex (n := 0) (by omega) (H _ 1 _ (by omega) (by omega) (by omega))
/-! ===== the earlier one is firm ===== -/
theorem lj_ad2g {post : Int32 → St2 → Prop} {j k M L B D : Nat} {jc ad ct ti : Int32} {a1 a2 a3 a4 : Nat → Int32} (hj : j < 11) (hk : k < 11) (hjk : j ≠ k) (e0 : a4 0 = nI j) (e1 : a4 1 = nI k) (lj : a1 j = nI M) (l : a1 k = nI L) (b : a2 j = nI B) (d : a2 k = nI D) (hM : M ≤ 50) (hL : L ≤ 50) (hBD : B ≤ D) (hD : D ≤ 200) (fj : ¬ a3 j = 0) (f : a3 k = 0)
    (H : ∀ ad' c t, M ≤ B → (M + L ≤ D → c = 2) → (D < M + L → c = 1) → post 1 (jc, nI 2, ad', nI c, t, a1, a2, a3, a4))
    (H0 : B < M → ∀ ad ct ti, post 0 (jc, nI 2, ad, ct, ti, a1, a2, a3, a4)) :
    wpX_admit post (jc, nI 2, ad, ct, ti, a1, a2, a3, a4) := by
  refine ⟨3, lj_s0f (n := 2) (v := 0) (by omega) (by omega) hj e0 lj b hM (by omega) fj (fun h => ?_) H0⟩
  refine lj_s1g (n := 1) (v := 1) (by omega) (by omega) hj hk hjk e1 lj l d hM hL hD fj f (by omega) (fun g x => ?_) (fun g x => ?_)
  · exact lj_ex (n := 0) (by omega) (H _ 2 _ (by omega) (by omega) (by omega))
  · exact lj_ex (n := 0) (by omega) (H _ 1 _ (by omega) (by omega) (by omega))
end
section
/-! ===== insert ===== -/
theorem lj_51 {post : St2 → Prop} {i v r : Nat} {jc ad ct ti : Int32} {a1 a2 a3 a4 : Nat → Int32} (hi : i < 11) (hv : v < 11) (H : post (jc, nI (r + 1), ad, ct, ti, a1, a2, a3, upd a4 v (nI i))) :
    wX_insert_51 post (nI i) (nI v) jc (nI r) ad ct ti a1 a2 a3 a4 :=
  ⟨pk_in v 11 hv, nm_r (show upd a4 (nI v).toNatClampNeg (nI i).toInt8.toInt32 = upd a4 v (nI i) by rw [nI_clamp (by omega), lj_i8 i (by omega)]) (nm_r (nI_1 r) H)⟩
theorem lj_ins0 {post : St2 → Prop} {i : Nat} {jc ad ct ti : Int32} {a1 a2 a3 a4 : Nat → Int32} (hi : i < 11) (H : post (jc, nI 1, ad, ct, ti, a1, a2, a3, upd a4 0 (nI i))) :
    wpX_insert post (jc, nI 0, ad, ct, ti, a1, a2, a3, a4) (nI i) :=
  ⟨1, pk_le 0 0 (fun _ => lj_51 hi (by omega) H) (fun z => absurd z (by omega))⟩
theorem lj_ins1 {post : St2 → Prop} {i k B D : Nat} {jc ad ct ti : Int32} {a1 a2 a3 a4 : Nat → Int32} (hi : i < 11) (hk : k < 11) (e : a4 0 = nI k) (b : a2 k = nI B) (d : a2 i = nI D) (hB : B ≤ 200) (hD : D ≤ 200)
    (HA : B ≤ D → post (jc, nI 2, ad, ct, ti, a1, a2, a3, upd a4 1 (nI i)))
    (HB : D < B → post (jc, nI 2, ad, ct, ti, a1, a2, a3, upd (upd a4 1 (nI k)) 0 (nI i))) :
    wpX_insert post (jc, nI 1, ad, ct, ti, a1, a2, a3, a4) (nI i) := by
  have c0 : ((nI 1) - 1).toNatClampNeg = 0 := by decide
  have c1 : (nI 1).toNatClampNeg = 1 := by decide
  refine ⟨2, pk_le 1 0 (fun z => absurd z (by omega)) (fun _ => ⟨pk_in 0 11 (by omega), ?_⟩)⟩
  rw [c0, c1, e]
  refine ⟨pk_in k 11 hk, pk_in i 11 hi, ?_⟩
  rw [nI_clamp (show k < 2 ^ 31 by omega), nI_clamp (show i < 2 ^ 31 by omega), b, d]
  refine pk_le B D (fun h => lj_51 hi (by omega) (HA h)) (fun h => ⟨pk_in 0 11 (by omega), pk_in 1 11 (by omega), nm_r (show upd a4 1 (vp_nar .byte (nI k)) = upd a4 1 (nI k) by rw [lj_vb (by omega)]) (nm_r (show (nI 1 : Int32) + (-1) = nI 0 from pk_m1 0) ?_)⟩)
  exact pk_le 0 0 (fun _ => lj_51 hi (by omega) (HB h)) (fun z => absurd z (by omega))
/-! ===== withdraw ===== -/
theorem lj_wd1 {post : St2 → Prop} {x : Int32} {jc ad ct ti : Int32} {a1 a2 a3 a4 : Nat → Int32} (H : post (jc, nI 0, ad, ct, ti, a1, a2, a3, a4)) :
    wpX_withdraw post (jc, nI 1, ad, ct, ti, a1, a2, a3, a4) x :=
  ⟨1, pk_le 0 0 (fun _ => nm_r (nI_pred 0) ⟨1, pk_le 0 0 (fun _ => H) (fun z => absurd z (by omega))⟩) (fun z => absurd z (by omega))⟩
theorem lj_wd2a {post : St2 → Prop} {x y : Nat} {jc ad ct ti : Int32} {a1 a2 a3 a4 : Nat → Int32} (hy : y < 11) (e0 : a4 0 = nI x) (e1 : a4 1 = nI y) (H : post (jc, nI 1, ad, ct, ti, a1, a2, a3, upd a4 0 (nI y))) :
    wpX_withdraw post (jc, nI 2, ad, ct, ti, a1, a2, a3, a4) (nI x) := by
  have c1 : ((nI 0) + 1).toNatClampNeg = 1 := by decide
  have c0 : (nI 0).toNatClampNeg = 0 := by decide
  refine ⟨1, pk_le 1 0 (fun z => absurd z (by omega)) (fun _ => ⟨pk_in 0 11 (by omega), br_t e0 (nm_r (nI_pred 1) ⟨2, ?_⟩)⟩)⟩
  refine pk_le 1 0 (fun z => absurd z (by omega)) (fun _ => ⟨pk_in 1 11 (by omega), pk_in 0 11 (by omega), nm_r (show upd a4 (nI 0).toNatClampNeg (vp_nar .byte (a4 ((nI 0) + 1).toNatClampNeg)) = upd a4 0 (nI y) by rw [c0, c1, e1, lj_vb (by omega)]) (nm_r (nI_1 0) ?_)⟩)
  exact pk_le 1 1 (fun _ => H) (fun z => absurd z (by omega))
theorem lj_wd2b {post : St2 → Prop} {x y : Nat} {jc ad ct ti : Int32} {a1 a2 a3 a4 : Nat → Int32} (hx : x < 11) (hy : y < 11) (hxy : y ≠ x) (e0 : a4 0 = nI y) (H : post (jc, nI 1, ad, ct, ti, a1, a2, a3, a4)) :
    wpX_withdraw post (jc, nI 2, ad, ct, ti, a1, a2, a3, a4) (nI x) := by
  refine ⟨2, pk_le 1 0 (fun z => absurd z (by omega)) (fun _ => ⟨pk_in 0 11 (by omega), br_f (fun z => hxy ?_) (nm_r (nI_1 0) ?_)⟩)⟩
  · have z' : a4 0 = nI x := z
    rw [e0, nI_eq (by omega) (by omega)] at z'
    exact z'
  · exact pk_le 1 1 (fun _ => nm_r (nI_pred 1) ⟨1, pk_le 1 1 (fun _ => H) (fun z => absurd z (by omega))⟩) (fun z => absurd z (by omega))
/-! ===== isJob, put ===== -/
theorem lj_job {post : Int32 → Prop} {u : St2} {l p : Nat} (h1 : 1 ≤ l) (h2 : l ≤ 50) (h3 : p ≤ 200) (H : post 1) : wpX_isJob post u (nI l) (nI p) :=
  pk_lt l 1 (fun z => absurd z (by omega)) (fun _ => pk_lt 50 l (fun z => absurd z (by omega)) (fun _ => pk_lt p 0 (fun z => absurd z (by omega)) (fun _ => pk_lt 200 p (fun z => absurd z (by omega)) (fun _ => H))))
theorem lj_put {post : Int32 → St2 → Prop} {c i l p : Nat} {rk ad ct ti : Int32} {a1 a2 a3 a4 : Nat → Int32} (hc : c < 10) (hi : i ≤ 9) (h1 : 1 ≤ l) (h2 : l ≤ 50) (h3 : p ≤ 200) (hf : ∀ j, j < i → ¬ a1 j = 0) (h0 : a1 i = 0)
    (H : ∀ ψ : St2 → Prop, (∀ jc rk ad ct ti b1 b2 b3 b4, post (nI i) (jc, rk, ad, ct, ti, b1, b2, b3, b4) → ψ (jc, rk, ad, ct, ti, b1, b2, b3, b4)) → wpX_insert ψ (nI (c + 1), rk, ad, ct, ti, upd a1 i (nI l), upd a2 i (nI p), upd a3 i 0, a4) (nI i)) :
    wpX_put post (nI c, rk, ad, ct, ti, a1, a2, a3, a4) (nI l) (nI p) 0 := by
  have h49 : wX_put_49 post (nI l) (nI p) 0 (nI i) (nI c) rk ad ct ti a1 a2 a3 a4 := by
    refine ⟨pk_in i 11 (by omega), nm_r (show upd a1 (nI i).toNatClampNeg (nI l).toInt8.toInt32 = upd a1 i (nI l) by rw [nI_clamp (by omega), lj_i8 l (by omega)]) ⟨pk_in i 11 (by omega), nm_r (show upd a2 (nI i).toNatClampNeg (nI p).toInt16.toInt32 = upd a2 i (nI p) by rw [nI_clamp (by omega), lj_i16 p (by omega)]) ⟨pk_in i 11 (by omega), nm_r (show upd a3 (nI i).toNatClampNeg (vp_nar .boolean 0) = upd a3 i 0 by rw [nI_clamp (by omega)]; rfl) (nm_r (nI_1 c) ?_)⟩⟩⟩
    exact H _ (fun jc rk ad ct ti b1 b2 b3 b4 h => h)
  refine pk_lt c 10 (fun _ => lj_job h1 h2 h3 (br_f (by decide) ?_)) (fun z => absurd z (by omega))
  exact pk_loop (σ := Unit) (fun n j _ => wX_put_26 post (nI l) (nI p) 0 (nI c) rk ad ct ti a1 a2 a3 a4 n (nI j)) (fun _ _ => True) i 0 () (by omega) trivial
    (fun n _ _ => pk_le 9 i (fun _ => h49) (fun _ => ⟨pk_in i 11 (by omega), br_t (by rw [nI_clamp (by omega)]; exact h0) h49⟩))
    (fun n j _ hj _ hw => pk_le 9 j (fun z => absurd z (by omega)) (fun _ => ⟨pk_in j 11 (by omega), br_f (by rw [nI_clamp (by omega)]; exact hf j hj) (nm_r (nI_1 j) (hw () trivial))⟩))
/-! ===== inTime ===== -/
theorem lj_itE {post : Int32 → Prop} {x : Int32} {n r : Nat} {jc ad ct ti t : Int32} {a1 a2 a3 a4 : Nat → Int32} (hr : r ≤ 11) (H : post 1) : wX_inTime_4 post x jc (nI r) ad ct ti a1 a2 a3 a4 (n + 1) t (nI r) :=
  pk_le r r (fun _ => H) (fun z => absurd z (by omega))
theorem lj_itS {post : Int32 → Prop} {x : Int32} {n r v k : Nat} {jc ad ct ti t : Int32} {a1 a2 a3 a4 : Nat → Int32} (hr : r ≤ 11) (hv : v < r) (e : a4 v = nI k) (hx : (x >>> (nI k &&& 31)) &&& 1 = 0)
    (H : wX_inTime_4 post x jc (nI r) ad ct ti a1 a2 a3 a4 n t (nI (v + 1))) : wX_inTime_4 post x jc (nI r) ad ct ti a1 a2 a3 a4 (n + 1) t (nI v) :=
  pk_le r v (fun z => absurd z (by omega)) (fun _ => ⟨pk_in v 11 (by omega), nm_r (show a4 (nI v).toNatClampNeg = nI k by rw [nI_clamp (by omega), e]) (br_t hx (nm_r (nI_1 v) H))⟩)
theorem lj_itT {post : Int32 → Prop} {x : Int32} {n r v k T L D : Nat} {jc ad ct ti : Int32} {a1 a2 a3 a4 : Nat → Int32} (hr : r ≤ 11) (hv : v < r) (hk : k < 11) (e : a4 v = nI k) (hx : ¬ (x >>> (nI k &&& 31)) &&& 1 = 0) (l : a1 k = nI L) (d : a2 k = nI D) (hT : T ≤ 100) (hL : L ≤ 50) (hD : D ≤ 200)
    (HA : T + L ≤ D → wX_inTime_4 post x jc (nI r) ad ct ti a1 a2 a3 a4 n (nI (T + L)) (nI (v + 1))) (HB : D < T + L → post 0) : wX_inTime_4 post x jc (nI r) ad ct ti a1 a2 a3 a4 (n + 1) (nI T) (nI v) := by
  refine pk_le r v (fun z => absurd z (by omega)) (fun _ => ⟨pk_in v 11 (by omega), nm_r (show a4 (nI v).toNatClampNeg = nI k by rw [nI_clamp (by omega), e]) (br_f hx ⟨pk_in k 11 hk, nm_r (show nI T + a1 (nI k).toNatClampNeg = nI (T + L) by rw [nI_clamp (by omega), l, nI_add]) ⟨pk_in k 11 hk, ?_⟩⟩)⟩)
  rw [nI_clamp (show k < 2 ^ 31 by omega), d]
  exact pk_le (T + L) D (fun h => nm_r (nI_1 v) (HA h)) HB
/-! ===== feasible ===== -/
theorem lj_nb {b : Int32} (h : b = 0 ∨ b = 1) : narrow .boolean (.int b) = .int b := by
  rcases h with h | h <;> rw [h] <;> rfl
theorem lj_fe {post : Int32 → Prop} {x : Int32} {jc rk ad ct ti : Int32} {a1 a2 a3 a4 : Nat → Int32} (h0 : ¬ x < 0) (h1 : x ≤ 1023) (hb : ∀ i, i < 10 → (x >>> (nI i &&& 31)) &&& 1 = 0 ∨ ¬ a1 i = 0)
    (H : wpX_inTime (fun r => narrow .boolean (.int r) = .int r ∧ post r) (jc, rk, ad, ct, ti, a1, a2, a3, a4) x) : wpX_feasible post (jc, rk, ad, ct, ti, a1, a2, a3, a4) x := by
  refine br_f h0 (br_t h1 ?_)
  refine pk_loop (σ := Unit) (fun n j _ => wX_feasible_15 post x jc rk ad ct ti a1 a2 a3 a4 n (nI j)) (fun _ _ => True) 10 0 () (by omega) trivial
    (fun n _ _ => pk_le 10 10 (fun _ => H) (fun z => absurd z (by omega))) (fun n j _ hj _ hw => pk_le 10 j (fun z => absurd z (by omega)) (fun _ => br_c (fun _ => nm_r (nI_1 j) (hw () trivial)) (fun hz => ⟨pk_in j 11 (by omega), br_f ?_ (nm_r (nI_1 j) (hw () trivial))⟩)))
  rw [nI_clamp (show j < 2 ^ 31 by omega)]
  rcases hb j hj with z | z
  · exact absurd z hz
  · exact z
theorem lj_feN {post : Int32 → Prop} {jc rk ad ct ti : Int32} {a1 a2 a3 a4 : Nat → Int32} (h : a1 0 = 0) (H : post 0) : wpX_feasible post (jc, rk, ad, ct, ti, a1, a2, a3, a4) 1 :=
  br_f (by decide) (br_t (by decide) ⟨1, pk_le 10 0 (fun z => absurd z (by omega)) (fun _ => br_f (by decide) ⟨pk_in 0 11 (by omega), br_t h H⟩)⟩)
end
section
/-! ===== elapse: a step over an empty place, over a job that stays, over one that is dropped ===== -/
theorem lj_elT {post : Int32 → St2 → Prop} {x : Int32} {jc rk ad ct ti : Int32} {a1 a2 a3 a4 : Nat → Int32} (H : post jc (jc, rk, ad, ct, ti, a1, a2, a3, a4)) :
    ∀ m i, i + m = 10 → (∀ j, i ≤ j → j < 10 → a1 j = 0) → wX_elapse_15 post x (m + 1) (nI i) jc rk ad ct ti a1 a2 a3 a4 := by
  intro m
  induction m with
  | zero =>
    intro i hi _
    exact pk_le 10 i (fun _ => H) (fun z => absurd z (by omega))
  | succ m ih =>
    intro i hi h0
    exact pk_le 10 i (fun z => absurd z (by omega)) (fun _ => ⟨pk_in i 11 (by omega), br_t (by rw [nI_clamp (by omega)]; exact h0 i (by omega) (by omega)) (nm_r (nI_1 i) (ih (i + 1) (by omega) (fun j hj hj' => h0 j (by omega) hj')))⟩)
theorem lj_elK {post : Int32 → St2 → Prop} {n i D t : Nat} {jc rk ad ct ti : Int32} {a1 a2 a3 a4 : Nat → Int32} (hi : i < 10) (h1 : ¬ a1 i = 0) (d : a2 i = nI D) (hD : D ≤ 200) (ht : t ≤ D)
    (H : wX_elapse_15 post (nI t) n (nI (i + 1)) jc rk ad ct ti a1 (upd a2 i (nI (D - t))) a3 a4) :
    wX_elapse_15 post (nI t) (n + 1) (nI i) jc rk ad ct ti a1 a2 a3 a4 := by
  refine pk_le 10 i (fun z => absurd z (by omega)) (fun _ => ⟨pk_in i 11 (by omega), ?_⟩)
  rw [nI_clamp (show i < 2 ^ 31 by omega)]
  refine br_f h1 ⟨pk_in i 11 (by omega), pk_in i 11 (by omega), nm_r (show upd a2 i ((a2 i - nI t).toInt16.toInt32) = upd a2 i (nI (D - t)) by rw [d, lj_sub ht (by omega)]) ⟨pk_in i 11 (by omega), br_t ?_ (nm_r (nI_1 i) H)⟩⟩
  rw [pk_us]
  exact nI_pos' (by omega)
theorem lj_elD {post : Int32 → St2 → Prop} {n i D t c : Nat} {rk ad ct ti : Int32} {a1 a2 a3 a4 : Nat → Int32} (hi : i < 10) (h1 : ¬ a1 i = 0) (d : a2 i = nI D) (ht : D < t) (ht2 : t ≤ 200)
    (H : ∀ a2', (∀ j, j ≠ i → a2' j = a2 j) → ∀ ψ : St2 → Prop, (∀ jc rk ad ct ti b1 b2 b3 b4, wX_elapse_15 post (nI t) n (nI (i + 1)) jc rk ad ct ti b1 b2 b3 b4 → ψ (jc, rk, ad, ct, ti, b1, b2, b3, b4)) → wpX_withdraw ψ (nI c, rk, ad, ct, ti, upd a1 i 0, a2', a3, a4) (nI i)) :
    wX_elapse_15 post (nI t) (n + 1) (nI i) (nI (c + 1)) rk ad ct ti a1 a2 a3 a4 := by
  refine pk_le 10 i (fun z => absurd z (by omega)) (fun _ => ⟨pk_in i 11 (by omega), ?_⟩)
  rw [nI_clamp (show i < 2 ^ 31 by omega)]
  refine br_f h1 ⟨pk_in i 11 (by omega), pk_in i 11 (by omega), nm_e ⟨pk_in i 11 (by omega), br_f ?_ ?_⟩⟩
  · rw [pk_us, d]
    exact lj_neg ht (by omega)
  · refine pk_lt i 0 (fun z => absurd z (by omega)) (fun _ => pk_lt 9 i (fun z => absurd z (by omega)) (fun _ => ⟨pk_in i 11 (by omega), br_f ?_ (br_f (by decide) ⟨pk_in i 11 (by omega), nm_r (show upd a1 (nI i).toNatClampNeg 0 = upd a1 i 0 by rw [nI_clamp (by omega)]) (nm_r (nI_pred c) ?_)⟩)⟩))
    · rw [nI_clamp (show i < 2 ^ 31 by omega)]
      exact h1
    · exact H _ (fun j hj => pk_un hj) _ (fun jc rk ad ct ti b1 b2 b3 b4 hW => nm_r (nI_1 i) hW)
end
section
/-! ===== pictures: the rank of jobs 0 and k; what an admission of the two says; one job in; both in; ready for feasible(1) ===== -/
def lj_R (k p q : Nat) (a4 : Nat → Int32) : Prop := (p ≤ q ∧ a4 0 = nI 0 ∧ a4 1 = nI k) ∨ (q < p ∧ a4 0 = nI k ∧ a4 1 = nI 0)
def lj_T (l m p q : Nat) : Prop := (l ≤ p ∧ l + m ≤ q) ∨ (m ≤ q ∧ l + m ≤ p)
def lj_M (l m p q c t : Nat) : Prop := (lj_T l m p q → c = 2 ∧ t = l + m) ∧ (¬ lj_T l m p q → l ≤ p → m ≤ q → c = 1 ∧ t = min l m) ∧ (l ≤ p → q < m → c = 1 ∧ t = l) ∧ (p < l → m ≤ q → c = 1 ∧ t = m) ∧ (p < l → q < m → c = 0 ∧ t = 0)
def lj_S1 (l p : Nat) (a1 a2 a3 a4 : Nat → Int32) : Prop := a1 0 = nI l ∧ (∀ j, 1 ≤ j → j < 10 → a1 j = 0) ∧ a2 0 = nI p ∧ (∀ j, j < 11 → a3 j = 0) ∧ a4 0 = nI 0
def lj_S2 (l m p q : Nat) (a1 a2 a3 a4 : Nat → Int32) : Prop := a1 0 = nI l ∧ a1 1 = nI m ∧ (∀ j, 2 ≤ j → j < 10 → a1 j = 0) ∧ a2 0 = nI p ∧ a2 1 = nI q ∧ (∀ j, j < 11 → a3 j = 0) ∧ lj_R 1 p q a4
def lj_F (l d : Nat) (rk : Int32) (a1 a2 a4 : Nat → Int32) : Prop := a1 0 = nI l ∧ a2 0 = nI d ∧ ((rk = nI 2 ∧ a4 0 = nI 0 ∧ a4 1 = nI 1) ∨ (rk = nI 2 ∧ a4 0 = nI 1 ∧ a4 1 = nI 0) ∨ (rk = nI 1 ∧ a4 0 = nI 0))
def lj_N (l m p q : Nat) : Prop := 1 ≤ l ∧ l ≤ 50 ∧ 1 ≤ m ∧ m ≤ 50 ∧ p ≤ 200 ∧ q ≤ 200
/-! ===== plain law ===== -/
theorem lj_Ma {l m p q c t : Nat} (h : p ≤ q) (A : l ≤ p → l + m ≤ q → c = 2 ∧ t = l + m) (B : l ≤ p → q < l + m → c = 1 ∧ t = min l m) (C : p < l → m ≤ q → c = 1 ∧ t = m) (D : p < l → q < m → c = 0 ∧ t = 0) : lj_M l m p q c t := by
  unfold lj_M lj_T
  omega
theorem lj_Mb {l m p q c t : Nat} (h : q < p) (A : m ≤ q → m + l ≤ p → c = 2 ∧ t = m + l) (B : m ≤ q → p < m + l → c = 1 ∧ t = min m l) (C : q < m → l ≤ p → c = 1 ∧ t = l) (D : q < m → p < l → c = 0 ∧ t = 0) : lj_M l m p q c t := by
  unfold lj_M lj_T
  omega
theorem lj_af1 {l m p q c c' t : Nat} (h : lj_M l m p q c t) (hq : m ≤ q) (h1 : lj_T l m p q → c' = 2) (h2 : ¬ lj_T l m p q → c' = 1) : c' = c := by
  unfold lj_M at h
  unfold lj_T at h h1 h2
  omega
theorem lj_we1 {l m p q c c' t : Nat} (hm : 1 ≤ m) (h : lj_M l m p q c t) (h1 : l ≤ p → c' = 1) (h2 : p < l → c' = 0) : c ≤ c' ↔ ¬ ((l ≤ p ∧ lj_T l m p q) ∨ (p < l ∧ m ≤ q)) := by
  unfold lj_M at h
  unfold lj_T at h ⊢
  omega
/-! ===== the admission over the two jobs ===== -/
theorem lj_ad {post : Int32 → St2 → Prop} {k l m p q : Nat} {jc ad ct ti : Int32} {a1 a2 a3 a4 : Nat → Int32} (N : lj_N l m p q) (hk : k < 11) (h0 : k ≠ 0) (R : lj_R k p q a4) (e0 : a1 0 = nI l) (e1 : a1 k = nI m) (d0 : a2 0 = nI p) (d1 : a2 k = nI q) (f0 : a3 0 = 0) (f1 : a3 k = 0)
    (H : ∀ ad' c t, lj_M l m p q c t → post 1 (jc, nI 2, ad', nI c, nI t, a1, a2, a3, a4)) : wpX_admit post (jc, nI 2, ad, ct, ti, a1, a2, a3, a4) := by
  obtain ⟨_, n2, _, n4, n5, n6⟩ := N
  rcases R with ⟨h, r0, r1⟩ | ⟨h, r0, r1⟩
  · exact lj_ad2 (by omega) hk (Ne.symm h0) r0 r1 e0 e1 d0 d1 n2 n4 h n6 f0 f1 (fun ad' c t A B C D => H ad' c t (lj_Ma h A B C D))
  · exact lj_ad2 hk (by omega) h0 r0 r1 e1 e0 d1 d0 n4 n2 (Nat.le_of_lt h) n5 f1 f0 (fun ad' c t A B C D => H ad' c t (lj_Mb h A B C D))
theorem lj_adF {post : Int32 → St2 → Prop} {k l m p q : Nat} {jc ad ct ti : Int32} {a1 a2 a3 a4 : Nat → Int32} (N : lj_N l m p q) (hk : k < 11) (h0 : k ≠ 0) (R : lj_R k p q a4) (e0 : a1 0 = nI l) (e1 : a1 k = nI m) (d0 : a2 0 = nI p) (d1 : a2 k = nI q) (f0 : a3 0 = 0) (f1 : ¬ a3 k = 0)
    (H : ∀ ad' c t, m ≤ q → (lj_T l m p q → c = 2) → (¬ lj_T l m p q → c = 1) → post 1 (jc, nI 2, ad', nI c, t, a1, a2, a3, a4)) (H0 : q < m → ∀ ad ct ti, post 0 (jc, nI 2, ad, ct, ti, a1, a2, a3, a4)) : wpX_admit post (jc, nI 2, ad, ct, ti, a1, a2, a3, a4) := by
  obtain ⟨_, n2, _, n4, n5, n6⟩ := N
  rcases R with ⟨h, r0, r1⟩ | ⟨h, r0, r1⟩
  · exact lj_ad2f (by omega) hk (Ne.symm h0) r0 r1 e0 e1 d0 d1 n2 n4 h n6 f0 f1 (fun ad' c t A B C => H ad' c t A (by unfold lj_T; omega) (by unfold lj_T; omega)) H0
  · exact lj_ad2g hk (by omega) h0 r0 r1 e1 e0 d1 d0 n4 n2 (Nat.le_of_lt h) n5 f1 f0 (fun ad' c t A B C => H ad' c t A (by unfold lj_T; omega) (by unfold lj_T; omega)) H0
/-! ===== the two puts ===== -/
theorem lj_put0 {post : Int32 → St2 → Prop} {l p : Nat} (h1 : 1 ≤ l) (h2 : l ≤ 50) (h3 : p ≤ 200) (H : ∀ ad ct ti a1 a2 a3 a4, lj_S1 l p a1 a2 a3 a4 → post 0 (nI 1, nI 1, ad, ct, ti, a1, a2, a3, a4)) :
    wpX_put post (0, 0, 0, 0, 0, (fun _ => 0), (fun _ => 0), (fun _ => 0), (fun _ => 0)) (nI l) (nI p) 0 := by
  refine lj_put (c := 0) (i := 0) (by omega) (by omega) h1 h2 h3 (fun j hj => absurd hj (by omega)) rfl (fun ψ hψ => lj_ins0 (by omega) (hψ _ _ _ _ _ _ _ _ _ (H _ _ _ _ _ _ _ ⟨pk_us, fun j hj _ => ?_, pk_us, fun j hj => ?_, pk_us⟩)))
  · rw [pk_un (by omega)]
  · by_cases e : j = 0
    · rw [e, pk_us]
    · rw [pk_un e]
theorem lj_put1 {post : Int32 → St2 → Prop} {l m p q : Nat} {ad ct ti : Int32} {a1 a2 a3 a4 : Nat → Int32} (N : lj_N l m p q) (S : lj_S1 l p a1 a2 a3 a4) (H : ∀ ad ct ti a1 a2 a3 a4, lj_S2 l m p q a1 a2 a3 a4 → post 1 (nI 2, nI 2, ad, ct, ti, a1, a2, a3, a4)) :
    wpX_put post (nI 1, nI 1, ad, ct, ti, a1, a2, a3, a4) (nI m) (nI q) 0 := by
  obtain ⟨n1, n2, n3, n4, n5, n6⟩ := N
  obtain ⟨s1, s2, s3, s4, s5⟩ := S
  have k3 : ∀ j, j < 11 → upd a3 1 0 j = 0 := by
    intro j hj
    by_cases e : j = 1
    · rw [e, pk_us]
    · rw [pk_un e, s4 j hj]
  have k1 : ∀ j, 2 ≤ j → j < 10 → upd a1 1 (nI m) j = 0 := by
    intro j hj hj'
    rw [pk_un (by omega), s2 j (by omega) hj']
  refine lj_put (c := 1) (i := 1) (by omega) (by omega) n3 n4 n6 (fun j hj => ?_) (s2 1 (by omega) (by omega)) (fun ψ hψ => lj_ins1 (k := 0) (B := p) (D := q) (by omega) (by omega) s5 (by rw [pk_un (by omega)]; exact s3) pk_us n5 n6 (fun h => ?_) (fun h => ?_))
  · rw [show j = 0 by omega, s1]
    exact nI_ne0 (by omega) (by omega)
  · refine hψ _ _ _ _ _ _ _ _ _ (H _ _ _ _ _ _ _ ⟨?_, pk_us, k1, ?_, pk_us, k3, Or.inl ⟨h, ?_, pk_us⟩⟩)
    · rw [pk_un (by omega)]
      exact s1
    · rw [pk_un (by omega)]
      exact s3
    · rw [pk_un (by omega)]
      exact s5
  · refine hψ _ _ _ _ _ _ _ _ _ (H _ _ _ _ _ _ _ ⟨?_, pk_us, k1, ?_, pk_us, k3, Or.inr ⟨h, pk_us, ?_⟩⟩)
    · rw [pk_un (by omega)]
      exact s1
    · rw [pk_un (by omega)]
      exact s3
    · rw [pk_un (by omega)]
      exact pk_us
/-! ===== welcome ===== -/
theorem lj_w75 {post : Int32 → St2 → Prop} {p q : Nat} {b jc ad ct ti : Int32} {a1 a2 a3 a4 : Nat → Int32} (hb : b = 0 ∨ b = 1) (R : lj_R 10 p q a4) (H : ∀ a4', a4' 0 = nI 0 → post b (jc, nI 1, ad, ct, ti, a1, a2, a3, a4')) :
    wX_welcome_75 post b jc (nI 2) ad ct ti a1 a2 a3 a4 := by
  unfold wX_welcome_75
  rcases R with ⟨h, r0, r1⟩ | ⟨h, r0, r1⟩
  · exact lj_wd2b (x := 10) (y := 0) (by omega) (by omega) (by omega) r0 ⟨lj_nb hb, H a4 r0⟩
  · exact lj_wd2a (x := 10) (y := 0) (by omega) r0 r1 ⟨lj_nb hb, H _ pk_us⟩
theorem lj_we {post : Int32 → St2 → Prop} {l m p q : Nat} {ad ct ti : Int32} {a1 a2 a3 a4 : Nat → Int32} (N : lj_N l m p q) (S : lj_S1 l p a1 a2 a3 a4)
    (H : ∀ b ad ct ti a1 a2 a3 a4, lj_S1 l p a1 a2 a3 a4 → (((l ≤ p ∧ lj_T l m p q) ∨ (p < l ∧ m ≤ q)) → b = 1) → (¬ ((l ≤ p ∧ lj_T l m p q) ∨ (p < l ∧ m ≤ q)) → b = 0) → post b (nI 1, nI 1, ad, ct, ti, a1, a2, a3, a4)) :
    wpX_welcome post (nI 1, nI 1, ad, ct, ti, a1, a2, a3, a4) (nI m) (nI q) := by
  have N' := N
  obtain ⟨n1, n2, n3, n4, n5, n6⟩ := N'
  obtain ⟨s1, s2, s3, s4, s5⟩ := S
  have k1 : upd a1 10 (nI m) 0 = nI l := by
    rw [pk_un (by omega)]
    exact s1
  have k2 : upd a2 10 (nI q) 0 = nI p := by
    rw [pk_un (by omega)]
    exact s3
  have k3 : ∀ j, j < 11 → upd a3 10 0 j = 0 := by
    intro j hj
    by_cases e : j = 10
    · rw [e, pk_us]
    · rw [pk_un e, s4 j hj]
  have k4 : ∀ j, 1 ≤ j → j < 10 → upd a1 10 (nI m) j = 0 := by
    intro j hj hj'
    rw [pk_un (by omega), s2 j hj hj']
  unfold wpX_welcome
  dsimp only
  refine lj_job n3 n4 n6 (br_f (by decide) (lj_ad1 (by omega) s5 s1 s3 n2 n5 (s4 0 (by omega)) (fun ad' ti' c' c1 c0 => br_f (by decide) ?_)))
  refine nm_r (show upd a1 10 (nI m).toInt8.toInt32 = upd a1 10 (nI m) by rw [lj_i8 m (by omega)]) (nm_r (show upd a2 10 (nI q).toInt16.toInt32 = upd a2 10 (nI q) by rw [lj_i16 q (by omega)]) (nm_e ?_))
  have main : ∀ (a4' : Nat → Int32), lj_R 10 p q a4' → ∀ φ : Int32 → St2 → Prop,
      (∀ ad c t, lj_M l m p q c t → φ 1 (nI 1, nI 2, ad, nI c, nI t, upd a1 10 (nI m), upd a2 10 (nI q), upd a3 10 0, a4')) → wpX_admit φ (nI 1, nI 2, ad', nI c', ti', upd a1 10 (nI m), upd a2 10 (nI q), upd a3 10 0, a4') :=
    fun a4' R φ hφ => lj_ad N (k := 10) (by omega) (by omega) R k1 pk_us k2 pk_us (k3 0 (by omega)) (k3 10 (by omega)) hφ
  have fin : ∀ (a4' : Nat → Int32), lj_R 10 p q a4' → ∀ (ad : Int32) (c t : Nat), lj_M l m p q c t →
      ((nI c ≤ nI c' → wX_welcome_74 post (nI 1) (nI 2) ad (nI c) (nI t) (upd a1 10 (nI m)) (upd a2 10 (nI q)) (upd a3 10 0) a4') ∧ (¬ nI c ≤ nI c' → wX_welcome_75 post 1 (nI 1) (nI 2) ad (nI c) (nI t) (upd a1 10 (nI m)) (upd a2 10 (nI q)) (upd a3 10 0) a4')) := by
    intro a4' R ad c t hM
    have hw := lj_we1 n3 hM c1 c0
    have hc : c < 3 ∧ c' < 3 := by
      unfold lj_M at hM
      unfold lj_T at hM
      omega
    refine pk_le c c' (fun g => lj_w75 (Or.inl rfl) R (fun a4'' r => H _ _ _ _ _ _ _ _ ⟨k1, k4, k2, k3, r⟩ (fun z => absurd z (hw.mp g)) (fun _ => rfl))) (fun g => lj_w75 (Or.inr rfl) R (fun a4'' r => H _ _ _ _ _ _ _ _ ⟨k1, k4, k2, k3, r⟩ (fun _ => rfl) (fun z => absurd (hw.mpr z) (by omega))))
  refine lj_ins1 (i := 10) (k := 0) (B := p) (D := q) (by omega) (by omega) s5 k2 pk_us n5 n6 (fun h => ?_) (fun h => ?_)
  · have R : lj_R 10 p q (upd a4 1 (nI 10)) := Or.inl ⟨h, by rw [pk_un (by omega)]; exact s5, pk_us⟩
    exact main _ R _ (fun ad c t hM => br_f (by decide) (fin _ R ad c t hM))
  · have R : lj_R 10 p q (upd (upd a4 1 (nI 0)) 0 (nI 10)) := Or.inr ⟨h, pk_us, by rw [pk_un (by omega)]; exact pk_us⟩
    exact main _ R _ (fun ad c t hM => br_f (by decide) (fin _ R ad c t hM))
end
section
/-! ===== feasible(1), feasible(3) ===== -/
theorem lj_fe1 {post : Int32 → Prop} {l d : Nat} {jc rk ad ct ti : Int32} {a1 a2 a3 a4 : Nat → Int32} (h1 : 1 ≤ l) (h2 : l ≤ 50) (h3 : d ≤ 200) (F : lj_F l d rk a1 a2 a4) (HA : l ≤ d → post 1) (HB : d < l → post 0) :
    wpX_feasible post (jc, rk, ad, ct, ti, a1, a2, a3, a4) 1 := by
  obtain ⟨e, d0, F⟩ := F
  refine lj_fe (by decide) (by decide) (fun i hi => ?_) ?_
  · by_cases z : i = 0
    · rw [z, e]
      exact Or.inr (nI_ne0 (by omega) (by omega))
    · exact Or.inl ((lj_m1 i (by omega)).mpr z)
  · have b0 : ¬ ((1 : Int32) >>> (nI 0 &&& 31)) &&& 1 = 0 := by decide
    have b1 : ((1 : Int32) >>> (nI 1 &&& 31)) &&& 1 = 0 := by decide
    have HA' : 0 + l ≤ d → (narrow .boolean (.int 1) = .int 1 ∧ post 1) := fun h => ⟨lj_nb (Or.inr rfl), HA (by omega)⟩
    have HB' : d < 0 + l → (narrow .boolean (.int 0) = .int 0 ∧ post 0) := fun h => ⟨lj_nb (Or.inl rfl), HB (by omega)⟩
    rcases F with ⟨r, r0, r1⟩ | ⟨r, r0, r1⟩ | ⟨r, r0⟩
    · rw [r]
      exact ⟨3, lj_itT (n := 2) (v := 0) (T := 0) (by omega) (by omega) (by omega) r0 b0 e d0 (by omega) h2 h3 (fun h => lj_itS (n := 1) (v := 1) (by omega) (by omega) r1 b1 (lj_itE (n := 0) (by omega) (HA' h))) HB'⟩
    · rw [r]
      exact ⟨3, lj_itS (n := 2) (v := 0) (by omega) (by omega) r0 b1 (lj_itT (n := 1) (v := 1) (T := 0) (by omega) (by omega) (by omega) r1 b0 e d0 (by omega) h2 h3 (fun h => lj_itE (n := 0) (by omega) (HA' h)) HB')⟩
    · rw [r]
      exact ⟨2, lj_itT (n := 1) (v := 0) (T := 0) (by omega) (by omega) (by omega) r0 b0 e d0 (by omega) h2 h3 (fun h => lj_itE (n := 0) (by omega) (HA' h)) HB'⟩
theorem lj_fe3 {post : Int32 → Prop} {l m p q : Nat} {jc ad ct ti : Int32} {a1 a2 a3 a4 : Nat → Int32} (N : lj_N l m p q) (S : lj_S2 l m p q a1 a2 a3 a4) (HA : lj_T l m p q → post 1) (HB : ¬ lj_T l m p q → post 0) :
    wpX_feasible post (jc, nI 2, ad, ct, ti, a1, a2, a3, a4) 3 := by
  obtain ⟨n1, n2, n3, n4, n5, n6⟩ := N
  obtain ⟨e0, e1, _, d0, d1, _, R⟩ := S
  refine lj_fe (by decide) (by decide) (fun i hi => ?_) ?_
  · by_cases z : i = 0
    · rw [z, e0]
      exact Or.inr (nI_ne0 (by omega) (by omega))
    · by_cases z1 : i = 1
      · rw [z1, e1]
        exact Or.inr (nI_ne0 (by omega) (by omega))
      · exact Or.inl ((lj_m3 i (by omega)).mpr ⟨z, z1⟩)
  · have b0 : ¬ ((3 : Int32) >>> (nI 0 &&& 31)) &&& 1 = 0 := by decide
    have b1 : ¬ ((3 : Int32) >>> (nI 1 &&& 31)) &&& 1 = 0 := by decide
    have HA' : lj_T l m p q → (narrow .boolean (.int 1) = .int 1 ∧ post 1) := fun h => ⟨lj_nb (Or.inr rfl), HA h⟩
    have HB' : ¬ lj_T l m p q → (narrow .boolean (.int 0) = .int 0 ∧ post 0) := fun h => ⟨lj_nb (Or.inl rfl), HB h⟩
    rcases R with ⟨h, r0, r1⟩ | ⟨h, r0, r1⟩
    · refine ⟨3, lj_itT (n := 2) (v := 0) (T := 0) (by omega) (by omega) (by omega) r0 b0 e0 d0 (by omega) n2 n5 (fun g => ?_) (fun g => HB' (by unfold lj_T; omega))⟩
      exact lj_itT (n := 1) (v := 1) (by omega) (by omega) (by omega) r1 b1 e1 d1 (by omega) n4 n6 (fun g' => lj_itE (n := 0) (by omega) (HA' (by unfold lj_T; omega))) (fun g' => HB' (by unfold lj_T; omega))
    · refine ⟨3, lj_itT (n := 2) (v := 0) (T := 0) (by omega) (by omega) (by omega) r0 b1 e1 d1 (by omega) n4 n6 (fun g => ?_) (fun g => HB' (by unfold lj_T; omega))⟩
      exact lj_itT (n := 1) (v := 1) (by omega) (by omega) (by omega) r1 b0 e0 d0 (by omega) n2 n5 (fun g' => lj_itE (n := 0) (by omega) (HA' (by unfold lj_T; omega))) (fun g' => HB' (by unfold lj_T; omega))
/-! ===== mostInTime, leastTime ===== -/
theorem lj_mo {post : Int32 → St2 → Prop} {l m p q : Nat} {jc ad ct ti : Int32} {a1 a2 a3 a4 : Nat → Int32} (N : lj_N l m p q) (S : lj_S2 l m p q a1 a2 a3 a4) (H : ∀ ad ti c t, lj_M l m p q c t → post (nI c) (jc, nI 2, ad, nI c, ti, a1, a2, a3, a4)) :
    wpX_mostInTime post (jc, nI 2, ad, ct, ti, a1, a2, a3, a4) := by
  obtain ⟨e0, e1, _, d0, d1, f, R⟩ := S
  unfold wpX_mostInTime
  dsimp only
  exact lj_ad N (k := 1) (by omega) (by omega) R e0 e1 d0 d1 (f 0 (by omega)) (f 1 (by omega)) (fun ad' c t hM => br_f (by decide) (H ad' _ c t hM))
theorem lj_le {post : Int32 → St2 → Prop} {l m p q : Nat} {jc ad ct ti : Int32} {a1 a2 a3 a4 : Nat → Int32} (N : lj_N l m p q) (S : lj_S2 l m p q a1 a2 a3 a4) (H : ∀ ad c t, lj_M l m p q c t → post (nI t) (jc, nI 2, ad, nI c, nI t, a1, a2, a3, a4)) :
    wpX_leastTime post (jc, nI 2, ad, ct, ti, a1, a2, a3, a4) := by
  obtain ⟨e0, e1, _, d0, d1, f, R⟩ := S
  unfold wpX_leastTime
  dsimp only
  exact lj_ad N (k := 1) (by omega) (by omega) R e0 e1 d0 d1 (f 0 (by omega)) (f 1 (by omega)) (fun ad' c t hM => br_f (by decide) (H ad' c t hM))
/-! ===== affordable(1) ===== -/
theorem lj_a56 {post : Int32 → St2 → Prop} {b jc rk ad ct ti : Int32} {a1 a2 a3 a4 : Nat → Int32} (hb : b = 0 ∨ b = 1) (H : post b (jc, rk, ad, ct, ti, a1, a2, upd a3 1 0, a4)) :
    wX_affordable_56 post 1 0 b jc rk ad ct ti a1 a2 a3 a4 :=
  ⟨pk_in 1 11 (by omega), nm_r (show upd a3 (1 : Int32).toNatClampNeg (vp_nar .boolean 0) = upd a3 1 0 from rfl) ⟨lj_nb hb, H⟩⟩
theorem lj_af {post : Int32 → St2 → Prop} {l m p q : Nat} {jc ad ct ti : Int32} {a1 a2 a3 a4 : Nat → Int32} (N : lj_N l m p q) (S : lj_S2 l m p q a1 a2 a3 a4)
    (H : ∀ b ad ct ti a3, lj_S2 l m p q a1 a2 a3 a4 → (m ≤ q → b = 1) → (q < m → b = 0) → post b (jc, nI 2, ad, ct, ti, a1, a2, a3, a4)) :
    wpX_affordable post (jc, nI 2, ad, ct, ti, a1, a2, a3, a4) 1 := by
  have N' := N
  obtain ⟨n1, n2, n3, n4, n5, n6⟩ := N'
  obtain ⟨e0, e1, e2, d0, d1, f, R⟩ := S
  have k3 : ∀ j, j < 11 → upd (upd a3 1 1) 1 0 j = 0 := by
    intro j hj
    by_cases e : j = 1
    · rw [e, pk_us]
    · rw [pk_un e, pk_un e, f j hj]
  have S' : lj_S2 l m p q a1 a2 (upd (upd a3 1 1) 1 0) a4 := ⟨e0, e1, e2, d0, d1, k3, R⟩
  have ne : ¬ a1 1 = 0 := by
    rw [e1]
    exact nI_ne0 (by omega) (by omega)
  have x3 : a3 (1 : Int32).toNatClampNeg = 0 := f 1 (by omega)
  unfold wpX_affordable
  dsimp only
  refine pk_lt 1 0 (fun z => absurd z (by omega)) (fun _ => pk_lt 9 1 (fun z => absurd z (by omega)) (fun _ => ⟨pk_in 1 11 (by omega), br_f ne (br_f (by decide) ?_)⟩))
  refine lj_ad N (k := 1) (by omega) (by omega) R e0 e1 d0 d1 (f 0 (by omega)) (f 1 (by omega)) (fun ad' c t hM => br_f (by decide) ⟨pk_in 1 11 (by omega), nm_r x3 ⟨pk_in 1 11 (by omega), nm_r (show upd a3 (1 : Int32).toNatClampNeg 1 = upd a3 1 1 from rfl) ?_⟩⟩)
  have hc : c < 3 := by
    unfold lj_M at hM
    unfold lj_T at hM
    omega
  refine lj_adF N (k := 1) (by omega) (by omega) R e0 e1 d0 d1 (by rw [pk_un (by omega)]; exact f 0 (by omega)) (by rw [pk_us]; decide) (fun ad'' c' t' g h1 h2 => br_f (by decide) ?_) (fun g ad'' ct'' ti'' => br_t rfl ?_)
  · have ec : c' = c := lj_af1 hM g h1 h2
    rw [ec]
    exact br_t rfl (lj_a56 (Or.inr rfl) (H _ _ _ _ _ S' (fun _ => rfl) (fun z => absurd z (by omega))))
  · exact lj_a56 (Or.inl rfl) (H _ _ _ _ _ S' (fun z => absurd z (by omega)) (fun _ => rfl))
/-! ===== elapse(t), t in 0..200 ===== -/
theorem lj_el1 {post : Int32 → St2 → Prop} {l m p q t : Nat} {ad ct ti : Int32} {a1 a2 a3 a4 : Nat → Int32} (N : lj_N l m p q) (S : lj_S2 l m p q a1 a2 a3 a4) (h : t ≤ p)
    (H : ∀ c rk ad ct ti a1 a2 a3 a4, (t ≤ q → c = 2) → (q < t → c = 1) → lj_F l (p - t) rk a1 a2 a4 → post (nI c) (nI c, rk, ad, ct, ti, a1, a2, a3, a4)) :
    wX_elapse_15 post (nI t) 11 (nI 0) (nI 2) (nI 2) ad ct ti a1 a2 a3 a4 := by
  obtain ⟨n1, n2, n3, n4, n5, n6⟩ := N
  obtain ⟨e0, e1, e2, d0, d1, _, R⟩ := S
  refine lj_elK (n := 10) (by omega) (by rw [e0]; exact nI_ne0 (by omega) (by omega)) d0 n5 h ?_
  have d1' : upd a2 0 (nI (p - t)) 1 = nI q := by
    rw [pk_un (by omega)]
    exact d1
  have ne : ¬ a1 1 = 0 := by
    rw [e1]
    exact nI_ne0 (by omega) (by omega)
  rcases Nat.lt_or_ge q t with g | g
  · refine lj_elD (n := 9) (c := 1) (by omega) ne d1' g (by omega) (fun a2' ha ψ hψ => ?_)
    rcases R with ⟨h', r0, r1⟩ | ⟨h', r0, r1⟩
    · omega
    · refine lj_wd2a (y := 0) (by omega) r0 r1 (hψ _ _ _ _ _ _ _ _ _ (lj_elT (H 1 _ _ _ _ _ _ _ _ (fun z => absurd z (by omega)) (fun _ => rfl) ⟨?_, ?_, Or.inr (Or.inr ⟨rfl, pk_us⟩)⟩) 8 2 (by omega) (fun j hj hj' => ?_)))
      · rw [pk_un (by omega)]
        exact e0
      · rw [ha 0 (by omega)]
        exact pk_us
      · rw [pk_un (by omega)]
        exact e2 j hj hj'
  · refine lj_elK (n := 9) (by omega) ne d1' n6 g (lj_elT (H 2 _ _ _ _ _ _ _ _ (fun _ => rfl) (fun z => absurd z (by omega)) ⟨e0, ?_, ?_⟩) 8 2 (by omega) e2)
    · rw [pk_un (by omega)]
      exact pk_us
    · rcases R with ⟨h', r0, r1⟩ | ⟨h', r0, r1⟩
      · exact Or.inl ⟨rfl, r0, r1⟩
      · exact Or.inr (Or.inl ⟨rfl, r0, r1⟩)
theorem lj_el0 {post : Int32 → St2 → Prop} {l m p q t : Nat} {ad ct ti : Int32} {a1 a2 a3 a4 : Nat → Int32} (N : lj_N l m p q) (S : lj_S2 l m p q a1 a2 a3 a4) (h : p < t) (ht : t ≤ 200)
    (H : ∀ c rk ad ct ti a1 a2 a3 a4, (t ≤ q → c = 1) → (q < t → c = 0) → a1 0 = 0 → post (nI c) (nI c, rk, ad, ct, ti, a1, a2, a3, a4)) :
    wX_elapse_15 post (nI t) 11 (nI 0) (nI 2) (nI 2) ad ct ti a1 a2 a3 a4 := by
  obtain ⟨n1, n2, n3, n4, n5, n6⟩ := N
  obtain ⟨e0, e1, e2, d0, d1, _, R⟩ := S
  refine lj_elD (n := 10) (c := 1) (by omega) (by rw [e0]; exact nI_ne0 (by omega) (by omega)) d0 h ht (fun a2' ha ψ hψ => ?_)
  have d1' : a2' 1 = nI q := by
    rw [ha 1 (by omega)]
    exact d1
  have ne : ¬ upd a1 0 0 1 = 0 := by
    rw [pk_un (by omega), e1]
    exact nI_ne0 (by omega) (by omega)
  have nx : ∀ (b4 : Nat → Int32), wX_elapse_15 post (nI t) 10 (nI 1) (nI 1) (nI 1) ad ct ti (upd a1 0 0) a2' a3 b4 := by
    intro b4
    rcases Nat.lt_or_ge q t with g | g
    · refine lj_elD (n := 9) (c := 0) (by omega) ne d1' g ht (fun a2'' ha' ψ' hψ' => lj_wd1 (hψ' _ _ _ _ _ _ _ _ _ (lj_elT (H 0 _ _ _ _ _ _ _ _ (fun z => absurd z (by omega)) (fun _ => rfl) ?_) 8 2 (by omega) (fun j hj hj' => ?_))))
      · rw [pk_un (by omega)]
        exact pk_us
      · rw [pk_un (by omega), pk_un (by omega)]
        exact e2 j hj hj'
    · refine lj_elK (n := 9) (by omega) ne d1' n6 g (lj_elT (H 1 _ _ _ _ _ _ _ _ (fun _ => rfl) (fun z => absurd z (by omega)) pk_us) 8 2 (by omega) (fun j hj hj' => ?_))
      rw [pk_un (by omega)]
      exact e2 j hj hj'
  rcases R with ⟨h', r0, r1⟩ | ⟨h', r0, r1⟩
  · exact lj_wd2a (y := 1) (by omega) r0 r1 (hψ _ _ _ _ _ _ _ _ _ (nx _))
  · exact lj_wd2b (y := 1) (by omega) (by omega) (by omega) r0 (hψ _ _ _ _ _ _ _ _ _ (nx _))
end
section
/-! ===== the law, back to front ===== -/
def lj_B (b : Int32) (P : Prop) : Prop := (P ∧ b = 1) ∨ (¬ P ∧ b = 0)
theorem lj_if {b : Int32} {P A B : Prop} (h : lj_B b P) (f : ¬ P → A) (g : P → B) : (b = 0 → A) ∧ (¬ b = 0 → B) := by
  rcases h with ⟨h, e⟩ | ⟨h, e⟩
  · subst e
    exact br_f (by decide) (g h)
  · subst e
    exact br_t rfl (f h)
theorem lj_B1 {b : Int32} {P : Prop} (h : lj_B b P) (p : P) : b = 1 := by
  rcases h with ⟨_, e⟩ | ⟨n, _⟩
  · exact e
  · exact absurd p n
theorem lj_B0 {b : Int32} {P : Prop} (h : lj_B b P) (p : ¬ P) : b = 0 := by
  rcases h with ⟨n, _⟩ | ⟨_, e⟩
  · exact absurd n p
  · exact e
theorem lj_394b {post : Int32 → St0 → Prop} {mc ms kc ks l p : Nat} {x4 x9 z jc rk ad ct ti : Int32} {a1 a2 a3 a4 : Nat → Int32} (h1 : 1 ≤ l) (h2 : l ≤ 50) (h3 : p ≤ 200) (hF : lj_B x9 (l ≤ p)) (F : lj_F l p rk a1 a2 a4) (H : post 1 ()) :
    wL_lawOf_394 post mc ms x4 (nI l) (nI p) x9 0 z z kc ks jc rk ad ct ti a1 a2 a3 a4 :=
  br_t rfl (lj_fe1 h1 h2 h3 F (fun h => br_t rfl (br_t (lj_B1 hF h).symm H)) (fun h => br_t rfl (br_t (lj_B0 hF (by omega)).symm H)))
theorem lj_394g {post : Int32 → St0 → Prop} {mc ms kc ks l p t : Nat} {x9 z jc rk ad ct ti : Int32} {a1 a2 a3 a4 : Nat → Int32} (h1 : 1 ≤ l) (h2 : l ≤ 50) (h3 : p ≤ 200) (ht : t ≤ p) (hF : lj_B x9 (l ≤ p)) (F : lj_F l (p - t) rk a1 a2 a4) (H : post 1 ()) :
    wL_lawOf_394 post mc ms (nI t) (nI l) (nI p) x9 1 z z kc ks jc rk ad ct ti a1 a2 a3 a4 :=
  br_t rfl (lj_fe1 h1 h2 (by omega) F
    (fun h => br_f (by decide) (lj_if hF (fun g => absurd g (by omega)) (fun _ => pk_lt (p - t) l (fun z => absurd z (by omega)) (fun _ => br_t rfl H) (pk_sub ht))))
    (fun h => br_f (by decide) (lj_if hF (fun _ => br_t rfl H) (fun _ => pk_lt (p - t) l (fun _ => br_t rfl H) (fun z => absurd z (by omega)) (pk_sub ht)))))
theorem lj_394n {post : Int32 → St0 → Prop} {mc ms kc ks l p t : Nat} {x9 z jc rk ad ct ti : Int32} {a1 a2 a3 a4 : Nat → Int32} (h2 : l ≤ 50) (h3 : t ≤ 200) (ht : p < t) (hF : lj_B x9 (l ≤ p)) (F : a1 0 = 0) (H : post 1 ()) :
    wL_lawOf_394 post mc ms (nI t) (nI l) (nI p) x9 1 z z kc ks jc rk ad ct ti a1 a2 a3 a4 := by
  have hlt : nI p - nI t < nI l := by
    rw [Int32.lt_iff_toInt_lt, pk_sub_toInt (by omega) (by omega), nI_toInt (by omega)]
    omega
  exact br_t rfl (lj_feN F (br_f (by decide) (lj_if hF (fun _ => br_t rfl H) (fun _ => br_t hlt (br_t rfl H)))))
theorem lj_SF {l m p q : Nat} {a1 a2 a3 a4 : Nat → Int32} (S : lj_S2 l m p q a1 a2 a3 a4) : lj_F l p (nI 2) a1 a2 a4 := by
  obtain ⟨e0, _, _, d0, _, _, R⟩ := S
  refine ⟨e0, d0, ?_⟩
  rcases R with ⟨_, r0, r1⟩ | ⟨_, r0, r1⟩
  · exact Or.inl ⟨rfl, r0, r1⟩
  · exact Or.inr (Or.inl ⟨rfl, r0, r1⟩)
theorem lj_373b {post : Int32 → St0 → Prop} {mc ms kc ks l m p q : Nat} {x4 x9 z0 z1 ad ct ti : Int32} {a1 a2 a3 a4 : Nat → Int32} (N : lj_N l m p q) (S : lj_S2 l m p q a1 a2 a3 a4) (hb : x4 < 0 ∨ 200 < x4) (hF : lj_B x9 (l ≤ p)) (H : post 1 ()) :
    wL_lawOf_373 post mc ms x4 (nI l) (nI p) x9 0 z0 z1 kc ks (nI 2) (nI 2) ad ct ti a1 a2 a3 a4 := by
  obtain ⟨n1, n2, n3, n4, n5, n6⟩ := N
  have K := lj_394b (post := post) (mc := mc) (ms := ms) (kc := kc) (ks := ks) (x4 := x4) (z := -1) (jc := nI 2) (ad := ad) (ct := ct) (ti := ti) (a3 := a3) n1 n2 n5 hF (lj_SF S) H
  refine nm_e ?_
  refine br_c (fun _ => br_t rfl K) (fun g => br_f (fun z => ?_) (br_t rfl K))
  rcases hb with hb | hb
  · exact g hb
  · exact Int32.not_le.mpr hb z
theorem lj_373g {post : Int32 → St0 → Prop} {mc ms kc ks l m p q t : Nat} {x9 z0 z1 ad ct ti : Int32} {a1 a2 a3 a4 : Nat → Int32} (N : lj_N l m p q) (S : lj_S2 l m p q a1 a2 a3 a4) (ht : t ≤ 200) (hF : lj_B x9 (l ≤ p)) (hz1 : lj_B z1 (t ≤ p)) (hz0 : lj_B z0 (t ≤ q)) (H : post 1 ()) :
    wL_lawOf_373 post mc ms (nI t) (nI l) (nI p) x9 1 z0 z1 kc ks (nI 2) (nI 2) ad ct ti a1 a2 a3 a4 := by
  have N' := N
  obtain ⟨n1, n2, n3, n4, n5, n6⟩ := N'
  refine nm_e ?_
  refine br_f (nI_pos (by omega)) (pk_le t 200 (fun _ => ⟨11, ?_⟩) (fun z => absurd z (by omega)))
  rcases Nat.lt_or_ge p t with h | h
  · refine lj_el0 N S h ht (fun c rk ad ct ti b1 b2 b3 b4 c1 c0 hb => br_f (by decide) ?_)
    have e1 := lj_B0 hz1 (by omega)
    have ez : nI c = z1 + z0 := by
      rcases hz0 with ⟨g, e⟩ | ⟨g, e⟩
      · rw [c1 g, e1, e]
        rfl
      · rw [c0 (by omega), e1, e]
        rfl
    rw [← ez]
    exact lj_394n n2 ht h hF hb H
  · refine lj_el1 N S h (fun c rk ad ct ti b1 b2 b3 b4 c1 c0 hb => br_f (by decide) ?_)
    have e1 := lj_B1 hz1 h
    have ez : nI c = z1 + z0 := by
      rcases hz0 with ⟨g, e⟩ | ⟨g, e⟩
      · rw [c1 g, e1, e]
        rfl
      · rw [c0 (by omega), e1, e]
        rfl
    rw [← ez]
    exact lj_394g n1 n2 n5 h hF hb H
theorem lj_347b {post : Int32 → St0 → Prop} {mc ms kc ks l m p q : Nat} {x4 x9 ad ct ti : Int32} {a1 a2 a3 a4 : Nat → Int32} (N : lj_N l m p q) (S : lj_S2 l m p q a1 a2 a3 a4) (hb : x4 < 0 ∨ 200 < x4) (hF : lj_B x9 (l ≤ p)) (H : post 1 ()) :
    wL_lawOf_347 post mc ms x4 (nI l) (nI p) (nI q) x9 0 kc ks (nI 2) (nI 2) ad ct ti a1 a2 a3 a4 :=
  br_c (fun _ => br_c (fun _ => lj_373b N S hb hF H) (fun _ => lj_373b N S hb hF H)) (fun _ => br_c (fun _ => lj_373b N S hb hF H) (fun _ => lj_373b N S hb hF H))
theorem lj_347g {post : Int32 → St0 → Prop} {mc ms kc ks l m p q t : Nat} {x9 ad ct ti : Int32} {a1 a2 a3 a4 : Nat → Int32} (N : lj_N l m p q) (S : lj_S2 l m p q a1 a2 a3 a4) (ht : t ≤ 200) (hF : lj_B x9 (l ≤ p)) (H : post 1 ()) :
    wL_lawOf_347 post mc ms (nI t) (nI l) (nI p) (nI q) x9 1 kc ks (nI 2) (nI 2) ad ct ti a1 a2 a3 a4 := by
  have N' := N
  obtain ⟨n1, n2, n3, n4, n5, n6⟩ := N'
  refine pk_lt p t (fun h => pk_lt q t (fun g => ?_) (fun g => ?_)) (fun h => pk_lt q t (fun g => ?_) (fun g => ?_))
  · exact lj_373g N S ht hF (Or.inr ⟨by omega, rfl⟩) (Or.inr ⟨by omega, rfl⟩) H
  · exact lj_373g N S ht hF (Or.inr ⟨by omega, rfl⟩) (Or.inl ⟨g, rfl⟩) H
  · exact lj_373g N S ht hF (Or.inl ⟨h, rfl⟩) (Or.inr ⟨by omega, rfl⟩) H
  · exact lj_373g N S ht hF (Or.inl ⟨h, rfl⟩) (Or.inl ⟨g, rfl⟩) H
theorem lj_324 {post : Int32 → St0 → Prop} {mc ms kc ks l m p q : Nat} {x4 x9 z ad ct ti : Int32} {a1 a2 a3 a4 : Nat → Int32} (N : lj_N l m p q) (S : lj_S2 l m p q a1 a2 a3 a4) (hF : lj_B x9 (l ≤ p)) (H : post 1 ()) :
    wL_lawOf_324 post mc ms x4 (nI l) (nI p) (nI q) x9 z z kc ks (nI 2) (nI 2) ad ct ti a1 a2 a3 a4 := by
  refine br_t rfl (br_c (fun h => lj_347b N S (Or.inl h) hF H) (fun h => br_c (fun g => lj_347b N S (Or.inr g) hF H) (fun g => ?_)))
  obtain ⟨t, ht, e⟩ := nI_of2 (x := x4) (M := 200) (n := 200) (by decide) h (Int32.not_lt.mp g)
  rw [e]
  exact lj_347g N S ht hF H
theorem lj_289 {post : Int32 → St0 → Prop} {mc ms kc ks l m p q : Nat} {x4 x9 x10 x11 ad ct ti : Int32} {a1 a2 a3 a4 : Nat → Int32} (T : Nat) (N : lj_N l m p q) (S : lj_S2 l m p q a1 a2 a3 a4) (hF : lj_B x9 (l ≤ p)) (hS : lj_B x10 (m ≤ q)) (hB : lj_B x11 (lj_T l m p q)) (hz : ∀ c t, lj_M l m p q c t → t = T) (H : post 1 ()) :
    wL_lawOf_289 post mc ms x4 (nI l) (nI p) (nI q) x9 x10 x11 (nI T) kc ks (nI 2) (nI 2) ad ct ti a1 a2 a3 a4 := by
  unfold wL_lawOf_289
  refine lj_le N S (fun ad' c t hM => ?_)
  rw [hz c t hM]
  refine br_t rfl (lj_af N S (fun b ad ct ti a3 S' b1 b0 => lj_if hB (fun hT => lj_if hS (fun g => ?_) (fun g => ?_)) (fun hT => ?_)))
  · rw [b0 (by omega)]
    exact lj_324 N S' hF H
  · rw [b1 g]
    exact lj_324 N S' hF H
  · rw [b1 (by unfold lj_T at hT; omega)]
    exact lj_324 N S' hF H
theorem lj_214 {post : Int32 → St0 → Prop} {mc ms kc ks l m p q : Nat} {x4 x9 x10 x11 ad ct ti : Int32} {a1 a2 a3 a4 : Nat → Int32} (C : Nat) (N : lj_N l m p q) (S : lj_S2 l m p q a1 a2 a3 a4) (hF : lj_B x9 (l ≤ p)) (hS : lj_B x10 (m ≤ q)) (hB : lj_B x11 (lj_T l m p q)) (hz : ∀ c t, lj_M l m p q c t → c = C) (H : post 1 ()) :
    wL_lawOf_214 post mc ms x4 (nI l) (nI m) (nI p) (nI q) x9 x10 x11 (nI C) kc ks (nI 2) (nI 2) ad ct ti a1 a2 a3 a4 := by
  have N' := N
  obtain ⟨n1, n2, n3, n4, n5, n6⟩ := N'
  unfold wL_lawOf_214
  refine lj_mo N S (fun ad' ti' c t hM => ?_)
  rw [hz c t hM]
  have h268 : ¬ lj_T l m p q → ¬ (l ≤ p ∧ m ≤ q) → wL_lawOf_268 post mc ms x4 (nI l) (nI m) (nI p) (nI q) x9 x10 x11 kc ks (nI 2) (nI 2) ad' (nI C) ti' a1 a2 a3 a4 := by
    intro hT h
    refine lj_if hF (fun g => lj_if hS (fun g' => ?_) (fun g' => ?_)) (fun g => ?_)
    · exact lj_289 0 N S hF hS hB (fun c t hM => by unfold lj_M at hM; unfold lj_T at hM; omega) H
    · exact lj_289 m N S hF hS hB (fun c t hM => by unfold lj_M at hM; unfold lj_T at hM; omega) H
    · exact lj_289 l N S hF hS hB (fun c t hM => by unfold lj_M at hM; unfold lj_T at hM; omega) H
  refine br_t rfl (lj_if hB (fun hT => lj_if hF (fun g => h268 hT (by omega)) (fun g => lj_if hS (fun g' => h268 hT (by omega)) (fun g' => pk_le m l (fun k => ?_) (fun k => ?_)))) (fun hT => ?_))
  · exact lj_289 m N S hF hS hB (fun c t hM => by unfold lj_M at hM; unfold lj_T at hM hT; omega) H
  · exact lj_289 l N S hF hS hB (fun c t hM => by unfold lj_M at hM; unfold lj_T at hM hT; omega) H
  · rw [nI_add]
    exact lj_289 (l + m) N S hF hS hB (fun c t hM => (hM.1 hT).2) H
theorem lj_156 {post : Int32 → St0 → Prop} {mc ms kc ks l m p q : Nat} {x4 x9 x10 x11 z ad ct ti : Int32} {a1 a2 a3 a4 : Nat → Int32} (N : lj_N l m p q) (S : lj_S1 l p a1 a2 a3 a4) (hF : lj_B x9 (l ≤ p)) (hS : lj_B x10 (m ≤ q)) (hB : lj_B x11 (lj_T l m p q)) (H : post 1 ()) :
    wL_lawOf_156 post mc ms x4 (nI l) (nI m) (nI p) (nI q) x9 x10 x11 z z kc ks (nI 1) (nI 1) ad ct ti a1 a2 a3 a4 := by
  refine br_t rfl (lj_put1 N S (fun ad ct ti b1 b2 b3 b4 S' => br_t rfl ?_))
  have K : lj_B x11 (lj_T l m p q) → ((x11 = 0 → ((x9 = 0 → ((x10 = 0 → (wL_lawOf_214 post mc ms x4 (nI l) (nI m) (nI p) (nI q) x9 x10 x11 0 kc ks (nI 2) (nI 2) ad ct ti b1 b2 b3 b4)) ∧ (¬ x10 = 0 → (wL_lawOf_209 post mc ms x4 (nI l) (nI m) (nI p) (nI q) x9 x10 x11 kc ks (nI 2) (nI 2) ad ct ti b1 b2 b3 b4)))) ∧ (¬ x9 = 0 → (wL_lawOf_209 post mc ms x4 (nI l) (nI m) (nI p) (nI q) x9 x10 x11 kc ks (nI 2) (nI 2) ad ct ti b1 b2 b3 b4)))) ∧ (¬ x11 = 0 → (wL_lawOf_214 post mc ms x4 (nI l) (nI m) (nI p) (nI q) x9 x10 x11 2 kc ks (nI 2) (nI 2) ad ct ti b1 b2 b3 b4))) := by
    intro _
    refine lj_if hB (fun hT => lj_if hF (fun g => lj_if hS (fun g' => ?_) (fun g' => ?_)) (fun g => ?_)) (fun hT => ?_)
    · exact lj_214 0 N S' hF hS hB (fun c t hM => by unfold lj_M at hM; unfold lj_T at hM hT; omega) H
    · exact lj_214 1 N S' hF hS hB (fun c t hM => by unfold lj_M at hM; unfold lj_T at hM hT; omega) H
    · exact lj_214 1 N S' hF hS hB (fun c t hM => by unfold lj_M at hM; unfold lj_T at hM hT; omega) H
    · exact lj_214 2 N S' hF hS hB (fun c t hM => (hM.1 hT).1) H
  exact lj_fe3 N S' (fun hT => br_t (lj_B1 hB hT).symm (K hB)) (fun hT => br_t (lj_B0 hB hT).symm (K hB))
theorem lj_109 {post : Int32 → St0 → Prop} {l m p q : Nat} {x4 x9 x10 x11 : Int32} (N : lj_N l m p q) (hF : lj_B x9 (l ≤ p)) (hS : lj_B x10 (m ≤ q)) (hB : lj_B x11 (lj_T l m p q)) (H : post 1 ()) :
    wL_lawOf_109 post 24 368 x4 (nI l) (nI m) (nI p) (nI q) x9 x10 x11 0 0 := by
  have N' := N
  obtain ⟨n1, n2, n3, n4, n5, n6⟩ := N'
  refine ⟨by omega, by omega, 4, 44, by omega, by omega, by omega, by omega, by omega, by omega, by omega, by omega, by omega, by omega, ?_⟩
  refine lj_put0 n1 n2 n5 (fun ad ct ti a1 a2 a3 a4 S => br_t rfl (lj_we N S (fun b ad ct ti b1 b2 b3 b4 S' h1 h0 => lj_if hF (fun g => ?_) (fun g => ?_))))
  · have e : b = x10 := by
      rcases hS with ⟨s, e⟩ | ⟨s, e⟩
      · rw [e]
        exact h1 (Or.inr ⟨by omega, s⟩)
      · rw [e]
        exact h0 (by omega)
    rw [e]
    exact lj_156 N S' hF hS hB H
  · have e : b = x11 := by
      rcases hB with ⟨s, e⟩ | ⟨s, e⟩
      · rw [e]
        exact h1 (Or.inl ⟨g, s⟩)
      · rw [e]
        refine h0 (fun z => ?_)
        rcases z with z | z
        · exact s z.2
        · omega
    rw [e]
    exact lj_156 N S' hF hS hB H
theorem lj_72 {post : Int32 → St0 → Prop} {l m p q : Nat} {x4 x9 x10 : Int32} (N : lj_N l m p q) (hF : lj_B x9 (l ≤ p)) (hS : lj_B x10 (m ≤ q)) (H : post 1 ()) :
    wL_lawOf_72 post 24 368 x4 (nI l) (nI m) (nI p) (nI q) x9 x10 0 0 := by
  have N' := N
  obtain ⟨n1, n2, n3, n4, n5, n6⟩ := N'
  have h89 : ¬ (l ≤ p ∧ l + m ≤ q) → wL_lawOf_89 post 24 368 x4 (nI l) (nI m) (nI p) (nI q) x9 x10 0 0 := by
    intro h
    refine lj_if hS (fun g => ?_) (fun g => pk_lt p (l + m) (fun k => ?_) (fun k => ?_) rfl (nI_add l m))
    · exact lj_109 N hF hS (Or.inr ⟨by unfold lj_T; omega, rfl⟩) H
    · exact lj_109 N hF hS (Or.inr ⟨by unfold lj_T; omega, rfl⟩) H
    · exact lj_109 N hF hS (Or.inl ⟨by unfold lj_T; omega, rfl⟩) H
  exact lj_if hF (fun g => h89 (by omega)) (fun g => pk_le (l + m) q (fun k => lj_109 N hF hS (Or.inl ⟨Or.inl ⟨g, k⟩, rfl⟩) H) (fun k => h89 (by omega)) (nI_add l m))
theorem lj_58 {post : Int32 → St0 → Prop} {l m p q : Nat} {x4 x9 : Int32} (N : lj_N l m p q) (hF : lj_B x9 (l ≤ p)) (H : post 1 ()) :
    wL_lawOf_58 post 24 368 x4 (nI l) (nI m) (nI p) (nI q) x9 0 0 := by
  have N' := N
  obtain ⟨n1, n2, n3, n4, n5, n6⟩ := N'
  exact pk_lt q m (fun h => lj_72 N hF (Or.inr ⟨by omega, rfl⟩) H) (fun h => lj_72 N hF (Or.inl ⟨h, rfl⟩) H)
theorem lj_x5 (x : Int32) : ∃ l : Nat, 1 ≤ l ∧ l ≤ 50 ∧ 1 + ((x &&& 255) - (x &&& 255) / 50 * 50) = nI l := by
  obtain ⟨j, hj, e⟩ := pk_andE x (m := 255) 8 (by decide)
  refine ⟨1 + j % 50, by omega, by omega, ?_⟩
  rw [e]
  have h : nI j - nI j / 50 * 50 = nI (j % 50) := pk_rem (a := j) (d := 50) (by omega) (by omega) (by omega)
  rw [h]
  exact nI_add 1 (j % 50)
theorem lj_x7 (x : Int32) : ∃ p : Nat, p ≤ 200 ∧ (x &&& 255) - (x &&& 255) / 201 * 201 = nI p := by
  obtain ⟨j, hj, e⟩ := pk_andE x (m := 255) 8 (by decide)
  refine ⟨j % 201, by omega, ?_⟩
  rw [e]
  exact pk_rem (a := j) (d := 201) (by omega) (by omega) (by omega)
theorem lj_of {post : Int32 → St0 → Prop} (p0 p1 p2 p3 p4 : Int32) (H : post 1 ()) : wpL_lawOf post 24 368 () p0 p1 p2 p3 p4 := by
  obtain ⟨l, l1, l2, el⟩ := lj_x5 p0
  obtain ⟨m, m1, m2, em⟩ := lj_x5 p1
  obtain ⟨p, p2', ep⟩ := lj_x7 p2
  obtain ⟨q, q2, eq⟩ := lj_x7 p3
  have N : lj_N l m p q := ⟨l1, l2, m1, m2, p2', q2⟩
  refine ⟨by decide, nm_r el ⟨by decide, nm_r em ⟨by decide, nm_r ep ⟨by decide, nm_r eq ?_⟩⟩⟩⟩
  exact pk_lt p l (fun h => lj_58 N (Or.inr ⟨by omega, rfl⟩) H) (fun h => lj_58 N (Or.inl ⟨h, rfl⟩) H)
theorem lj_cell {post : Int32 → Prop} {L : Nat} {xs : Nat → Int32} (i : Nat) (hi : i ≤ 4) (hL : L ≤ 5) (H : ∀ r, post r) : wpL_cellAt post L xs () (nI i) :=
  pk_le L i (fun _ => H 0) (fun h => ⟨pk_in i L h, H _⟩)
/-! ===== WHAT IS OWED for LateJobAdmitLaw: one statement: the law answers true on every script of L ints xs ===== -/
theorem i_vc (xs : Nat → Int32) (L : Nat) (hL : L ≤ 5) : wpL_law (fun r => r = 1) L xs := by
  unfold wpL_law
  exact lj_cell 0 (by omega) hL (fun r1 => lj_cell 1 (by omega) hL (fun r2 => lj_cell 2 (by omega) hL (fun r3 => lj_cell 3 (by omega) hL (fun r4 => lj_cell 4 (by omega) hL (fun r5 => ⟨24, 368, by omega, by omega, lj_of r1 r2 r3 r4 r5 rfl⟩)))))
end
