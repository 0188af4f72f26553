section
/-- the picture: two reads that speak at site i alone: trust a, value 1; trust b, value o -/
def ph_K (i a b o : Nat) (T V : Nat → Int32) : Prop :=
  i < 8 ∧ (1 ≤ a ∧ a ≤ 9) ∧ (1 ≤ b ∧ b ≤ 9) ∧ o < 2 ∧ T (0 * 8 + i) = nI a ∧ T (1 * 8 + i) = nI b ∧
  (∀ r s, r < 2 → s < 8 → s ≠ i → T (r * 8 + s) = nI 0) ∧ V (0 * 8 + i) = nI 1 ∧ V (1 * 8 + i) = nI o
/-- what a site costs with both reads at work under the masks 0 and 2 -/
def ph_c (i a b o f m s : Nat) : Nat :=
  if s = i then (if m = 0 then (if o = 0 then min a b else 0) else (if f = 1 ∧ o = 1 then min a b else 0)) else 0
theorem ph_ix (r s : Nat) : nI r * 8 + nI s = nI (r * 8 + s) := by
  rw [show (8 : Int32) = nI 8 from rfl, pk_mul, nI_add]
theorem ph_w0 : ∀ m, m < 256 → 1 ≤ m → ¬ nI m &&& (nI 0 ^^^ (-1)) = 0 := by decide +kernel
theorem ph_w1 : ∀ m, m < 256 → 2 ≤ m → ¬ nI m &&& (nI 1 ^^^ (-1)) = 0 := by decide +kernel
theorem ph_w2 : ∀ m, m < 256 → 3 ≤ m → ¬ nI m &&& (nI 2 ^^^ (-1)) = 0 := by decide +kernel
theorem ph_w3 : ∀ m, m < 256 → 4 ≤ m → ¬ nI m &&& (nI 3 ^^^ (-1)) = 0 := by decide +kernel
theorem ph_tn {i a b o r : Nat} {T V : Nat → Int32} (k : ph_K i a b o T V) (hr : r < 2) : ¬ T (r * 8 + i) = 0 := by
  obtain ⟨hi, ha, hb, ho, hA, hB, hT, hV, hW⟩ := k
  by_cases h : r = 0
  · subst h
    rw [hA]
    exact nI_ne0 (by omega) (by omega)
  · have h1 : r = 1 := by omega
    subst h1
    rw [hB]
    exact nI_ne0 (by omega) (by omega)
theorem ph_cle {i a b o f m s : Nat} {T V : Nat → Int32} (k : ph_K i a b o T V) : ph_c i a b o f m s ≤ 9 := by
  obtain ⟨hi, ha, hb, ho, _⟩ := k
  unfold ph_c
  split
  · split
    · split <;> omega
    · split <;> omega
  · omega
theorem ph_c0 {i a b o f m s : Nat} (h : s ≠ i) : ph_c i a b o f m s = 0 := by
  unfold ph_c
  rw [if_neg h]
end
section
theorem ph_first {post : Int32 → Prop} {q w a0 a1 b0 b1 : Int32} {T V C B W : Nat → Int32} {i a b o : Nat} (r : Nat) (k : ph_K i a b o T V) (hr : r < 2) (hp : post (nI i)) :
    wpX_firstSite post (q, w, a0, a1, b0, b1, T, V, C, B, W) (nI r) := by
  have ht := ph_tn k hr
  obtain ⟨hi, ha, hb, ho, hA, hB, hT, hV, hW⟩ := k
  exact pk_loop (σ := Unit) (fun n s _ => wX_firstSite_2 post (nI r) q w a0 a1 b0 b1 T V C B W n (nI s)) (fun _ _ => True) i 0 () (by omega) trivial
    (fun n _ _ => pk_le 8 i (fun z => absurd z (by omega)) (fun _ => ⟨pk_in (r * 8 + i) 64 (by omega) (ph_ix r i), br_f (by rw [ph_ix, nI_clamp (by omega)]; exact ht) hp⟩))
    (fun n s _ hs _ hw => pk_le 8 s (fun z => absurd z (by omega)) (fun _ => ⟨pk_in (r * 8 + s) 64 (by omega) (ph_ix r s), br_t (by rw [ph_ix, nI_clamp (by omega)]; exact hT r s hr (by omega) (by omega)) (nm_r (nI_1 s) (hw () trivial))⟩))
theorem ph_last {post : Int32 → Prop} {q w a0 a1 b0 b1 : Int32} {T V C B W : Nat → Int32} {i a b o : Nat} (r : Nat) (k : ph_K i a b o T V) (hr : r < 2) (hp : post (nI i)) :
    wpX_lastSite post (q, w, a0, a1, b0, b1, T, V, C, B, W) (nI r) := by
  have ht := ph_tn k hr
  obtain ⟨hi, ha, hb, ho, hA, hB, hT, hV, hW⟩ := k
  have key : ∀ d, i + d < 8 → wX_lastSite_3 post (nI r) q w a0 a1 b0 b1 T V C B W (d + 1) (nI (i + d)) := by
    intro d
    induction d with
    | zero =>
      intro _
      exact br_f (nI_pos (show i < 2 ^ 31 by omega)) ⟨pk_in (r * 8 + i) 64 (by omega) (ph_ix r i), br_f (by rw [Nat.add_zero, ph_ix, nI_clamp (by omega)]; exact ht) hp⟩
    | succ d ih =>
      intro hd
      exact br_f (nI_pos (show i + (d + 1) < 2 ^ 31 by omega)) ⟨pk_in (r * 8 + (i + (d + 1))) 64 (by omega) (ph_ix r (i + (d + 1))), br_t (by rw [ph_ix, nI_clamp (by omega)]; exact hT r (i + (d + 1)) hr (by omega) (by omega)) (nm_r (pk_m1 (i + d)) (ih (by omega)))⟩
  have h7 := key (7 - i) (by omega)
  rw [show i + (7 - i) = 7 by omega] at h7
  exact ⟨_, h7⟩
end
section
theorem ph_wr0 {P : St2 → Prop} {q w a0 a1 b0 b1 p0 p1 : Int32} {T V C B W : Nat → Int32} (n : Nat) (hn : n < 64) (h0 : p0 = nI n) (hT : T n = nI 0)
    (hp : P (q, w, a0, a1, b0, b1, T, V, C, B, W)) : wpX_weighRead P (q, w, a0, a1, b0, b1, T, V, C, B, W) p0 p1 := by
  subst h0
  have e : T (nI n).toNatClampNeg = 0 := by
    rw [nI_clamp (by omega)]
    exact hT
  have z : ∀ y : Int32, y + 0 = y := fun y => Int32.add_zero y
  have hj : wX_weighRead_33 P (nI n) p1 0 q w a0 a1 b0 b1 T V C B W :=
    br_c (fun _ => nm_r (z a1) hp) (fun _ => ⟨pk_in n 64 hn, br_c (fun _ => nm_r (z b0) hp) (fun _ => nm_r (z b1) hp)⟩)
  exact ⟨pk_in n 64 hn, nm_r e (br_c (fun _ => ⟨pk_in n 64 hn, br_c (fun _ => nm_r (z a0) hp) (fun _ => hj)⟩) (fun _ => hj))⟩
theorem ph_wrA0 {P : St2 → Prop} {q w a0 a1 b0 b1 p0 p1 y : Int32} {T V C B W : Nat → Int32} (n : Nat) (hn : n < 64) (h0 : p0 = nI n) (h1 : p1 = nI 0) (hV : V n = nI 0) (he : a0 + T n = y)
    (hp : P (q, w, y, a1, b0, b1, T, V, C, B, W)) : wpX_weighRead P (q, w, a0, a1, b0, b1, T, V, C, B, W) p0 p1 := by
  subst h0 h1
  have e : (nI n).toNatClampNeg = n := nI_clamp (by omega)
  exact ⟨pk_in n 64 hn, nm_r (show T (nI n).toNatClampNeg = T n by rw [e]) (br_t rfl ⟨pk_in n 64 hn, br_t (by rw [e]; exact hV) (nm_r he hp)⟩)⟩
theorem ph_wrA1 {P : St2 → Prop} {q w a0 a1 b0 b1 p0 p1 y : Int32} {T V C B W : Nat → Int32} (n : Nat) (hn : n < 64) (h0 : p0 = nI n) (h1 : p1 = nI 0) (hV : V n = nI 1) (he : a1 + T n = y)
    (hp : P (q, w, a0, y, b0, b1, T, V, C, B, W)) : wpX_weighRead P (q, w, a0, a1, b0, b1, T, V, C, B, W) p0 p1 := by
  subst h0 h1
  have e : (nI n).toNatClampNeg = n := nI_clamp (by omega)
  exact ⟨pk_in n 64 hn, nm_r (show T (nI n).toNatClampNeg = T n by rw [e]) (br_t rfl ⟨pk_in n 64 hn, br_f (by rw [e, hV]; decide) (br_t rfl (nm_r he hp))⟩)⟩
theorem ph_wrB0 {P : St2 → Prop} {q w a0 a1 b0 b1 p0 p1 y : Int32} {T V C B W : Nat → Int32} (n : Nat) (hn : n < 64) (h0 : p0 = nI n) (h1 : p1 = nI 1) (hV : V n = nI 0) (he : b0 + T n = y)
    (hp : P (q, w, a0, a1, y, b1, T, V, C, B, W)) : wpX_weighRead P (q, w, a0, a1, b0, b1, T, V, C, B, W) p0 p1 := by
  subst h0 h1
  have e : (nI n).toNatClampNeg = n := nI_clamp (by omega)
  exact ⟨pk_in n 64 hn, nm_r (show T (nI n).toNatClampNeg = T n by rw [e]) (br_f (by decide) (br_f (by decide) ⟨pk_in n 64 hn, br_t (by rw [e]; exact hV) (nm_r he hp)⟩))⟩
theorem ph_wrB1 {P : St2 → Prop} {q w a0 a1 b0 b1 p0 p1 y : Int32} {T V C B W : Nat → Int32} (n : Nat) (hn : n < 64) (h0 : p0 = nI n) (h1 : p1 = nI 1) (hV : V n = nI 1) (he : b1 + T n = y)
    (hp : P (q, w, a0, a1, b0, y, T, V, C, B, W)) : wpX_weighRead P (q, w, a0, a1, b0, b1, T, V, C, B, W) p0 p1 := by
  subst h0 h1
  have e : (nI n).toNatClampNeg = n := nI_clamp (by omega)
  exact ⟨pk_in n 64 hn, nm_r (show T (nI n).toNatClampNeg = T n by rw [e]) (br_f (by decide) (br_f (by decide) ⟨pk_in n 64 hn, br_f (by rw [e, hV]; decide) (nm_r he hp)⟩))⟩
theorem ph_weigh0 {P : St2 → Prop} {w a0 a1 b0 b1 x1 x2 : Int32} {T V C B W : Nat → Int32} (hp : P (nI 2, w, 0, 0, 0, 0, T, V, C, B, W)) :
    wpX_weigh P (nI 2, w, a0, a1, b0, b1, T, V, C, B, W) x1 x2 (nI 0) :=
  ⟨2 + 1, pk_le 2 0 (fun z => absurd z (by omega)) (fun _ => br_f (by decide) (nm_r (nI_1 0)
    (pk_le 2 1 (fun z => absurd z (by omega)) (fun _ => br_f (by decide) (nm_r (nI_1 1)
      (pk_le 2 2 (fun _ => hp) (fun z => absurd z (by omega))))))))⟩
theorem ph_weigh3 {P : St2 → Prop} {w a0 a1 b0 b1 : Int32} {T V C B W : Nat → Int32} {i a b o s m : Nat} (k : ph_K i a b o T V) (hs : s < 8) (hm : m = 0 ∨ m = 2)
    (H : ∀ A0 A1 B0 B1 : Nat, A0 < 100 → A1 < 100 → B0 < 100 → B1 < 100 → min A0 A1 + min B0 B1 = ph_c i a b o 0 m s → min (A0 + B1) (A1 + B0) = ph_c i a b o 1 m s →
      P (nI 2, w, nI A0, nI A1, nI B0, nI B1, T, V, C, B, W)) :
    wpX_weigh P (nI 2, w, a0, a1, b0, b1, T, V, C, B, W) (nI s) (nI m) (nI 3) := by
  obtain ⟨hi, ha, hb, ho, hA, hB, hT, hV, hW⟩ := k
  by_cases hsi : s = i
  · subst hsi
    have ho' : o = 0 ∨ o = 1 := by omega
    have e0 : (0 : Int32) + T (0 * 8 + s) = nI a := by rw [hA, Int32.zero_add]
    have e1 : (0 : Int32) + T (1 * 8 + s) = nI b := by rw [hB, Int32.zero_add]
    have e2 : nI a + T (1 * 8 + s) = nI (a + b) := by rw [hB, nI_add]
    rcases hm with rfl | rfl
    · rcases ho' with rfl | rfl
      · have Y := H b a 0 0 (by omega) (by omega) (by omega) (by omega) (by simp [ph_c]; omega) (by simp [ph_c]; omega)
        exact ⟨2 + 1, pk_le 2 0 (fun z => absurd z (by omega)) (fun _ => br_t (by decide) (ph_wrA1 (0 * 8 + s) (by omega) (ph_ix 0 s) (by decide) hV e0 (nm_r (nI_1 0)
          (pk_le 2 1 (fun z => absurd z (by omega)) (fun _ => br_t (by decide) (ph_wrA0 (1 * 8 + s) (by omega) (ph_ix 1 s) (by decide) hW e1 (nm_r (nI_1 1)
            (pk_le 2 2 (fun _ => Y) (fun z => absurd z (by omega))))))))))⟩
      · have Y := H 0 (a + b) 0 0 (by omega) (by omega) (by omega) (by omega) (by simp [ph_c]) (by simp [ph_c])
        exact ⟨2 + 1, pk_le 2 0 (fun z => absurd z (by omega)) (fun _ => br_t (by decide) (ph_wrA1 (0 * 8 + s) (by omega) (ph_ix 0 s) (by decide) hV e0 (nm_r (nI_1 0)
          (pk_le 2 1 (fun z => absurd z (by omega)) (fun _ => br_t (by decide) (ph_wrA1 (1 * 8 + s) (by omega) (ph_ix 1 s) (by decide) hW e2 (nm_r (nI_1 1)
            (pk_le 2 2 (fun _ => Y) (fun z => absurd z (by omega))))))))))⟩
    · rcases ho' with rfl | rfl
      · have Y := H 0 a b 0 (by omega) (by omega) (by omega) (by omega) (by simp [ph_c]) (by simp [ph_c])
        exact ⟨2 + 1, pk_le 2 0 (fun z => absurd z (by omega)) (fun _ => br_t (by decide) (ph_wrA1 (0 * 8 + s) (by omega) (ph_ix 0 s) (by decide) hV e0 (nm_r (nI_1 0)
          (pk_le 2 1 (fun z => absurd z (by omega)) (fun _ => br_t (by decide) (ph_wrB0 (1 * 8 + s) (by omega) (ph_ix 1 s) (by decide) hW e1 (nm_r (nI_1 1)
            (pk_le 2 2 (fun _ => Y) (fun z => absurd z (by omega))))))))))⟩
      · have Y := H 0 a 0 b (by omega) (by omega) (by omega) (by omega) (by simp [ph_c]) (by simp [ph_c]; omega)
        exact ⟨2 + 1, pk_le 2 0 (fun z => absurd z (by omega)) (fun _ => br_t (by decide) (ph_wrA1 (0 * 8 + s) (by omega) (ph_ix 0 s) (by decide) hV e0 (nm_r (nI_1 0)
          (pk_le 2 1 (fun z => absurd z (by omega)) (fun _ => br_t (by decide) (ph_wrB1 (1 * 8 + s) (by omega) (ph_ix 1 s) (by decide) hW e1 (nm_r (nI_1 1)
            (pk_le 2 2 (fun _ => Y) (fun z => absurd z (by omega))))))))))⟩
  · have Y := H 0 0 0 0 (by omega) (by omega) (by omega) (by omega) (by rw [ph_c0 hsi]; rfl) (by rw [ph_c0 hsi]; rfl)
    exact ⟨2 + 1, pk_le 2 0 (fun z => absurd z (by omega)) (fun _ => br_t (by decide) (ph_wr0 (0 * 8 + s) (by omega) (ph_ix 0 s) (hT 0 s (by omega) hs hsi) (nm_r (nI_1 0)
      (pk_le 2 1 (fun z => absurd z (by omega)) (fun _ => br_t (by decide) (ph_wr0 (1 * 8 + s) (by omega) (ph_ix 1 s) (hT 1 s (by omega) hs hsi) (nm_r (nI_1 1)
        (pk_le 2 2 (fun _ => Y) (fun z => absurd z (by omega))))))))))⟩
theorem ph_sm {P : Int32 → Prop} {u : St0} (x y : Nat) (hx : x < 2 ^ 31) (hy : y < 2 ^ 31) (hp : P (nI (min x y))) : wpX_smaller P u (nI x) (nI y) :=
  pk_le y x (fun z => by rw [show min x y = y by omega] at hp; exact hp) (fun z => by rw [show min x y = x by omega] at hp; exact hp)
theorem ph_site {P : Int32 → St2 → Prop} {w a0 a1 b0 b1 : Int32} {T V C B W : Nat → Int32} {i a b o s m f : Nat} (k : ph_K i a b o T V) (hs : s < 8) (hm : m = 0 ∨ m = 2) (hf : f < 2)
    (hp : ∀ x0 x1 y0 y1 : Int32, P (nI (ph_c i a b o f m s)) (nI 2, w, x0, x1, y0, y1, T, V, C, B, W)) :
    wpX_siteCost P (nI 2, w, a0, a1, b0, b1, T, V, C, B, W) (nI s) (nI m) (nI 3) (nI f) := by
  refine ph_weigh3 (a0 := a0) (a1 := a1) (b0 := b0) (b1 := b1) k hs hm (fun A0 A1 B0 B1 h0 h1 h2 h3 e0 e1 => pk_eq f 0 (fun z => ?_) (fun z => ?_))
  · subst z
    refine ph_sm A0 A1 (by omega) (by omega) (ph_sm B0 B1 (by omega) (by omega) ?_)
    rw [nI_add, e0]
    exact hp _ _ _ _
  · have z1 : f = 1 := by omega
    subst z1
    rw [nI_add, nI_add]
    refine ph_sm (A0 + B1) (A1 + B0) (by omega) (by omega) ?_
    rw [e1]
    exact hp _ _ _ _
theorem ph_site0 {P : Int32 → St2 → Prop} {w a0 a1 b0 b1 x1 x2 : Int32} {T V C B W : Nat → Int32} {f : Nat} (hf : f < 2)
    (hp : ∀ x0 x1 y0 y1 : Int32, P (nI 0) (nI 2, w, x0, x1, y0, y1, T, V, C, B, W)) :
    wpX_siteCost P (nI 2, w, a0, a1, b0, b1, T, V, C, B, W) x1 x2 (nI 0) (nI f) :=
  ph_weigh0 (a0 := a0) (a1 := a1) (b0 := b0) (b1 := b1) (pk_eq f 0 (fun _ => ph_sm 0 0 (by omega) (by omega) (ph_sm 0 0 (by omega) (by omega) (hp _ _ _ _))) (fun _ => ph_sm 0 0 (by omega) (by omega) (hp _ _ _ _)))
end
section
theorem ph_wr0_2 {P : St2 → Prop} {q w a0 a1 b0 b1 p0 p1 : Int32} {T V C B W : Nat → Int32} (n : Nat) (hn : n < 64) (h0 : p0 = nI n) (hT : T n = nI 0)
    (hp : P (q, w, a0, a1, b0, b1, T, V, C, B, W)) : wpX_weighRead_2 P (q, w, a0, a1, b0, b1, T, V, C, B, W) p0 p1 := by
  subst h0
  have e : T (nI n).toNatClampNeg = 0 := by
    rw [nI_clamp (by omega)]
    exact hT
  have z : ∀ y : Int32, y + 0 = y := fun y => Int32.add_zero y
  have hj : wX_weighRead_2_33 P (nI n) p1 0 q w a0 a1 b0 b1 T V C B W :=
    br_c (fun _ => nm_r (z a1) hp) (fun _ => ⟨pk_in n 64 hn, br_c (fun _ => nm_r (z b0) hp) (fun _ => nm_r (z b1) hp)⟩)
  exact ⟨pk_in n 64 hn, nm_r e (br_c (fun _ => ⟨pk_in n 64 hn, br_c (fun _ => nm_r (z a0) hp) (fun _ => hj)⟩) (fun _ => hj))⟩
theorem ph_wrA0_2 {P : St2 → Prop} {q w a0 a1 b0 b1 p0 p1 y : Int32} {T V C B W : Nat → Int32} (n : Nat) (hn : n < 64) (h0 : p0 = nI n) (h1 : p1 = nI 0) (hV : V n = nI 0) (he : a0 + T n = y)
    (hp : P (q, w, y, a1, b0, b1, T, V, C, B, W)) : wpX_weighRead_2 P (q, w, a0, a1, b0, b1, T, V, C, B, W) p0 p1 := by
  subst h0 h1
  have e : (nI n).toNatClampNeg = n := nI_clamp (by omega)
  exact ⟨pk_in n 64 hn, nm_r (show T (nI n).toNatClampNeg = T n by rw [e]) (br_t rfl ⟨pk_in n 64 hn, br_t (by rw [e]; exact hV) (nm_r he hp)⟩)⟩
theorem ph_wrA1_2 {P : St2 → Prop} {q w a0 a1 b0 b1 p0 p1 y : Int32} {T V C B W : Nat → Int32} (n : Nat) (hn : n < 64) (h0 : p0 = nI n) (h1 : p1 = nI 0) (hV : V n = nI 1) (he : a1 + T n = y)
    (hp : P (q, w, a0, y, b0, b1, T, V, C, B, W)) : wpX_weighRead_2 P (q, w, a0, a1, b0, b1, T, V, C, B, W) p0 p1 := by
  subst h0 h1
  have e : (nI n).toNatClampNeg = n := nI_clamp (by omega)
  exact ⟨pk_in n 64 hn, nm_r (show T (nI n).toNatClampNeg = T n by rw [e]) (br_t rfl ⟨pk_in n 64 hn, br_f (by rw [e, hV]; decide) (br_t rfl (nm_r he hp))⟩)⟩
theorem ph_wrB0_2 {P : St2 → Prop} {q w a0 a1 b0 b1 p0 p1 y : Int32} {T V C B W : Nat → Int32} (n : Nat) (hn : n < 64) (h0 : p0 = nI n) (h1 : p1 = nI 1) (hV : V n = nI 0) (he : b0 + T n = y)
    (hp : P (q, w, a0, a1, y, b1, T, V, C, B, W)) : wpX_weighRead_2 P (q, w, a0, a1, b0, b1, T, V, C, B, W) p0 p1 := by
  subst h0 h1
  have e : (nI n).toNatClampNeg = n := nI_clamp (by omega)
  exact ⟨pk_in n 64 hn, nm_r (show T (nI n).toNatClampNeg = T n by rw [e]) (br_f (by decide) (br_f (by decide) ⟨pk_in n 64 hn, br_t (by rw [e]; exact hV) (nm_r he hp)⟩))⟩
theorem ph_wrB1_2 {P : St2 → Prop} {q w a0 a1 b0 b1 p0 p1 y : Int32} {T V C B W : Nat → Int32} (n : Nat) (hn : n < 64) (h0 : p0 = nI n) (h1 : p1 = nI 1) (hV : V n = nI 1) (he : b1 + T n = y)
    (hp : P (q, w, a0, a1, b0, y, T, V, C, B, W)) : wpX_weighRead_2 P (q, w, a0, a1, b0, b1, T, V, C, B, W) p0 p1 := by
  subst h0 h1
  have e : (nI n).toNatClampNeg = n := nI_clamp (by omega)
  exact ⟨pk_in n 64 hn, nm_r (show T (nI n).toNatClampNeg = T n by rw [e]) (br_f (by decide) (br_f (by decide) ⟨pk_in n 64 hn, br_f (by rw [e, hV]; decide) (nm_r he hp)⟩))⟩
theorem ph_weigh0_2 {P : St2 → Prop} {w a0 a1 b0 b1 x1 x2 : Int32} {T V C B W : Nat → Int32} (hp : P (nI 2, w, 0, 0, 0, 0, T, V, C, B, W)) :
    wpX_weigh_2 P (nI 2, w, a0, a1, b0, b1, T, V, C, B, W) x1 x2 (nI 0) :=
  ⟨2 + 1, pk_le 2 0 (fun z => absurd z (by omega)) (fun _ => br_f (by decide) (nm_r (nI_1 0)
    (pk_le 2 1 (fun z => absurd z (by omega)) (fun _ => br_f (by decide) (nm_r (nI_1 1)
      (pk_le 2 2 (fun _ => hp) (fun z => absurd z (by omega))))))))⟩
theorem ph_weigh3_2 {P : St2 → Prop} {w a0 a1 b0 b1 : Int32} {T V C B W : Nat → Int32} {i a b o s m : Nat} (k : ph_K i a b o T V) (hs : s < 8) (hm : m = 0 ∨ m = 2)
    (H : ∀ A0 A1 B0 B1 : Nat, A0 < 100 → A1 < 100 → B0 < 100 → B1 < 100 → min A0 A1 + min B0 B1 = ph_c i a b o 0 m s → min (A0 + B1) (A1 + B0) = ph_c i a b o 1 m s →
      P (nI 2, w, nI A0, nI A1, nI B0, nI B1, T, V, C, B, W)) :
    wpX_weigh_2 P (nI 2, w, a0, a1, b0, b1, T, V, C, B, W) (nI s) (nI m) (nI 3) := by
  obtain ⟨hi, ha, hb, ho, hA, hB, hT, hV, hW⟩ := k
  by_cases hsi : s = i
  · subst hsi
    have ho' : o = 0 ∨ o = 1 := by omega
    have e0 : (0 : Int32) + T (0 * 8 + s) = nI a := by rw [hA, Int32.zero_add]
    have e1 : (0 : Int32) + T (1 * 8 + s) = nI b := by rw [hB, Int32.zero_add]
    have e2 : nI a + T (1 * 8 + s) = nI (a + b) := by rw [hB, nI_add]
    rcases hm with rfl | rfl
    · rcases ho' with rfl | rfl
      · have Y := H b a 0 0 (by omega) (by omega) (by omega) (by omega) (by simp [ph_c]; omega) (by simp [ph_c]; omega)
        exact ⟨2 + 1, pk_le 2 0 (fun z => absurd z (by omega)) (fun _ => br_t (by decide) (ph_wrA1_2 (0 * 8 + s) (by omega) (ph_ix 0 s) (by decide) hV e0 (nm_r (nI_1 0)
          (pk_le 2 1 (fun z => absurd z (by omega)) (fun _ => br_t (by decide) (ph_wrA0_2 (1 * 8 + s) (by omega) (ph_ix 1 s) (by decide) hW e1 (nm_r (nI_1 1)
            (pk_le 2 2 (fun _ => Y) (fun z => absurd z (by omega))))))))))⟩
      · have Y := H 0 (a + b) 0 0 (by omega) (by omega) (by omega) (by omega) (by simp [ph_c]) (by simp [ph_c])
        exact ⟨2 + 1, pk_le 2 0 (fun z => absurd z (by omega)) (fun _ => br_t (by decide) (ph_wrA1_2 (0 * 8 + s) (by omega) (ph_ix 0 s) (by decide) hV e0 (nm_r (nI_1 0)
          (pk_le 2 1 (fun z => absurd z (by omega)) (fun _ => br_t (by decide) (ph_wrA1_2 (1 * 8 + s) (by omega) (ph_ix 1 s) (by decide) hW e2 (nm_r (nI_1 1)
            (pk_le 2 2 (fun _ => Y) (fun z => absurd z (by omega))))))))))⟩
    · rcases ho' with rfl | rfl
      · have Y := H 0 a b 0 (by omega) (by omega) (by omega) (by omega) (by simp [ph_c]) (by simp [ph_c])
        exact ⟨2 + 1, pk_le 2 0 (fun z => absurd z (by omega)) (fun _ => br_t (by decide) (ph_wrA1_2 (0 * 8 + s) (by omega) (ph_ix 0 s) (by decide) hV e0 (nm_r (nI_1 0)
          (pk_le 2 1 (fun z => absurd z (by omega)) (fun _ => br_t (by decide) (ph_wrB0_2 (1 * 8 + s) (by omega) (ph_ix 1 s) (by decide) hW e1 (nm_r (nI_1 1)
            (pk_le 2 2 (fun _ => Y) (fun z => absurd z (by omega))))))))))⟩
      · have Y := H 0 a 0 b (by omega) (by omega) (by omega) (by omega) (by simp [ph_c]) (by simp [ph_c]; omega)
        exact ⟨2 + 1, pk_le 2 0 (fun z => absurd z (by omega)) (fun _ => br_t (by decide) (ph_wrA1_2 (0 * 8 + s) (by omega) (ph_ix 0 s) (by decide) hV e0 (nm_r (nI_1 0)
          (pk_le 2 1 (fun z => absurd z (by omega)) (fun _ => br_t (by decide) (ph_wrB1_2 (1 * 8 + s) (by omega) (ph_ix 1 s) (by decide) hW e1 (nm_r (nI_1 1)
            (pk_le 2 2 (fun _ => Y) (fun z => absurd z (by omega))))))))))⟩
  · have Y := H 0 0 0 0 (by omega) (by omega) (by omega) (by omega) (by rw [ph_c0 hsi]; rfl) (by rw [ph_c0 hsi]; rfl)
    exact ⟨2 + 1, pk_le 2 0 (fun z => absurd z (by omega)) (fun _ => br_t (by decide) (ph_wr0_2 (0 * 8 + s) (by omega) (ph_ix 0 s) (hT 0 s (by omega) hs hsi) (nm_r (nI_1 0)
      (pk_le 2 1 (fun z => absurd z (by omega)) (fun _ => br_t (by decide) (ph_wr0_2 (1 * 8 + s) (by omega) (ph_ix 1 s) (hT 1 s (by omega) hs hsi) (nm_r (nI_1 1)
        (pk_le 2 2 (fun _ => Y) (fun z => absurd z (by omega))))))))))⟩
theorem ph_site_2 {P : Int32 → St2 → Prop} {w a0 a1 b0 b1 : Int32} {T V C B W : Nat → Int32} {i a b o s m f : Nat} (k : ph_K i a b o T V) (hs : s < 8) (hm : m = 0 ∨ m = 2) (hf : f < 2)
    (hp : ∀ x0 x1 y0 y1 : Int32, P (nI (ph_c i a b o f m s)) (nI 2, w, x0, x1, y0, y1, T, V, C, B, W)) :
    wpX_siteCost_2 P (nI 2, w, a0, a1, b0, b1, T, V, C, B, W) (nI s) (nI m) (nI 3) (nI f) := by
  refine ph_weigh3_2 (a0 := a0) (a1 := a1) (b0 := b0) (b1 := b1) k hs hm (fun A0 A1 B0 B1 h0 h1 h2 h3 e0 e1 => pk_eq f 0 (fun z => ?_) (fun z => ?_))
  · subst z
    refine ph_sm A0 A1 (by omega) (by omega) (ph_sm B0 B1 (by omega) (by omega) ?_)
    rw [nI_add, e0]
    exact hp _ _ _ _
  · have z1 : f = 1 := by omega
    subst z1
    rw [nI_add, nI_add]
    refine ph_sm (A0 + B1) (A1 + B0) (by omega) (by omega) ?_
    rw [e1]
    exact hp _ _ _ _
theorem ph_site0_2 {P : Int32 → St2 → Prop} {w a0 a1 b0 b1 x1 x2 : Int32} {T V C B W : Nat → Int32} {f : Nat} (hf : f < 2)
    (hp : ∀ x0 x1 y0 y1 : Int32, P (nI 0) (nI 2, w, x0, x1, y0, y1, T, V, C, B, W)) :
    wpX_siteCost_2 P (nI 2, w, a0, a1, b0, b1, T, V, C, B, W) x1 x2 (nI 0) (nI f) :=
  ph_weigh0_2 (a0 := a0) (a1 := a1) (b0 := b0) (b1 := b1) (pk_eq f 0 (fun _ => ph_sm 0 0 (by omega) (by omega) (ph_sm 0 0 (by omega) (by omega) (hp _ _ _ _))) (fun _ => ph_sm 0 0 (by omega) (by omega) (hp _ _ _ _)))
end
section
/-! beginRead -/
theorem ph_begT {post : St2 → Prop} {x1 x2 q w w' a0 a1 b0 b1 : Int32} {T V C B W : Nat → Int32} (k0 n : Nat) (hk : k0 ≤ 256) (hn : 256 - k0 < n)
    (hw : ∀ m, m < 256 → k0 ≤ m → ¬ nI m &&& (w ^^^ (-1)) = 0) (hw' : w ||| x2 = w') (hp : post (q, w', a0, a1, b0, b1, T, V, C, B, W)) :
    wX_beginRead_6 post x1 x2 q w a0 a1 b0 b1 n (nI k0) T V C B W :=
  loop_i (σ := Unit) (fun n m _ => wX_beginRead_6 post x1 x2 q w a0 a1 b0 b1 n (nI m) T V C B W) (fun m _ => k0 ≤ m) 256
    (fun n _ _ => pk_le 256 256 (fun _ => nm_r hw' hp) (fun z => absurd z (by omega)))
    (fun n m _ hm h hr => pk_le 256 m (fun z => absurd z (by omega)) (fun _ => br_f (hw m hm h) (nm_r (nI_1 m) (hr () (Nat.le_succ_of_le h)))))
    n k0 () hk hn (Nat.le_refl k0)
theorem ph_begH {post : St2 → Prop} {q w a0 a1 b0 b1 z : Int32} {T V C B W : Nat → Int32} {n : Nat} (r e m k : Nat) (hr : r < 2) (hm : m < 256) (hk : k < 256)
    (hw : nI m &&& (w ^^^ (-1)) = 0) (hmk : nI m ||| nI e = nI k) (hz : (if r = 0 then nI 1000000 else C m) = z)
    (H : wX_beginRead_6 post (nI r) (nI e) q w a0 a1 b0 b1 n (nI (m + 1)) T V (upd C k z) (upd B k (B m ||| nI e)) (upd W k (W m))) :
    wX_beginRead_6 post (nI r) (nI e) q w a0 a1 b0 b1 (n + 1) (nI m) T V C B W := by
  have em : (nI m).toNatClampNeg = m := nI_clamp (by omega)
  have ek : (nI m ||| nI e).toNatClampNeg = k := by
    rw [hmk]
    exact nI_clamp (by omega)
  have h46 : ∀ y : Int32, y = z → wX_beginRead_46 post (wX_beginRead_6 post (nI r) (nI e) q w a0 a1 b0 b1 n) (nI r) (nI e) (nI m) y (nI m ||| nI e) q w a0 a1 b0 b1 T V C B W := by
    intro y hy
    subst hy
    exact ⟨pk_in k 256 hk hmk, nm_r (show upd C (nI m ||| nI e).toNatClampNeg y = upd C k y by rw [ek])
      ⟨pk_in m 256 hm, pk_in k 256 hk hmk, nm_r (show upd B (nI m ||| nI e).toNatClampNeg (B (nI m).toNatClampNeg ||| nI e) = upd B k (B m ||| nI e) by rw [ek, em])
        ⟨pk_in m 256 hm, pk_in k 256 hk hmk, nm_r (show upd W (nI m ||| nI e).toNatClampNeg (W (nI m).toNatClampNeg) = upd W k (W m) by rw [ek, em]) (nm_r (nI_1 m) H)⟩⟩⟩
  exact pk_le 256 m (fun z => absurd z (by omega)) (fun _ => br_t hw (pk_eq r 0 (fun z => h46 _ ((if_pos z).symm.trans hz)) (fun z => ⟨pk_in m 256 hm, h46 _ ((congrArg C em).trans ((if_neg z).symm.trans hz))⟩)))
theorem ph_begin0 {post : St2 → Prop} {q a0 a1 b0 b1 : Int32} {T V C B W : Nat → Int32}
    (H : ∀ C' B' W' : Nat → Int32, C' 0 = C 0 → C' 1 = nI 1000000 → B' 0 = B 0 → W' 0 = W 0 → post (q, nI 1, a0, a1, b0, b1, T, V, C', B', W')) :
    wpX_beginRead post (q, nI 0, a0, a1, b0, b1, T, V, C, B, W) (nI 0) :=
  nm_r (show (1 : Int32) <<< (nI 0 &&& 31) = nI 1 by decide)
    ⟨256 + 1, ph_begH 0 1 0 1 (by decide) (by decide) (by decide) (by decide) (by decide) rfl
      (ph_begT 1 256 (by decide) (by decide) ph_w0 (by decide) (H _ _ _ (pk_un (by decide)) pk_us (pk_un (by decide)) (pk_un (by decide))))⟩
theorem ph_begin1 {post : St2 → Prop} {q a0 a1 b0 b1 : Int32} {T V C B W : Nat → Int32}
    (H : ∀ C' B' W' : Nat → Int32, C' 0 = C 0 → C' 1 = C 1 → C' 2 = C 0 → C' 3 = C 1 → B' 0 = B 0 → B' 2 = B 0 ||| nI 2 → W' 0 = W 0 → W' 2 = W 0 → post (q, nI 3, a0, a1, b0, b1, T, V, C', B', W')) :
    wpX_beginRead post (q, nI 1, a0, a1, b0, b1, T, V, C, B, W) (nI 1) :=
  nm_r (show (1 : Int32) <<< (nI 1 &&& 31) = nI 2 by decide)
    ⟨255 + 1 + 1, ph_begH 1 2 0 2 (by decide) (by decide) (by decide) (by decide) (by decide) rfl
      (ph_begH 1 2 1 3 (by decide) (by decide) (by decide) (by decide) (by decide) rfl
        (ph_begT 2 255 (by decide) (by decide) ph_w1 (by decide) (H _ _ _ (by simp [upd]) (by simp [upd]) (by simp [upd]) (by simp [upd]) (by simp [upd]) (by simp [upd]) (by simp [upd]) (by simp [upd]))))⟩
/-! join, endRead -/
theorem ph_joinG {P : St2 → Prop} {q w a0 a1 b0 b1 : Int32} {T V C B W : Nat → Int32} (m k x y : Nat) (hm : m < 256) (hk : k < 256) (h1 : C m = nI x) (h2 : C k = nI y) (hxy : x < y) (hy : y < 2 ^ 31)
    (hp : P (q, w, a0, a1, b0, b1, T, V, C, B, W)) : wpX_join P (q, w, a0, a1, b0, b1, T, V, C, B, W) (nI m) (nI k) := by
  have em : (nI m).toNatClampNeg = m := nI_clamp (by omega)
  have ek : (nI k).toNatClampNeg = k := nI_clamp (by omega)
  exact ⟨pk_in k 256 hk, pk_in m 256 hm, br_t (by rw [em, ek, h1, h2]; exact nI_le (by omega) hy)
    ⟨pk_in k 256 hk, pk_in m 256 hm, br_f (by rw [em, ek, h1, h2, nI_eq hy (by omega)]; omega) hp⟩⟩
theorem ph_joinL {P : St2 → Prop} {q w a0 a1 b0 b1 : Int32} {T V C B W : Nat → Int32} (m k x y : Nat) (hm : m < 256) (hk : k < 256) (h1 : C m = nI x) (h2 : C k = nI y) (hxy : y < x) (hx : x < 2 ^ 31)
    (hp : P (q, w, a0, a1, b0, b1, T, V, upd C m (C k), upd B m (B k), upd W m (W k))) : wpX_join P (q, w, a0, a1, b0, b1, T, V, C, B, W) (nI m) (nI k) := by
  have em : (nI m).toNatClampNeg = m := nI_clamp (by omega)
  have ek : (nI k).toNatClampNeg = k := nI_clamp (by omega)
  exact ⟨pk_in k 256 hk, pk_in m 256 hm, br_f (by rw [em, ek, h1, h2]; exact nI_ge hxy hx)
    ⟨pk_in k 256 hk, pk_in m 256 hm, nm_r (show upd C (nI m).toNatClampNeg (C (nI k).toNatClampNeg) = upd C m (C k) by rw [em, ek])
      ⟨pk_in k 256 hk, pk_in m 256 hm, nm_r (show upd B (nI m).toNatClampNeg (B (nI k).toNatClampNeg) = upd B m (B k) by rw [em, ek])
        ⟨pk_in k 256 hk, pk_in m 256 hm, nm_r (show upd W (nI m).toNatClampNeg (W (nI k).toNatClampNeg) = upd W m (W k) by rw [em, ek]) hp⟩⟩⟩⟩
theorem ph_joinE {P : St2 → Prop} {q w a0 a1 b0 b1 : Int32} {T V C B W : Nat → Int32} (m k x : Nat) (hm : m < 256) (hk : k < 256) (h1 : C m = nI x) (h2 : C k = nI x) (hb : B m ≤ B k)
    (hp : P (q, w, a0, a1, b0, b1, T, V, C, B, upd W m (W m + W k))) : wpX_join P (q, w, a0, a1, b0, b1, T, V, C, B, W) (nI m) (nI k) := by
  have em : (nI m).toNatClampNeg = m := nI_clamp (by omega)
  have ek : (nI k).toNatClampNeg = k := nI_clamp (by omega)
  exact ⟨pk_in k 256 hk, pk_in m 256 hm, br_t (by rw [em, ek, h1, h2]; exact Int32.le_refl _)
    ⟨pk_in k 256 hk, pk_in m 256 hm, br_t (by rw [em, ek, h1, h2])
      ⟨pk_in k 256 hk, pk_in m 256 hm, br_t (by rw [em, ek]; exact hb)
        ⟨pk_in m 256 hm, pk_in k 256 hk, pk_in m 256 hm, nm_r (show upd W (nI m).toNatClampNeg (W (nI m).toNatClampNeg + W (nI k).toNatClampNeg) = upd W m (W m + W k) by rw [em, ek]) hp⟩⟩⟩⟩
theorem ph_endT {post : St2 → Prop} {x2 q w a0 a1 b0 b1 : Int32} {T V C B W : Nat → Int32} (k0 n : Nat) (hk : k0 ≤ 256) (hn : 256 - k0 < n)
    (hw : ∀ m, m < 256 → k0 ≤ m → ¬ nI m &&& (w ^^^ (-1)) = 0) (hp : post (q, w, a0, a1, b0, b1, T, V, C, B, W)) :
    wX_endRead_18 post x2 n (nI k0) q w a0 a1 b0 b1 T V C B W :=
  loop_i (σ := Unit) (fun n m _ => wX_endRead_18 post x2 n (nI m) q w a0 a1 b0 b1 T V C B W) (fun m _ => k0 ≤ m) 256
    (fun n _ _ => pk_le 256 256 (fun _ => hp) (fun z => absurd z (by omega)))
    (fun n m _ hm h hr => pk_le 256 m (fun z => absurd z (by omega)) (fun _ => br_f (hw m hm h) (nm_r (nI_1 m) (hr () (Nat.le_succ_of_le h)))))
    n k0 () hk hn (Nat.le_refl k0)
theorem ph_endX {post : St2 → Prop} {x2 q w a0 a1 b0 b1 : Int32} {T V C B W : Nat → Int32} {n : Nat} (m : Nat) (hm : m < 256)
    (hw : ¬ nI m &&& (w ^^^ (-1)) = 0) (H : wX_endRead_18 post x2 n (nI (m + 1)) q w a0 a1 b0 b1 T V C B W) :
    wX_endRead_18 post x2 (n + 1) (nI m) q w a0 a1 b0 b1 T V C B W :=
  pk_le 256 m (fun z => absurd z (by omega)) (fun _ => br_f hw (nm_r (nI_1 m) H))
theorem ph_endH {post : St2 → Prop} {q w a0 a1 b0 b1 : Int32} {T V C B W C' B' W' : Nat → Int32} {n : Nat} (e m k : Nat) (hm : m < 256)
    (hw : nI m &&& (w ^^^ (-1)) = 0) (hmk : nI m ||| nI e = nI k)
    (hj : ∀ P : St2 → Prop, P (q, w, a0, a1, b0, b1, T, V, C', B', W') → wpX_join P (q, w, a0, a1, b0, b1, T, V, C, B, W) (nI m) (nI k))
    (H : wX_endRead_18 post (nI e) n (nI (m + 1)) q w a0 a1 b0 b1 T V C' B' W') :
    wX_endRead_18 post (nI e) (n + 1) (nI m) q w a0 a1 b0 b1 T V C B W :=
  pk_le 256 m (fun z => absurd z (by omega)) (fun _ => br_t hw (by rw [hmk]; exact hj _ (nm_r (nI_1 m) H)))
theorem ph_end0 {post : St2 → Prop} {q a0 a1 b0 b1 : Int32} {T V C B W : Nat → Int32} {c0 c2 : Nat} (h0 : C 0 = nI c0) (h1 : C 1 = nI 1000000) (h2 : C 2 = nI c2) (h3 : C 3 = nI 1000000)
    (l0 : c0 < 1000000) (l2 : c2 < 1000000) (hp : post (q, nI 2, a0, a1, b0, b1, T, V, C, B, W)) :
    wpX_endRead post (q, nI 3, a0, a1, b0, b1, T, V, C, B, W) (nI 0) :=
  nm_r (show (1 : Int32) <<< (nI 0 &&& 31) = nI 1 by decide) (nm_r (show nI 3 &&& (nI 1 ^^^ (-1)) = nI 2 by decide)
    ⟨254 + 1 + 1 + 1, ph_endH 1 0 1 (by decide) (by decide) (by decide) (fun P hP => ph_joinG 0 1 c0 1000000 (by decide) (by decide) h0 h1 l0 (by decide) hP)
      (ph_endX 1 (by decide) (by decide)
        (ph_endH 1 2 3 (by decide) (by decide) (by decide) (fun P hP => ph_joinG 2 3 c2 1000000 (by decide) (by decide) h2 h3 l2 (by decide) hP)
          (ph_endT 3 254 (by decide) (by decide) ph_w2 hp)))⟩)
theorem ph_end1 {post : St2 → Prop} {q a0 a1 b0 b1 : Int32} {T V C B W : Nat → Int32} {c0 c2 : Nat} (h0 : C 0 = nI c0) (h2 : C 2 = nI c2) (l0 : c0 < 1000000) (l2 : c2 < 1000000)
    (g0 : B 0 = nI 0) (g2 : B 2 = nI 2) (v0 : W 0 = nI 1) (v2 : W 2 = nI 1)
    (H : ∀ C' B' W' : Nat → Int32, C' 0 = nI (min c0 c2) → B' 0 = nI (if c2 < c0 then 2 else 0) → W' 0 = nI (if c2 = c0 then 2 else 1) → post (q, nI 0, a0, a1, b0, b1, T, V, C', B', W')) :
    wpX_endRead post (q, nI 2, a0, a1, b0, b1, T, V, C, B, W) (nI 1) := by
  refine nm_r (show (1 : Int32) <<< (nI 1 &&& 31) = nI 2 by decide) (nm_r (show nI 2 &&& (nI 2 ^^^ (-1)) = nI 0 by decide) ⟨256 + 1, ?_⟩)
  by_cases hc : c2 < c0
  · refine ph_endH 2 0 2 (by decide) (by decide) (by decide) (fun P hP => ph_joinL 0 2 c0 c2 (by decide) (by decide) h0 h2 hc (by omega) hP)
      (ph_endT 1 256 (by decide) (by decide) ph_w0 (H _ _ _ ?_ ?_ ?_))
    · rw [pk_us, h2, show min c0 c2 = c2 by omega]
    · rw [pk_us, g2, if_pos hc]
    · rw [pk_us, v2, if_neg (by omega)]
  · by_cases he : c2 = c0
    · refine ph_endH 2 0 2 (by decide) (by decide) (by decide) (fun P hP => ph_joinE 0 2 c0 (by decide) (by decide) h0 (he ▸ h2) (by rw [g0, g2]; decide) hP)
        (ph_endT 1 256 (by decide) (by decide) ph_w0 (H _ _ _ ?_ ?_ ?_))
      · rw [h0, show min c0 c2 = c0 by omega]
      · rw [g0, if_neg hc]
      · rw [pk_us, v0, v2, if_pos he, nI_add]
    · refine ph_endH 2 0 2 (by decide) (by decide) (by decide) (fun P hP => ph_joinG 0 2 c0 c2 (by decide) (by decide) h0 h2 (by omega) (by omega) hP)
        (ph_endT 1 256 (by decide) (by decide) ph_w0 (H _ _ _ ?_ ?_ ?_))
      · rw [h0, show min c0 c2 = c0 by omega]
      · rw [g0, if_neg hc]
      · rw [v0, if_neg he]
/-! addSite -/
theorem ph_addT {post : St2 → Prop} {x1 x2 q w a0 a1 b0 b1 : Int32} {T V C B W : Nat → Int32} (k0 n : Nat) (hk : k0 ≤ 256) (hn : 256 - k0 < n)
    (hw : ∀ m, m < 256 → k0 ≤ m → ¬ nI m &&& (w ^^^ (-1)) = 0) (hp : post (q, w, a0, a1, b0, b1, T, V, C, B, W)) :
    wX_addSite_2 post x1 x2 n (nI k0) q w a0 a1 b0 b1 T V C B W :=
  loop_i (σ := Unit) (fun n m _ => wX_addSite_2 post x1 x2 n (nI m) q w a0 a1 b0 b1 T V C B W) (fun m _ => k0 ≤ m) 256
    (fun n _ _ => pk_le 256 256 (fun _ => hp) (fun z => absurd z (by omega)))
    (fun n m _ hm h hr => pk_le 256 m (fun z => absurd z (by omega)) (fun _ => br_f (hw m hm h) (nm_r (nI_1 m) (hr () (Nat.le_succ_of_le h)))))
    n k0 () hk hn (Nat.le_refl k0)
theorem ph_addS {post : St2 → Prop} {x1 x2 q w a0 a1 b0 b1 : Int32} {T V C B W : Nat → Int32} {n : Nat} (m : Nat) (hm : m < 256) (hw : nI m &&& (w ^^^ (-1)) = 0) (hc : C m = nI 1000000)
    (H : wX_addSite_2 post x1 x2 n (nI (m + 1)) q w a0 a1 b0 b1 T V C B W) : wX_addSite_2 post x1 x2 (n + 1) (nI m) q w a0 a1 b0 b1 T V C B W :=
  pk_le 256 m (fun z => absurd z (by omega)) (fun _ => br_t hw ⟨pk_in m 256 hm, br_t (by rw [nI_clamp (by omega), hc]; decide) (nm_r (nI_1 m) H)⟩)
theorem ph_addH {post : St2 → Prop} {x1 x2 q w a0 a1 b0 b1 : Int32} {T V C B W : Nat → Int32} {n : Nat} (m c d : Nat) (hm : m < 256) (hw : nI m &&& (w ^^^ (-1)) = 0) (hc : C m = nI c) (hc' : c < 1000000)
    (hs : ∀ P : Int32 → St2 → Prop, (∀ x0 x1 y0 y1 : Int32, P (nI d) (q, w, x0, x1, y0, y1, T, V, C, B, W)) → wpX_siteCost P (q, w, a0, a1, b0, b1, T, V, C, B, W) x1 (nI m) w x2)
    (H : ∀ z0 z1 y0 y1 : Int32, wX_addSite_2 post x1 x2 n (nI (m + 1)) q w z0 z1 y0 y1 T V (upd C m (nI (c + d))) B W) :
    wX_addSite_2 post x1 x2 (n + 1) (nI m) q w a0 a1 b0 b1 T V C B W := by
  have e : (nI m).toNatClampNeg = m := nI_clamp (by omega)
  refine pk_le 256 m (fun z => absurd z (by omega)) (fun _ => br_t hw ⟨pk_in m 256 hm, br_f ?_ ⟨pk_in m 256 hm, hs _ (fun z0 z1 y0 y1 => ⟨pk_in m 256 hm, nm_r ?_ (nm_r (nI_1 m) (H z0 z1 y0 y1))⟩)⟩⟩)
  · rw [e, hc]
    exact nI_ge (b := 1000000) hc' (by decide)
  · rw [e, hc, nI_add]
theorem ph_add0 {post : St2 → Prop} {x1 a0 a1 b0 b1 : Int32} {T V C B W : Nat → Int32} {f c : Nat} (hf : f < 2) (hc : C 0 = nI c) (hc' : c < 1000000)
    (H : ∀ (z0 z1 y0 y1 : Int32) (C' : Nat → Int32), C' 0 = nI c → post (nI 2, nI 0, z0, z1, y0, y1, T, V, C', B, W)) :
    wpX_addSite post (nI 2, nI 0, a0, a1, b0, b1, T, V, C, B, W) x1 (nI f) :=
  ⟨256 + 1, ph_addH 0 c 0 (by decide) (by decide) hc hc' (fun P hP => ph_site0 hf hP)
    (fun z0 z1 y0 y1 => ph_addT 1 256 (by decide) (by decide) ph_w0 (H z0 z1 y0 y1 _ pk_us))⟩
theorem ph_add3 {post : St2 → Prop} {a0 a1 b0 b1 : Int32} {T V C B W : Nat → Int32} {i a b o s f c0 c2 : Nat} (k : ph_K i a b o T V) (hs : s < 8) (hf : f < 2)
    (h0 : C 0 = nI c0) (h1 : C 1 = nI 1000000) (h2 : C 2 = nI c2) (h3 : C 3 = nI 1000000) (l0 : c0 < 1000000) (l2 : c2 < 1000000)
    (H : ∀ (z0 z1 y0 y1 : Int32) (C' : Nat → Int32), C' 0 = nI (c0 + ph_c i a b o f 0 s) → C' 1 = nI 1000000 → C' 2 = nI (c2 + ph_c i a b o f 2 s) → C' 3 = nI 1000000 →
      post (nI 2, nI 3, z0, z1, y0, y1, T, V, C', B, W)) :
    wpX_addSite post (nI 2, nI 3, a0, a1, b0, b1, T, V, C, B, W) (nI s) (nI f) :=
  ⟨253 + 1 + 1 + 1 + 1, ph_addH 0 c0 _ (by decide) (by decide) h0 l0 (fun P hP => ph_site k hs (Or.inl rfl) hf hP)
    (fun z0 z1 y0 y1 => ph_addS 1 (by decide) (by decide) ((pk_un (by decide)).trans h1)
      (ph_addH 2 c2 _ (by decide) (by decide) ((pk_un (by decide)).trans h2) l2 (fun P hP => ph_site k hs (Or.inr rfl) hf hP)
        (fun z0 z1 y0 y1 => ph_addS 3 (by decide) (by decide) ((pk_un (by decide)).trans ((pk_un (by decide)).trans h3))
          (ph_addT 4 253 (by decide) (by decide) ph_w3 (H z0 z1 y0 y1 _ ((pk_un (by decide)).trans pk_us) ((pk_un (by decide)).trans ((pk_un (by decide)).trans h1)) pk_us ((pk_un (by decide)).trans ((pk_un (by decide)).trans h3)))))))⟩
end
section
theorem ph_ne {x y : Nat} (h : x ≠ y) (hx : x < 2 ^ 31) (hy : y < 2 ^ 31) : ¬ nI x = nI y := by
  rw [nI_eq hx hy]
  exact h
/-! one site, nothing kept -/
theorem ph_stepN {post : St2 → Prop} {J : Int32 → Int32 → Int32 → Int32 → Int32 → Int32 → Int32 → (Nat → Int32) → (Nat → Int32) → (Nat → Int32) → (Nat → Int32) → (Nat → Int32) → Prop}
    {a0 a1 b0 b1 : Int32} {T V C B W : Nat → Int32} {i a b o s f c : Nat} (k : ph_K i a b o T V) (hs : s < 8) (hf : f < 2) (hsi : s ≠ i) (hc : C 0 = nI c) (hc' : c < 1000000)
    (H : ∀ (z0 z1 y0 y1 : Int32) (C' : Nat → Int32), C' 0 = nI c → J (nI (s + 1)) (nI 2) (nI 0) z0 z1 y0 y1 T V C' B W) :
    ∃ n, wX_solve_81 post J (nI 0) (nI f) (nI s) n 0 (nI 2) (nI 0) a0 a1 b0 b1 T V C B W := by
  have hi := k.1
  have hne : ¬ nI i = nI s := ph_ne (by omega) (by omega) (by omega)
  refine ⟨2 + 1, pk_le 2 0 (fun z => absurd z (by omega)) (fun _ => ph_first 0 k (by omega) (br_f hne (nm_r (nI_1 0) ?_)))⟩
  refine pk_le 2 1 (fun z => absurd z (by omega)) (fun _ => ph_first 1 k (by omega) (br_f hne (nm_r (nI_1 1) ?_)))
  refine pk_le 2 2 (fun _ => ph_add0 hf hc hc' (fun z0 z1 y0 y1 C' h => ⟨2 + 1, ?_⟩)) (fun z => absurd z (by omega))
  refine pk_le 2 0 (fun z => absurd z (by omega)) (fun _ => ph_last 0 k (by omega) (br_f hne (nm_r (nI_1 0) ?_)))
  refine pk_le 2 1 (fun z => absurd z (by omega)) (fun _ => ph_last 1 k (by omega) (br_f hne (nm_r (nI_1 1) ?_)))
  exact pk_le 2 2 (fun _ => nm_r (nI_1 s) (H z0 z1 y0 y1 C' h)) (fun z => absurd z (by omega))
theorem ph_stepI {post : St2 → Prop} {J : Int32 → Int32 → Int32 → Int32 → Int32 → Int32 → Int32 → (Nat → Int32) → (Nat → Int32) → (Nat → Int32) → (Nat → Int32) → (Nat → Int32) → Prop}
    {a0 a1 b0 b1 : Int32} {T V C B W : Nat → Int32} {i a b o f : Nat} (k : ph_K i a b o T V) (hf : f < 2) (hc : C 0 = nI 0) (hb : B 0 = nI 0) (hw : W 0 = nI 1)
    (H : ∀ (z0 z1 y0 y1 : Int32) (C' B' W' : Nat → Int32), C' 0 = nI (min (ph_c i a b o f 0 i) (ph_c i a b o f 2 i)) → B' 0 = nI (if ph_c i a b o f 2 i < ph_c i a b o f 0 i then 2 else 0) →
      W' 0 = nI (if ph_c i a b o f 2 i = ph_c i a b o f 0 i then 2 else 1) → J (nI (i + 1)) (nI 2) (nI 0) z0 z1 y0 y1 T V C' B' W') :
    ∃ n, wX_solve_81 post J (nI 0) (nI f) (nI i) n 0 (nI 2) (nI 0) a0 a1 b0 b1 T V C B W := by
  have hi := k.1
  have l0 : ph_c i a b o f 0 i < 1000000 := Nat.lt_of_le_of_lt (ph_cle k) (by decide)
  have l2 : ph_c i a b o f 2 i < 1000000 := Nat.lt_of_le_of_lt (ph_cle k) (by decide)
  refine ⟨2 + 1, pk_le 2 0 (fun z => absurd z (by omega)) (fun _ => ph_first 0 k (by omega) (br_t rfl (br_t (by decide) (ph_begin0 (fun C1 B1 W1 e0 e1 g0 v0 => nm_r (nI_1 0) ?_)))))⟩
  refine pk_le 2 1 (fun z => absurd z (by omega)) (fun _ => ph_first 1 k (by omega) (br_t rfl (br_t (by decide) (ph_begin1 (fun C2 B2 W2 p0 p1 p2 p3 r0 r2 u0 u2 => nm_r (nI_1 1) ?_)))))
  refine pk_le 2 2 (fun _ => ph_add3 (c0 := 0) (c2 := 0) k hi hf (p0.trans (e0.trans hc)) (p1.trans e1) (p2.trans (e0.trans hc)) (p3.trans e1) (by decide) (by decide)
    (fun z0 z1 y0 y1 C3 d0 d1 d2 d3 => ⟨2 + 1, ?_⟩)) (fun z => absurd z (by omega))
  rw [Nat.zero_add] at d0 d2
  have q0 : B2 0 = nI 0 := r0.trans (g0.trans hb)
  have q2 : B2 2 = nI 2 := by
    rw [r2, g0, hb]
    decide
  have t0 : W2 0 = nI 1 := u0.trans (v0.trans hw)
  have t2 : W2 2 = nI 1 := u2.trans (v0.trans hw)
  refine pk_le 2 0 (fun z => absurd z (by omega)) (fun _ => ph_last 0 k (by omega) (br_t rfl (br_t (by decide) (ph_end0 d0 d1 d2 d3 l0 l2 (nm_r (nI_1 0) ?_)))))
  refine pk_le 2 1 (fun z => absurd z (by omega)) (fun _ => ph_last 1 k (by omega) (br_t rfl (br_t (by decide) (ph_end1 d0 d2 l0 l2 q0 q2 t0 t2 (fun C4 B4 W4 m0 m1 m2 => nm_r (nI_1 1) ?_)))))
  exact pk_le 2 2 (fun _ => nm_r (nI_1 i) (H z0 z1 y0 y1 C4 B4 W4 m0 m1 m2)) (fun z => absurd z (by omega))
/-! all sites, nothing kept -/
theorem ph_sites0 {post : St2 → Prop} {a0 a1 b0 b1 : Int32} {T V C B W : Nat → Int32} {i a b o f c g v : Nat} (k : ph_K i a b o T V) (hf : f < 2)
    (hc : c = min (ph_c i a b o f 0 i) (ph_c i a b o f 2 i)) (hg : g = if ph_c i a b o f 2 i < ph_c i a b o f 0 i then 2 else 0) (hv : v = if ph_c i a b o f 2 i = ph_c i a b o f 0 i then 2 else 1)
    (h0 : C 0 = nI 0) (h1 : B 0 = nI 0) (h2 : W 0 = nI 1)
    (H : ∀ (z0 z1 y0 y1 : Int32) (C' B' W' : Nat → Int32), C' 0 = nI c → B' 0 = nI g → W' 0 = nI v → post (nI 2, nI 0, z0, z1, y0, y1, T, V, C', B', W')) :
    ∃ n, wX_solve_72 post (nI 0) (nI f) n 0 (nI 2) (nI 0) a0 a1 b0 b1 T V C B W := by
  have hi := k.1
  have lc : c < 1000000 := by
    have l0 : ph_c i a b o f 0 i ≤ 9 := ph_cle k
    omega
  refine pk_loop (σ := Int32 × Int32 × Int32 × Int32 × (Nat → Int32) × (Nat → Int32) × (Nat → Int32))
    (fun n s u => wX_solve_72 post (nI 0) (nI f) n (nI s) (nI 2) (nI 0) u.1 u.2.1 u.2.2.1 u.2.2.2.1 T V u.2.2.2.2.1 u.2.2.2.2.2.1 u.2.2.2.2.2.2)
    (fun s u => u.2.2.2.2.1 0 = nI (if s ≤ i then 0 else c) ∧ u.2.2.2.2.2.1 0 = nI (if s ≤ i then 0 else g) ∧ u.2.2.2.2.2.2 0 = nI (if s ≤ i then 1 else v))
    8 0 (a0, a1, b0, b1, C, B, W) (by omega) ⟨?_, ?_, ?_⟩ ?_ ?_
  · rw [if_pos (Nat.zero_le i)]
    exact h0
  · rw [if_pos (Nat.zero_le i)]
    exact h1
  · rw [if_pos (Nat.zero_le i)]
    exact h2
  · intro n u he
    obtain ⟨z0, z1, y0, y1, C', B', W'⟩ := u
    obtain ⟨e0, e1, e2⟩ := he
    rw [if_neg (by omega)] at e0 e1 e2
    show wX_solve_72 post (nI 0) (nI f) (n + 1) (nI 8) (nI 2) (nI 0) z0 z1 y0 y1 T V C' B' W'
    refine pk_le 8 8 (fun _ => ⟨2 + 1, ?_⟩) (fun z => absurd z (by omega))
    refine pk_le 2 0 (fun z => absurd z (by omega)) (fun _ => br_t (by decide) (br_f (by decide) (nm_r (nI_1 0) ?_)))
    refine pk_le 2 1 (fun z => absurd z (by omega)) (fun _ => br_t (by decide) (br_f (by decide) (nm_r (nI_1 1) ?_)))
    exact pk_le 2 2 (fun _ => H z0 z1 y0 y1 C' B' W' e0 e1 e2) (fun z => absurd z (by omega))
  · intro n s u hs he hr
    obtain ⟨z0, z1, y0, y1, C', B', W'⟩ := u
    obtain ⟨e0, e1, e2⟩ := he
    have hr' : ∀ (z0 z1 y0 y1 : Int32) (C' B' W' : Nat → Int32), C' 0 = nI (if s + 1 ≤ i then 0 else c) → B' 0 = nI (if s + 1 ≤ i then 0 else g) → W' 0 = nI (if s + 1 ≤ i then 1 else v) →
        wX_solve_72 post (nI 0) (nI f) n (nI (s + 1)) (nI 2) (nI 0) z0 z1 y0 y1 T V C' B' W' := fun z0 z1 y0 y1 C' B' W' t0 t1 t2 => hr (z0, z1, y0, y1, C', B', W') ⟨t0, t1, t2⟩
    show wX_solve_72 post (nI 0) (nI f) (n + 1) (nI s) (nI 2) (nI 0) z0 z1 y0 y1 T V C' B' W'
    refine pk_le 8 s (fun z => absurd z (by omega)) (fun _ => ?_)
    by_cases hsi : s = i
    · subst hsi
      rw [if_pos (Nat.le_refl s)] at e0 e1 e2
      rw [if_neg (by omega), if_neg (by omega), if_neg (by omega), hc, hg, hv] at hr'
      exact ph_stepI k hf e0 e1 e2 hr'
    · have q : (s + 1 ≤ i) = (s ≤ i) := propext (by omega)
      simp only [q] at hr'
      refine ph_stepN k hs hf hsi e0 (by split <;> omega) (fun z0 z1 y0 y1 C1 t0 => hr' z0 z1 y0 y1 C1 _ _ t0 e1 e2)
theorem ph_solve0 {post : St2 → Prop} {w a0 a1 b0 b1 : Int32} {T V C B W : Nat → Int32} {i a b o f : Nat} (k : ph_K i a b o T V) (hf : f < 2)
    (H : ∀ (z0 z1 y0 y1 : Int32) (C' B' W' : Nat → Int32), C' 0 = nI (min (ph_c i a b o f 0 i) (ph_c i a b o f 2 i)) → B' 0 = nI (if ph_c i a b o f 2 i < ph_c i a b o f 0 i then 2 else 0) →
      W' 0 = nI (if ph_c i a b o f 2 i = ph_c i a b o f 0 i then 2 else 1) → post (nI 2, nI 0, z0, z1, y0, y1, T, V, C', B', W')) :
    wpX_solve post (nI 2, w, a0, a1, b0, b1, T, V, C, B, W) (nI 0) (nI f) := by
  have hi := k.1
  have h8 : ¬ nI i = 8 := ph_ne (y := 8) (by omega) (by omega) (by omega)
  refine nm_e (nm_e (nm_e ⟨2 + 1, pk_le 2 0 (fun z => absurd z (by omega)) (fun _ => ph_first 0 k (by omega) (br_f (by decide) (br_f h8 (nm_r (nI_1 0) ?_))))⟩))
  refine pk_le 2 1 (fun z => absurd z (by omega)) (fun _ => ph_first 1 k (by omega) (br_f (by decide) (br_f h8 (nm_r (nI_1 1) ?_))))
  exact pk_le 2 2 (fun _ => ph_sites0 k hf rfl rfl rfl pk_us pk_us pk_us H) (fun z => absurd z (by omega))
/-! both kept -/
theorem ph_stepK {post : St2 → Prop} {J : Int32 → Int32 → Int32 → Int32 → Int32 → Int32 → Int32 → (Nat → Int32) → (Nat → Int32) → (Nat → Int32) → (Nat → Int32) → (Nat → Int32) → Prop}
    {a0 a1 b0 b1 : Int32} {T V C B W : Nat → Int32} {i a b o s f c0 c2 : Nat} (k : ph_K i a b o T V) (hs : s < 8) (hf : f < 2)
    (h0 : C 0 = nI c0) (h1 : C 1 = nI 1000000) (h2 : C 2 = nI c2) (h3 : C 3 = nI 1000000) (l0 : c0 < 1000000) (l2 : c2 < 1000000)
    (H : ∀ (z0 z1 y0 y1 : Int32) (C' : Nat → Int32), C' 0 = nI (c0 + ph_c i a b o f 0 s) → C' 1 = nI 1000000 → C' 2 = nI (c2 + ph_c i a b o f 2 s) → C' 3 = nI 1000000 →
      J (nI (s + 1)) (nI 2) (nI 3) z0 z1 y0 y1 T V C' B W) :
    ∃ n, wX_solve_81 post J (nI 3) (nI f) (nI s) n 0 (nI 2) (nI 3) a0 a1 b0 b1 T V C B W := by
  have t3 : wX_solve_81 post J (nI 3) (nI f) (nI s) (0 + 1) (nI 2) (nI 2) (nI 3) a0 a1 b0 b1 T V C B W := by
    refine pk_le 2 2 (fun _ => ph_add3 k hs hf h0 h1 h2 h3 l0 l2 (fun z0 z1 y0 y1 C' d0 d1 d2 d3 => ⟨2 + 1, ?_⟩)) (fun z => absurd z (by omega))
    have r3 : wX_solve_137 post J (nI 3) (nI f) (nI s) (0 + 1) (nI 2) (nI 2) (nI 3) z0 z1 y0 y1 T V C' B W :=
      pk_le 2 2 (fun _ => nm_r (nI_1 s) (H z0 z1 y0 y1 C' d0 d1 d2 d3)) (fun z => absurd z (by omega))
    have r2 : wX_solve_137 post J (nI 3) (nI f) (nI s) (1 + 1) (nI 1) (nI 2) (nI 3) z0 z1 y0 y1 T V C' B W :=
      pk_le 2 1 (fun z => absurd z (by omega)) (fun _ => ph_last 1 k (by omega) (br_c (fun _ => br_f (by decide) (nm_r (nI_1 1) r3)) (fun _ => nm_r (nI_1 1) r3)))
    exact pk_le 2 0 (fun z => absurd z (by omega)) (fun _ => ph_last 0 k (by omega) (br_c (fun _ => br_f (by decide) (nm_r (nI_1 0) r2)) (fun _ => nm_r (nI_1 0) r2)))
  have t2 : wX_solve_81 post J (nI 3) (nI f) (nI s) (1 + 1) (nI 1) (nI 2) (nI 3) a0 a1 b0 b1 T V C B W :=
    pk_le 2 1 (fun z => absurd z (by omega)) (fun _ => ph_first 1 k (by omega) (br_c (fun _ => br_f (by decide) (nm_r (nI_1 1) t3)) (fun _ => nm_r (nI_1 1) t3)))
  exact ⟨2 + 1, pk_le 2 0 (fun z => absurd z (by omega)) (fun _ => ph_first 0 k (by omega) (br_c (fun _ => br_f (by decide) (nm_r (nI_1 0) t2)) (fun _ => nm_r (nI_1 0) t2)))⟩
theorem ph_grow {i a b o f m s : Nat} : (if s ≤ i then 0 else ph_c i a b o f m i) + ph_c i a b o f m s = if s + 1 ≤ i then 0 else ph_c i a b o f m i := by
  by_cases h : s = i
  · subst h
    rw [if_pos (Nat.le_refl s), if_neg (by omega), Nat.zero_add]
  · rw [ph_c0 h, Nat.add_zero]
    by_cases h2 : s ≤ i
    · rw [if_pos h2, if_pos (by omega)]
    · rw [if_neg h2, if_neg (by omega)]
theorem ph_sites3 {post : St2 → Prop} {a0 a1 b0 b1 : Int32} {T V C B W : Nat → Int32} {i a b o f : Nat} (k : ph_K i a b o T V) (hf : f < 2)
    (h0 : C 0 = nI 0) (h1 : C 1 = nI 1000000) (h2 : C 2 = nI 0) (h3 : C 3 = nI 1000000)
    (H : ∀ (z0 z1 y0 y1 : Int32) (C' : Nat → Int32), C' 0 = nI (ph_c i a b o f 0 i) → C' 1 = nI 1000000 → C' 2 = nI (ph_c i a b o f 2 i) → C' 3 = nI 1000000 →
      post (nI 2, nI 3, z0, z1, y0, y1, T, V, C', B, W)) :
    ∃ n, wX_solve_72 post (nI 3) (nI f) n 0 (nI 2) (nI 3) a0 a1 b0 b1 T V C B W := by
  have hi := k.1
  have l0 : ph_c i a b o f 0 i ≤ 9 := ph_cle k
  have l2 : ph_c i a b o f 2 i ≤ 9 := ph_cle k
  refine pk_loop (σ := Int32 × Int32 × Int32 × Int32 × (Nat → Int32))
    (fun n s u => wX_solve_72 post (nI 3) (nI f) n (nI s) (nI 2) (nI 3) u.1 u.2.1 u.2.2.1 u.2.2.2.1 T V u.2.2.2.2 B W)
    (fun s u => u.2.2.2.2 0 = nI (if s ≤ i then 0 else ph_c i a b o f 0 i) ∧ u.2.2.2.2 1 = nI 1000000 ∧ u.2.2.2.2 2 = nI (if s ≤ i then 0 else ph_c i a b o f 2 i) ∧ u.2.2.2.2 3 = nI 1000000)
    8 0 (a0, a1, b0, b1, C) (by omega) ⟨?_, h1, ?_, h3⟩ ?_ ?_
  · rw [if_pos (Nat.zero_le i)]
    exact h0
  · rw [if_pos (Nat.zero_le i)]
    exact h2
  · intro n u he
    obtain ⟨z0, z1, y0, y1, C'⟩ := u
    obtain ⟨e0, e1, e2, e3⟩ := he
    rw [if_neg (by omega)] at e0 e2
    show wX_solve_72 post (nI 3) (nI f) (n + 1) (nI 8) (nI 2) (nI 3) z0 z1 y0 y1 T V C' B W
    refine pk_le 8 8 (fun _ => ⟨2 + 1, ?_⟩) (fun z => absurd z (by omega))
    refine pk_le 2 0 (fun z => absurd z (by omega)) (fun _ => br_f (by decide) (nm_r (nI_1 0) ?_))
    refine pk_le 2 1 (fun z => absurd z (by omega)) (fun _ => br_f (by decide) (nm_r (nI_1 1) ?_))
    exact pk_le 2 2 (fun _ => H z0 z1 y0 y1 C' e0 e1 e2 e3) (fun z => absurd z (by omega))
  · intro n s u hs he hr
    obtain ⟨z0, z1, y0, y1, C'⟩ := u
    obtain ⟨e0, e1, e2, e3⟩ := he
    show wX_solve_72 post (nI 3) (nI f) (n + 1) (nI s) (nI 2) (nI 3) z0 z1 y0 y1 T V C' B W
    refine pk_le 8 s (fun z => absurd z (by omega)) (fun _ => ?_)
    refine ph_stepK k hs hf e0 e1 e2 e3 (by split <;> omega) (by split <;> omega) (fun z0 z1 y0 y1 C1 t0 t1 t2 t3 => ?_)
    rw [ph_grow] at t0 t2
    exact hr (z0, z1, y0, y1, C1) ⟨t0, t1, t2, t3⟩
theorem ph_solve3 {post : St2 → Prop} {w a0 a1 b0 b1 p : Int32} {T V C B W : Nat → Int32} {i a b o f : Nat} (k : ph_K i a b o T V) (hf : f < 2) (h3 : p = nI 3)
    (H : ∀ (z0 z1 y0 y1 : Int32) (C' B' W' : Nat → Int32), C' 0 = nI (ph_c i a b o f 0 i) → C' 1 = nI 1000000 → C' 2 = nI (ph_c i a b o f 2 i) → C' 3 = nI 1000000 →
      post (nI 2, nI 3, z0, z1, y0, y1, T, V, C', B', W')) :
    wpX_solve post (nI 2, w, a0, a1, b0, b1, T, V, C, B, W) p (nI f) := by
  subst h3
  have hi := k.1
  refine nm_e (nm_e (nm_e ⟨2 + 1, pk_le 2 0 (fun z => absurd z (by omega)) (fun _ => ph_first 0 k (by omega) (br_t (by decide) (ph_begin0 (fun C1 B1 W1 e0 e1 g0 v0 => nm_r (nI_1 0) ?_))))⟩))
  refine pk_le 2 1 (fun z => absurd z (by omega)) (fun _ => ph_first 1 k (by omega) (br_t (by decide) (ph_begin1 (fun C2 B2 W2 p0 p1 p2 p3 r0 r2 u0 u2 => nm_r (nI_1 1) ?_))))
  exact pk_le 2 2 (fun _ => ph_sites3 k hf (p0.trans (e0.trans pk_us)) (p1.trans e1) (p2.trans (e0.trans pk_us)) (p3.trans e1) (fun z0 z1 y0 y1 C' => H z0 z1 y0 y1 C' B2 W2)) (fun z => absurd z (by omega))
end
section
/-! what the costs say -/
theorem ph_k0 {i a b o f : Nat} {T V : Nat → Int32} (k : ph_K i a b o T V) : min (ph_c i a b o f 0 i) (ph_c i a b o f 2 i) = 0 := by
  obtain ⟨hi, ha, hb, ho, _⟩ := k
  have h : o = 0 ∨ o = 1 := by omega
  rcases h with rfl | rfl <;> simp [ph_c]
theorem ph_kb {i a b o f : Nat} {T V : Nat → Int32} (k : ph_K i a b o T V) : (if ph_c i a b o f 2 i < ph_c i a b o f 0 i then 2 else 0) = if o = 1 then 0 else 2 := by
  obtain ⟨hi, ha, hb, ho, _⟩ := k
  have h : o = 0 ∨ o = 1 := by omega
  rcases h with rfl | rfl
  · have e : 0 < min a b := by omega
    simp [ph_c]
    omega
  · simp [ph_c]
theorem ph_kw {i a b o : Nat} {T V : Nat → Int32} (k : ph_K i a b o T V) : (if ph_c i a b o 0 2 i = ph_c i a b o 0 0 i then 2 else 1) = if o = 1 then 2 else 1 := by
  obtain ⟨hi, ha, hb, ho, _⟩ := k
  have h : o = 0 ∨ o = 1 := by omega
  rcases h with rfl | rfl
  · have e : 0 < min a b := by omega
    simp [ph_c]
    omega
  · simp [ph_c]
theorem ph_c00 {i a b o : Nat} {T V : Nat → Int32} (k : ph_K i a b o T V) : ph_c i a b o 0 0 i = if o = 1 then 0 else min a b := by
  obtain ⟨hi, ha, hb, ho, _⟩ := k
  have h : o = 0 ∨ o = 1 := by omega
  rcases h with rfl | rfl <;> simp [ph_c]
theorem ph_c02 {i a b o : Nat} : ph_c i a b o 0 2 i = 0 := by
  simp [ph_c]
/-! the questions that solve -/
theorem ph_least {post : Int32 → St2 → Prop} {w a0 a1 b0 b1 : Int32} {T V C B W : Nat → Int32} {i a b o : Nat} (k : ph_K i a b o T V)
    (H : ∀ (z0 z1 y0 y1 : Int32) (C' B' W' : Nat → Int32), post (nI 0) (nI 2, nI 0, z0, z1, y0, y1, T, V, C', B', W')) : wpX_least post (nI 2, w, a0, a1, b0, b1, T, V, C, B, W) := by
  refine ph_solve0 (w := w) (f := 0) k (by decide) (fun z0 z1 y0 y1 C' B' W' h0 h1 h2 => ?_)
  rw [ph_k0 k] at h0
  show post (C' 0) _
  rw [h0]
  exact H z0 z1 y0 y1 C' B' W'
theorem ph_sorting {post : Int32 → St2 → Prop} {w a0 a1 b0 b1 : Int32} {T V C B W : Nat → Int32} {i a b o : Nat} (k : ph_K i a b o T V)
    (H : ∀ (z0 z1 y0 y1 : Int32) (C' B' W' : Nat → Int32), post (nI (if o = 1 then 0 else 2)) (nI 2, nI 0, z0, z1, y0, y1, T, V, C', B', W')) : wpX_sorting post (nI 2, w, a0, a1, b0, b1, T, V, C, B, W) := by
  refine ph_solve0 (w := w) (f := 0) k (by decide) (fun z0 z1 y0 y1 C' B' W' h0 h1 h2 => ?_)
  rw [ph_kb k] at h1
  show post (B' 0) _
  rw [h1]
  exact H z0 z1 y0 y1 C' B' W'
theorem ph_ties {post : Int32 → St2 → Prop} {w a0 a1 b0 b1 : Int32} {T V C B W : Nat → Int32} {i a b o : Nat} (k : ph_K i a b o T V)
    (H : ∀ (z0 z1 y0 y1 : Int32) (C' B' W' : Nat → Int32), post (nI (if o = 1 then 2 else 1)) (nI 2, nI 0, z0, z1, y0, y1, T, V, C', B', W')) : wpX_ties post (nI 2, w, a0, a1, b0, b1, T, V, C, B, W) := by
  refine ph_solve0 (w := w) (f := 0) k (by decide) (fun z0 z1 y0 y1 C' B' W' h0 h1 h2 => ?_)
  rw [ph_kw k] at h2
  show post (W' 0) _
  rw [h2]
  exact H z0 z1 y0 y1 C' B' W'
theorem ph_leastF {post : Int32 → St2 → Prop} {w a0 a1 b0 b1 : Int32} {T V C B W : Nat → Int32} {i a b o : Nat} (k : ph_K i a b o T V)
    (H : ∀ (z0 z1 y0 y1 : Int32) (C' B' W' : Nat → Int32), post (nI 0) (nI 2, nI 0, z0, z1, y0, y1, T, V, C', B', W')) : wpX_leastForced post (nI 2, w, a0, a1, b0, b1, T, V, C, B, W) := by
  refine ph_solve0 (w := w) (f := 1) k (by decide) (fun z0 z1 y0 y1 C' B' W' h0 h1 h2 => ?_)
  rw [ph_k0 k] at h0
  show post (C' 0) _
  rw [h0]
  exact H z0 z1 y0 y1 C' B' W'
theorem ph_sortingF {post : Int32 → St2 → Prop} {w a0 a1 b0 b1 : Int32} {T V C B W : Nat → Int32} {i a b o : Nat} (k : ph_K i a b o T V)
    (H : ∀ (z0 z1 y0 y1 : Int32) (C' B' W' : Nat → Int32), post (nI (if o = 1 then 0 else 2)) (nI 2, nI 0, z0, z1, y0, y1, T, V, C', B', W')) : wpX_sortingForced post (nI 2, w, a0, a1, b0, b1, T, V, C, B, W) := by
  refine ph_solve0 (w := w) (f := 1) k (by decide) (fun z0 z1 y0 y1 C' B' W' h0 h1 h2 => ?_)
  rw [ph_kb k] at h1
  show post (B' 0) _
  rw [h1]
  exact H z0 z1 y0 y1 C' B' W'
/-! costOf -/
theorem ph_cost22 {post : Int32 → St2 → Prop} {w a0 a1 b0 b1 : Int32} {T V C B W : Nat → Int32} {i a b o m : Nat} (k : ph_K i a b o T V) (hm : m = 0 ∨ m = 2)
    (H : ∀ z0 z1 y0 y1 : Int32, post (nI (ph_c i a b o 0 m i)) (nI 2, w, z0, z1, y0, y1, T, V, C, B, W)) :
    ∃ n, wX_costOf_22 post (nI 3) (nI m) n 0 0 (nI 2) w a0 a1 b0 b1 T V C B W := by
  have hi := k.1
  refine pk_loop (σ := Int32 × Int32 × Int32 × Int32 × Int32)
    (fun n s u => wX_costOf_22 post (nI 3) (nI m) n u.1 (nI s) (nI 2) w u.2.1 u.2.2.1 u.2.2.2.1 u.2.2.2.2 T V C B W)
    (fun s u => u.1 = nI (if s ≤ i then 0 else ph_c i a b o 0 m i)) 8 0 (0, a0, a1, b0, b1) (by omega) ?_ ?_ ?_
  · show (0 : Int32) = nI (if 0 ≤ i then 0 else ph_c i a b o 0 m i)
    rw [if_pos (Nat.zero_le i)]
    rfl
  · intro n u he
    obtain ⟨x, z0, z1, y0, y1⟩ := u
    have he' : x = nI (if 8 ≤ i then 0 else ph_c i a b o 0 m i) := he
    rw [if_neg (by omega)] at he'
    subst he'
    show wX_costOf_22 post (nI 3) (nI m) (n + 1) (nI (ph_c i a b o 0 m i)) (nI 8) (nI 2) w z0 z1 y0 y1 T V C B W
    exact pk_le 8 8 (fun _ => H z0 z1 y0 y1) (fun z => absurd z (by omega))
  · intro n s u hs he hr
    obtain ⟨x, z0, z1, y0, y1⟩ := u
    have he' : x = nI (if s ≤ i then 0 else ph_c i a b o 0 m i) := he
    subst he'
    show wX_costOf_22 post (nI 3) (nI m) (n + 1) (nI (if s ≤ i then 0 else ph_c i a b o 0 m i)) (nI s) (nI 2) w z0 z1 y0 y1 T V C B W
    have hr' : ∀ z0 z1 y0 y1 : Int32, wX_costOf_22 post (nI 3) (nI m) n (nI (if s + 1 ≤ i then 0 else ph_c i a b o 0 m i)) (nI (s + 1)) (nI 2) w z0 z1 y0 y1 T V C B W :=
      fun z0 z1 y0 y1 => hr (nI (if s + 1 ≤ i then 0 else ph_c i a b o 0 m i), z0, z1, y0, y1) rfl
    have hg : nI (if s ≤ i then 0 else ph_c i a b o 0 m i) + nI (ph_c i a b o 0 m s) = nI (if s + 1 ≤ i then 0 else ph_c i a b o 0 m i) := by
      rw [nI_add, ph_grow]
    exact pk_le 8 s (fun z => absurd z (by omega)) (fun _ => ph_site_2 (f := 0) k hs hm (by decide) (fun z0 z1 y0 y1 => nm_r hg (nm_r (nI_1 s) (hr' z0 z1 y0 y1))))
theorem ph_costOf {post : Int32 → St2 → Prop} {w a0 a1 b0 b1 p : Int32} {T V C B W : Nat → Int32} {i a b o : Nat} (m : Nat) (k : ph_K i a b o T V) (hm : m = 0 ∨ m = 2) (hp : p = nI m)
    (H : ∀ z0 z1 y0 y1 : Int32, post (nI (ph_c i a b o 0 m i)) (nI 2, w, z0, z1, y0, y1, T, V, C, B, W)) :
    wpX_costOf post (nI 2, w, a0, a1, b0, b1, T, V, C, B, W) p := by
  subst hp
  have e : nI m &&& nI 3 &&& (-2) = nI m := by
    rcases hm with rfl | rfl <;> decide
  exact nm_r (show ((1 : Int32) <<< (nI 2 &&& 31)) - 1 = nI 3 by decide) (nm_r e (ph_cost22 k hm H))
/-! leastWith -/
theorem ph_noRead {post : Int32 → Prop} {w a0 a1 b0 b1 p : Int32} {T V C B W : Nat → Int32} (q r : Nat) (hr : r < q) (hq : q < 100) (hp : p = nI r) (h : post 0) : wpX_noRead post (nI q, w, a0, a1, b0, b1, T, V, C, B, W) p := by
  subst hp
  exact br_f (nI_pos (by omega)) (pk_lt r q (fun _ => h) (fun z => absurd z (by omega)))
theorem ph_v12 : ∀ m, m < 256 → 4 ≤ m → ¬ nI m &&& ((nI 1 ||| nI 2) ^^^ (-1)) = 0 := by decide +kernel
theorem ph_v21 : ∀ m, m < 256 → 4 ≤ m → ¬ nI m &&& ((nI 2 ||| nI 1) ^^^ (-1)) = 0 := by decide +kernel
theorem ph_lwT {post : Int32 → St2 → Prop} {x3 x4 x5 x6 q w a0 a1 b0 b1 : Int32} {T V C B W : Nat → Int32} (k0 n : Nat) (hk : k0 ≤ 256) (hn : 256 - k0 < n)
    (hw : ∀ m, m < 256 → k0 ≤ m → ¬ nI m &&& ((x4 ||| x5) ^^^ (-1)) = 0) (hp : post x6 (q, w, a0, a1, b0, b1, T, V, C, B, W)) :
    wX_leastWith_54 post x3 x4 x5 q w a0 a1 b0 b1 T V C B W n x6 (nI k0) := by
  refine loop_i (σ := Unit) (fun n m _ => wX_leastWith_54 post x3 x4 x5 q w a0 a1 b0 b1 T V C B W n x6 (nI m)) (fun m _ => k0 ≤ m) 256
    (fun n _ _ => pk_le 256 256 (fun _ => hp) (fun z => absurd z (by omega)))
    (fun n m _ hm h hr => ?_) n k0 () hk hn (Nat.le_refl k0)
  have hJ : wX_leastWith_54 post x3 x4 x5 q w a0 a1 b0 b1 T V C B W n x6 (nI (m + 1)) := hr () (Nat.le_succ_of_le h)
  have h96 : ∀ z0, wX_leastWith_96 post (wX_leastWith_54 post x3 x4 x5 q w a0 a1 b0 b1 T V C B W n) x3 x4 x5 x6 (nI m) z0 q w a0 a1 b0 b1 T V C B W :=
    fun z0 => br_f (hw m hm h) (nm_r (nI_1 m) hJ)
  have h88 : ∀ z0 z1, wX_leastWith_88 post (wX_leastWith_54 post x3 x4 x5 q w a0 a1 b0 b1 T V C B W n) x3 x4 x5 x6 (nI m) z0 z1 q w a0 a1 b0 b1 T V C B W :=
    fun z0 z1 => br_c (fun _ => h96 0) (fun _ => h96 1)
  have h75 : ∀ z0, wX_leastWith_75 post (wX_leastWith_54 post x3 x4 x5 q w a0 a1 b0 b1 T V C B W n) x3 x4 x5 x6 (nI m) z0 q w a0 a1 b0 b1 T V C B W :=
    fun z0 => br_c (fun _ => h88 1 z0) (fun _ => h88 0 z0)
  exact pk_le 256 m (fun z => absurd z (by omega)) (fun _ => br_c (fun _ => h75 1) (fun _ => h75 0))
theorem ph_lw0 {post : Int32 → St2 → Prop} {q w a0 a1 b0 b1 : Int32} {T V C B W : Nat → Int32} {c : Nat} (h0 : C 0 = nI c) (h3 : C 3 = nI 1000000) (hc : c < 1000000)
    (hp : post (nI c) (q, w, a0, a1, b0, b1, T, V, C, B, W)) : ∃ n, wX_leastWith_54 post (nI 0) (nI 1) (nI 2) q w a0 a1 b0 b1 T V C B W n 1000000 0 := by
  refine ⟨253 + 1 + 1 + 1 + 1, pk_le 256 0 (fun z => absurd z (by omega)) (fun _ => br_t (by decide) (br_t (by decide) (br_t (by decide) (br_t (by decide) (br_t (by decide)
    ⟨pk_in 0 256 (by decide), br_f (show ¬ (1000000 : Int32) ≤ C 0 by rw [h0]; exact nI_ge (b := 1000000) hc (by decide)) ⟨pk_in 0 256 (by decide), nm_r (show C 0 = nI c from h0) (nm_r (nI_1 0) ?_)⟩⟩)))))⟩
  refine pk_le 256 1 (fun z => absurd z (by omega)) (fun _ => br_f (by decide) (br_t (by decide) (br_f (by decide) (br_t (by decide) (br_f (by decide) (nm_r (nI_1 1) ?_))))))
  refine pk_le 256 2 (fun z => absurd z (by omega)) (fun _ => br_t (by decide) (br_f (by decide) (br_f (by decide) (br_t (by decide) (br_f (by decide) (nm_r (nI_1 2) ?_))))))
  refine pk_le 256 3 (fun z => absurd z (by omega)) (fun _ => br_f (by decide) (br_f (by decide) (br_t (by decide) (br_t (by decide) (br_t (by decide)
    ⟨pk_in 3 256 (by decide), br_t (show nI c ≤ C 3 by rw [h3]; exact nI_le (by omega) (by decide)) (nm_r (nI_1 3) ?_)⟩)))))
  exact ph_lwT 4 253 (by decide) (by decide) ph_v12 hp
theorem ph_lw1 {post : Int32 → St2 → Prop} {q w a0 a1 b0 b1 : Int32} {T V C B W : Nat → Int32} {c : Nat} (h1 : C 1 = nI 1000000) (h2 : C 2 = nI c) (hc : c < 1000000)
    (hp : post (nI c) (q, w, a0, a1, b0, b1, T, V, C, B, W)) : ∃ n, wX_leastWith_54 post (nI 1) (nI 2) (nI 1) q w a0 a1 b0 b1 T V C B W n 1000000 0 := by
  refine ⟨253 + 1 + 1 + 1 + 1, pk_le 256 0 (fun z => absurd z (by omega)) (fun _ => br_t (by decide) (br_t (by decide) (br_t (by decide) (br_t (by decide) (br_f (by decide) (nm_r (nI_1 0) ?_))))))⟩
  refine pk_le 256 1 (fun z => absurd z (by omega)) (fun _ => br_t (by decide) (br_f (by decide) (br_f (by decide) (br_t (by decide) (br_t (by decide)
    ⟨pk_in 1 256 (by decide), br_t (show (1000000 : Int32) ≤ C 1 by rw [h1]; decide) (nm_r (nI_1 1) ?_)⟩)))))
  refine pk_le 256 2 (fun z => absurd z (by omega)) (fun _ => br_f (by decide) (br_t (by decide) (br_f (by decide) (br_t (by decide) (br_t (by decide)
    ⟨pk_in 2 256 (by decide), br_f (show ¬ (1000000 : Int32) ≤ C 2 by rw [h2]; exact nI_ge (b := 1000000) hc (by decide)) ⟨pk_in 2 256 (by decide), nm_r (show C 2 = nI c from h2) (nm_r (nI_1 2) ?_)⟩⟩)))))
  refine pk_le 256 3 (fun z => absurd z (by omega)) (fun _ => br_f (by decide) (br_f (by decide) (br_t (by decide) (br_t (by decide) (br_f (by decide) (nm_r (nI_1 3) ?_))))))
  exact ph_lwT 4 253 (by decide) (by decide) ph_v21 hp
theorem ph_with0 {post : Int32 → St2 → Prop} {w a0 a1 b0 b1 : Int32} {T V C B W : Nat → Int32} {i a b o : Nat} (k : ph_K i a b o T V)
    (H : ∀ (z0 z1 y0 y1 : Int32) (C' B' W' : Nat → Int32), post (nI (if o = 1 then 0 else min a b)) (nI 2, nI 3, z0, z1, y0, y1, T, V, C', B', W')) :
    wpX_leastWith post (nI 2, w, a0, a1, b0, b1, T, V, C, B, W) 0 1 0 := by
  have l0 : ph_c i a b o 0 0 i < 1000000 := Nat.lt_of_le_of_lt (ph_cle k) (by decide)
  unfold wpX_leastWith
  refine ph_noRead 2 0 (by decide) (by decide) rfl (br_t rfl (ph_noRead 2 1 (by decide) (by decide) rfl (br_t rfl (br_f (by decide) ?_))))
  refine nm_r (show (1 : Int32) <<< ((0 : Int32) &&& 31) = nI 1 by decide) (nm_r (show (1 : Int32) <<< ((1 : Int32) &&& 31) = nI 2 by decide) ?_)
  refine ph_solve3 (w := w) (f := 0) k (by decide) (by decide) (fun z0 z1 y0 y1 C' B' W' h0 h1 h2 h3 => ph_lw0 h0 h3 l0 ?_)
  rw [ph_c00 k]
  exact H z0 z1 y0 y1 C' B' W'
theorem ph_with1 {post : Int32 → St2 → Prop} {w a0 a1 b0 b1 : Int32} {T V C B W : Nat → Int32} {i a b o : Nat} (k : ph_K i a b o T V)
    (H : ∀ (z0 z1 y0 y1 : Int32) (C' B' W' : Nat → Int32), post (nI 0) (nI 2, nI 3, z0, z1, y0, y1, T, V, C', B', W')) :
    wpX_leastWith post (nI 2, w, a0, a1, b0, b1, T, V, C, B, W) 1 0 1 := by
  unfold wpX_leastWith
  refine ph_noRead 2 1 (by decide) (by decide) rfl (br_t rfl (ph_noRead 2 0 (by decide) (by decide) rfl (br_t rfl (br_f (by decide) ?_))))
  refine nm_r (show (1 : Int32) <<< ((1 : Int32) &&& 31) = nI 2 by decide) (nm_r (show (1 : Int32) <<< ((0 : Int32) &&& 31) = nI 1 by decide) ?_)
  refine ph_solve3 (w := w) (f := 0) k (by decide) (by decide) (fun z0 z1 y0 y1 C' B' W' h0 h1 h2 h3 => ?_)
  rw [ph_c02] at h2
  exact ph_lw1 h1 h2 (by decide) (H z0 z1 y0 y1 C' B' W')
/-! cover -/
theorem ph_cover {post : Int32 → Prop} {w a0 a1 b0 b1 : Int32} {T V C B W : Nat → Int32} {i a b o : Nat} (k : ph_K i a b o T V) (hp : post (nI 2)) :
    wpX_cover post (nI 2, w, a0, a1, b0, b1, T, V, C, B, W) (nI i) := by
  obtain ⟨hi, ha, hb, ho, hA, hB, hT, hV, hW⟩ := k
  refine br_f (nI_pos (by omega)) (pk_lt i 8 (fun _ => ⟨2 + 1, ?_⟩) (fun z => absurd z (by omega)))
  refine pk_le 2 0 (fun z => absurd z (by omega)) (fun _ => ⟨pk_in (0 * 8 + i) 64 (by omega) (ph_ix 0 i), br_f (show ¬ T (nI 0 * 8 + nI i).toNatClampNeg ≤ 0 by rw [ph_ix, nI_clamp (by omega), hA]; exact nI_nle (by omega) (by omega)) (nm_r (nI_1 0) (nm_r (nI_1 0) ?_))⟩)
  refine pk_le 2 1 (fun z => absurd z (by omega)) (fun _ => ⟨pk_in (1 * 8 + i) 64 (by omega) (ph_ix 1 i), br_f (show ¬ T (nI 1 * 8 + nI i).toNatClampNeg ≤ 0 by rw [ph_ix, nI_clamp (by omega), hB]; exact nI_nle (by omega) (by omega)) (nm_r (nI_1 1) (nm_r (nI_1 1) ?_))⟩)
  exact pk_le 2 2 (fun _ => hp) (fun z => absurd z (by omega))
end
section
theorem ph_read {post : Int32 → St2 → Prop} {w a0 a1 b0 b1 : Int32} {T V C B W : Nat → Int32} (r : Nat) (hr : r < 8)
    (H : ∀ T' : Nat → Int32, (∀ j, j < r * 8 → T' j = T j) → (∀ j, j < 8 → T' (r * 8 + j) = nI 0) → post (nI r) (nI (r + 1), w, a0, a1, b0, b1, T', V, C, B, W)) :
    wpX_read post (nI r, w, a0, a1, b0, b1, T, V, C, B, W) := by
  refine pk_lt r 8 (fun _ => ?_) (fun z => absurd z (by omega))
  refine pk_loop (fun n s (T' : Nat → Int32) => wX_read_14 post (nI r) w a0 a1 b0 b1 n (nI s) T' V C B W)
    (fun s T' => (∀ j, j < r * 8 → T' j = T j) ∧ (∀ j, j < s → T' (r * 8 + j) = nI 0)) 8 0 T (by omega) ⟨fun j _ => rfl, fun j h => absurd h (by omega)⟩ ?_ ?_
  · intro n T' he
    refine pk_le 8 8 (fun _ => nm_r (nI_1 r) ?_) (fun z => absurd z (by omega))
    rw [nI_pred]
    exact H T' he.1 he.2
  · intro n s T' hs he hw
    refine pk_le 8 s (fun z => absurd z (by omega)) (fun _ => ⟨pk_in (r * 8 + s) 64 (by omega) (ph_ix r s), nm_r (show upd T' (nI r * 8 + nI s).toNatClampNeg 0 = upd T' (r * 8 + s) 0 by rw [ph_ix, nI_clamp (by omega)]) (nm_r (nI_1 s) (hw _ ⟨fun j hj => ?_, fun j hj => ?_⟩))⟩)
    · rw [pk_un (by omega)]
      exact he.1 j hj
    · by_cases e : j = s
      · rw [e, pk_us]
        rfl
      · rw [pk_un (by omega)]
        exact he.2 j (by omega)
theorem ph_say {post : Int32 → St2 → Prop} {w a0 a1 b0 b1 p1 p2 : Int32} {T V C B W : Nat → Int32} (q r s t : Nat) {v : Int32} (hq : q < 9) (hr : r < q) (hs : s < 8) (ht : t ≤ 9) (h1 : p1 = nI s) (h2 : p2 &&& 1 = v)
    (H : post (T (r * 8 + s)) (nI q, w, a0, a1, b0, b1, upd T (r * 8 + s) (nI t), upd V (r * 8 + s) v, C, B, W)) :
    wpX_say post (nI q, w, a0, a1, b0, b1, T, V, C, B, W) (nI r) p1 p2 (nI t) := by
  subst h1
  have e : (nI (r * 8 + s)).toNatClampNeg = r * 8 + s := nI_clamp (by omega)
  unfold wpX_say
  refine ph_noRead q r hr (by omega) rfl (br_t rfl (br_f (nI_pos (by omega)) (pk_lt s 8 (fun _ => br_f (nI_pos (by omega)) (pk_le t 9 (fun _ => nm_r (ph_ix r s) ?_) (fun z => absurd z (by omega)))) (fun z => absurd z (by omega)))))
  refine ⟨pk_in (r * 8 + s) 64 (by omega), nm_r (show T (nI (r * 8 + s)).toNatClampNeg = T (r * 8 + s) by rw [e]) ⟨pk_in (r * 8 + s) 64 (by omega),
    nm_r (show upd T (nI (r * 8 + s)).toNatClampNeg (nI t) = upd T (r * 8 + s) (nI t) by rw [e]) ⟨pk_in (r * 8 + s) 64 (by omega), nm_r (show upd V (nI (r * 8 + s)).toNatClampNeg (p2 &&& 1) = upd V (r * 8 + s) v by rw [e, h2]) H⟩⟩⟩
theorem ph_sp7 : ∀ i, i < 8 → nI (i + 8) &&& 7 = nI i := by decide +kernel
theorem ph_sp1 : ∀ i, i < 8 → (nI (i + 8) >>> ((3 : Int32) &&& 31)) &&& 15 = nI 1 := by decide +kernel
theorem ph_bit : ∀ v, v < 2 → ((nI v >>> ((0 : Int32) &&& 31)) &&& 1) &&& 1 = nI v := by decide +kernel
theorem ph_stretch {post : Int32 → St2 → Prop} {w a0 a1 b0 b1 p0 : Int32} {T V C B W : Nat → Int32} (r i t v : Nat) (hr : r < 8) (hi : i < 8) (ht1 : 1 ≤ t) (ht9 : t ≤ 9) (hv : v < 2) (h0 : p0 = nI (i + 8))
    (H : ∀ T' : Nat → Int32, (∀ j, j < r * 8 → T' j = T j) → T' (r * 8 + i) = nI t → (∀ j, j < 8 → j ≠ i → T' (r * 8 + j) = nI 0) →
      post (nI r) (nI (r + 1), w, a0, a1, b0, b1, T', upd V (r * 8 + i) (nI v), C, B, W)) :
    wpX_stretch post (nI r, w, a0, a1, b0, b1, T, V, C, B, W) p0 (nI v) (nI t) := by
  subst h0
  refine nm_r (ph_sp7 i hi) (nm_r (ph_sp1 i hi) (br_f (by decide) (br_f (by decide) (pk_le (i + 1) 8 (fun _ => ?_) (fun z => absurd z (by omega)) (nI_add i 1)))))
  refine pk_lt t 1 (fun z => absurd z (by omega)) (fun _ => pk_le t 9 (fun _ => ?_) (fun z => absurd z (by omega)))
  refine ph_read r hr (fun T' hA hZ => br_t (nI_pos' (by omega)) ⟨1 + 1, ?_⟩)
  refine pk_le 1 0 (fun z => absurd z (by omega)) (fun _ => ?_)
  refine ph_say (r + 1) r i t (by omega) (by omega) hi ht9 (by rw [show (0 : Int32) = nI 0 from rfl, nI_add, Nat.add_zero]) (ph_bit v hv) (nm_r (nI_1 0) ?_)
  refine pk_le 1 1 (fun _ => H _ (fun j hj => ?_) pk_us (fun j hj hji => ?_)) (fun z => absurd z (by omega))
  · rw [pk_un (by omega)]
    exact hA j hj
  · rw [pk_un (by omega)]
    exact hZ j hj
end
section
theorem ph_tr (p : Int32) : ∃ a : Nat, 1 ≤ a ∧ a ≤ 9 ∧ 1 + ((p &&& 2147483647) - (p &&& 2147483647) / 9 * 9) = nI a := by
  obtain ⟨j, hj, e⟩ := pk_andE p (m := 2147483647) 31 (by decide)
  refine ⟨1 + j % 9, by omega, by omega, ?_⟩
  rw [e, show (9 : Int32) = nI 9 from rfl, pk_rem hj (by decide) (by decide), show (1 : Int32) = nI 1 from rfl, nI_add]
theorem ph_law99 {post : Int32 → St0 → Prop} {mc ms kc ks : Nat} {w a0 a1 b0 b1 z : Int32} {T V C B W : Nat → Int32} {i a b o : Nat} (k : ph_K i a b o T V)
    (hz : z = nI (if o = 1 then 0 else min a b)) (hp : post 1 ()) :
    wL_lawOf_99 post mc ms (nI i) (nI o) z kc ks (nI 2) w a0 a1 b0 b1 T V C B W := by
  subst hz
  have ho : o < 2 := k.2.2.2.1
  refine ph_least k (fun _ _ _ _ C1 B1 W1 => br_t rfl ?_)
  refine ph_costOf 0 k (Or.inl rfl) rfl (fun _ _ _ _ => br_t (by rw [ph_c00 k]) ?_)
  refine ph_costOf 2 k (Or.inr rfl) rfl (fun _ _ _ _ => br_t (by rw [ph_c02]; rfl) ?_)
  have h219 : ∀ (z0 z1 y0 y1 : Int32) (C' B' W' : Nat → Int32), nI (if o = 1 then 0 else 2) = nI (if o = 1 then 0 else 2) → ∀ y : Int32, y = nI (if o = 1 then 0 else 2) →
      wL_lawOf_219 post mc ms (nI i) y (nI (if o = 1 then 0 else 2)) kc ks (nI 2) (nI 0) z0 z1 y0 y1 T V C' B' W' :=
    fun z0 z1 y0 y1 C' B' W' _ y hy => br_t hy.symm (ph_cover k (br_t rfl hp))
  have h166 : ∀ (z0 z1 y0 y1 : Int32) (C' B' W' : Nat → Int32) (y : Int32), y = nI (if o = 1 then 2 else 1) →
      wL_lawOf_166 post mc ms (nI i) (nI o) (nI (if o = 1 then 0 else min a b)) y (nI (if o = 1 then 2 else 1)) kc ks (nI 2) (nI 0) z0 z1 y0 y1 T V C' B' W' := by
    intro z0 z1 y0 y1 C' B' W' y hy
    refine br_t hy.symm (ph_with0 k (fun _ _ _ _ _ _ _ => br_t rfl (ph_with1 k (fun _ _ _ _ _ _ _ => br_t rfl (ph_leastF k (fun _ _ _ _ _ _ _ => br_t rfl (ph_sortingF k (fun _ _ _ _ _ _ _ => ?_))))))))
    exact pk_eq o 1 (fun e => h219 _ _ _ _ _ _ _ rfl _ (by rw [if_pos e]; rfl)) (fun e => h219 _ _ _ _ _ _ _ rfl _ (by rw [if_neg e]; rfl))
  have h145 : ∀ (z0 z1 y0 y1 : Int32) (C' B' W' : Nat → Int32) (y : Int32), y = nI (if o = 1 then 0 else 2) →
      wL_lawOf_145 post mc ms (nI i) (nI o) (nI (if o = 1 then 0 else min a b)) y (nI (if o = 1 then 0 else 2)) kc ks (nI 2) (nI 0) z0 z1 y0 y1 T V C' B' W' := by
    intro z0 z1 y0 y1 C' B' W' y hy
    refine br_t hy.symm (ph_ties k (fun _ _ _ _ _ _ _ => ?_))
    exact pk_eq o 1 (fun e => h166 _ _ _ _ _ _ _ _ (by rw [if_pos e]; rfl)) (fun e => h166 _ _ _ _ _ _ _ _ (by rw [if_neg e]; rfl))
  refine ph_sorting k (fun _ _ _ _ _ _ _ => ?_)
  exact pk_eq o 1 (fun e => h145 _ _ _ _ _ _ _ _ (by rw [if_pos e]; rfl)) (fun e => h145 _ _ _ _ _ _ _ _ (by rw [if_neg e]; rfl))
theorem ph_law85 {post : Int32 → St0 → Prop} {mc ms kc ks : Nat} {w a0 a1 b0 b1 z : Int32} {T V C B W : Nat → Int32} {i a b o : Nat} (k : ph_K i a b o T V)
    (hz : z = nI (min a b)) (hp : post 1 ()) :
    wL_lawOf_85 post mc ms (nI i) (nI o) z kc ks (nI 2) w a0 a1 b0 b1 T V C B W := by
  have ho : o < 2 := k.2.2.2.1
  exact pk_eq o 1 (fun e => ph_law99 k (by rw [if_pos e]; rfl) hp) (fun e => ph_law99 k (by rw [if_neg e]; exact hz) hp)
theorem ph_lawOf {post : Int32 → St0 → Prop} {u : St0} {p0 p1 p2 p3 : Int32} (hp : post 1 ()) : wpL_lawOf post 6 907 u p0 p1 p2 p3 := by
  obtain ⟨i, hi, ei⟩ := pk_andE p0 (m := 7) 3 (by decide)
  obtain ⟨o, ho, eo⟩ := pk_andE p3 (m := 1) 1 (by decide)
  obtain ⟨a, ha1, ha9, ea⟩ := ph_tr p1
  obtain ⟨b, hb1, hb9, eb⟩ := ph_tr p2
  have h8 : nI i + 8 = nI (i + 8) := nI_add i 8
  refine ⟨by decide, by decide, 5, 896, by decide, by decide, by decide, by decide, by decide, by decide, by decide, by decide, by decide, by decide, by decide, by decide, ?_⟩
  refine nm_r ei ⟨by decide, nm_r ea ⟨by decide, nm_r eb (nm_r eo ?_)⟩⟩
  refine ph_stretch 0 i a 1 (by decide) hi ha1 ha9 (by decide) h8 (fun T1 hA hB hC => ?_)
  refine ph_stretch 1 i b o (by decide) hi hb1 hb9 ho h8 (fun T2 gA gB gC => ?_)
  have k : ph_K i a b o T2 (upd (upd (fun _ => 0) (0 * 8 + i) (nI 1)) (1 * 8 + i) (nI o)) := by
    refine ⟨hi, ⟨ha1, ha9⟩, ⟨hb1, hb9⟩, ho, ?_, gB, fun r s hr hs hsi => ?_, ?_, pk_us⟩
    · rw [gA _ (by omega)]
      exact hB
    · by_cases h : r = 0
      · subst h
        rw [gA _ (by omega)]
        exact hC s hs hsi
      · have h1 : r = 1 := by omega
        subst h1
        exact gC s hs hsi
    · rw [pk_un (by omega)]
      exact pk_us
  exact pk_le b a (fun z => ph_law85 k (by rw [show min a b = b by omega]) hp) (fun z => ph_law85 k (by rw [show min a b = a by omega]) hp)
theorem ph_cell {P : Int32 → Prop} {L : Nat} {xs : Nat → Int32} {u : St0} (j : Nat) (hj : j < 4) (hL : L ≤ 4) (h : ∀ x, P x) : wpL_cellAt P L xs u (nI j) :=
  pk_le L j (fun _ => h _) (fun z => ⟨pk_in j L z, h _⟩)
theorem i_vc (xs : Nat → Int32) (L : Nat) (hL : L ≤ 4) : wpL_law (fun r => r = 1) L xs :=
  ph_cell 0 (by decide) hL (fun _ => ph_cell 1 (by decide) hL (fun _ => ph_cell 2 (by decide) hL (fun _ => ph_cell 3 (by decide) hL (fun _ =>
    ⟨6, 907, by decide, by decide, ph_lawOf rfl⟩))))
end
