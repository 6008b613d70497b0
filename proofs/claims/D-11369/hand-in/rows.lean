section
/-- edge e of a holds the four numbers v 0 .. v 3 -/
def bg_E (a : Nat → Int64) (e : Nat) (v : Nat → Nat) : Prop := ∀ i, i < 4 → a (4 * e + i) = lN (v i)
/-- b is a but for edge e -/
def bg_O (a b : Nat → Int64) (e : Nat) : Prop := ∀ j, (j < 4 * e ∨ 4 * e + 4 ≤ j) → b j = a j
def bg_v (x0 x1 x2 x3 : Nat) : Nat → Nat
  | 0 => x0
  | 1 => x1
  | 2 => x2
  | _ => x3
theorem bg_Ek {a b : Nat → Int64} {e k : Nat} {v : Nat → Nat} (h : bg_E a k v) (o : bg_O a b e) (hk : k ≠ e) : bg_E b k v := fun i hi => by
  rw [o (4 * k + i) (by omega)]
  exact h i hi
theorem bg_Ec {a : Nat → Int64} {e : Nat} {v w : Nat → Nat} (h : bg_E a e v) (hv : ∀ i, i < 4 → v i = w i) : bg_E a e w := fun i hi => by
  rw [h i hi, hv i hi]
theorem bg_4 {P : Nat → Prop} (h0 : P 0) (h1 : P 1) (h2 : P 2) (h3 : P 3) : ∀ i, i < 4 → P i := fun _ hi => co_4 h0 h1 h2 h3 hi
theorem bg_fill {a s : Nat → Int64} {v : Nat → Nat} {m i : Nat} (hi : i < 4) (h : (∀ k, k < i → s (4 * m + k) = lN (v k)) ∧ bg_O a s m) :
    (∀ k, k < i + 1 → vp_updL s (4 * m + i) (lN (v i)) (4 * m + k) = lN (v k)) ∧ bg_O a (vp_updL s (4 * m + i) (lN (v i))) m := by
  refine ⟨fun k hk => ?_, fun j hj => ?_⟩
  · by_cases e : k = i
    · rw [e, pk_uLs]
    · rw [pk_uLn (by omega)]
      exact h.1 k (by omega)
  · rw [pk_uLn (by omega)]
    exact h.2 j hj
theorem bg_i4 (e i : Nat) : (4 : Int32) * nI e + nI i = nI (4 * e + i) := by
  rw [show (4 : Int32) = nI 4 from rfl, pk_mul, nI_add]
theorem bg_c4 (e i : Nat) (h : 4 * e + i < 2 ^ 31) : ((4 : Int32) * nI e + nI i).toNatClampNeg = 4 * e + i := pk_cl _ (bg_i4 e i) h
theorem bg_i4b (b k i : Nat) : (4 : Int32) * (nI b + nI k) + nI i = nI (4 * (b + k) + i) := by
  rw [nI_add, bg_i4]
theorem bg_c4b (b k i : Nat) (h : 4 * (b + k) + i < 2 ^ 31) : ((4 : Int32) * (nI b + nI k) + nI i).toNatClampNeg = 4 * (b + k) + i := pk_cl _ (bg_i4b b k i) h
theorem bg_i43 (e : Nat) : (4 : Int32) * nI e + 3 = nI (4 * e + 3) := bg_i4 e 3
theorem bg_c43 (e : Nat) (h : 4 * e + 3 < 2 ^ 31) : ((4 : Int32) * nI e + 3).toNatClampNeg = 4 * e + 3 := bg_c4 e 3 h
theorem bg_i3 (e i : Nat) : (3 : Int32) * nI e + nI i = nI (3 * e + i) := by
  rw [show (3 : Int32) = nI 3 from rfl, pk_mul, nI_add]
theorem bg_c3 (e i : Nat) (h : 3 * e + i < 2 ^ 31) : ((3 : Int32) * nI e + nI i).toNatClampNeg = 3 * e + i := pk_cl _ (bg_i3 e i) h
theorem bg_cb (b k : Nat) (h : b + k < 2 ^ 31) : (nI b + nI k).toNatClampNeg = b + k := pk_cl _ (nI_add b k) h
section
variable {post : Int64 → Prop} {f1 f2 f3 f4 f5 f6 f7 : Int32} {f8 f9 : Int64} {a1 a2 : Nat → Int32} {a3 : Nat → Int64} {a4 : Nat → Int32} {a5 : Nat → Int64} {a6 : Nat → Int32} {a7 : Nat → Int64} {a8 a9 a10 : Nat → Int32}
theorem bg_gcdL : ∀ (n a b : Nat), b ≤ n → a < 2 ^ 63 → b < 2 ^ 63 → post (lN (Nat.gcd a b)) → wX_commonDivisor_28 post f1 f2 f3 f4 f5 f6 f7 f8 f9 a1 a2 a3 a4 a5 a6 a7 a8 a9 a10 (n + 1) (lN a) (lN b) := by
  intro n
  induction n with
  | zero =>
    intro a b hn ha hb hp
    obtain rfl : b = 0 := by omega
    rw [Nat.gcd_zero_right] at hp
    exact br_t rfl hp
  | succ n ih =>
    intro a b hn ha hb hp
    by_cases h0 : b = 0
    · subst h0
      rw [Nat.gcd_zero_right] at hp
      exact br_t rfl hp
    · have hne : ¬ lN b = 0 := fun z => h0 ((pk_lEQ hb (by omega)).mp (z.trans (rfl : (0 : Int64) = lN 0)))
      have hlt : a % b < b := Nat.mod_lt a (by omega)
      have hg : Nat.gcd b (a % b) = Nat.gcd a b := by
        rw [Nat.gcd_comm a b, Nat.gcd_rec b a, Nat.gcd_comm]
      exact br_f hne ⟨hne, nm_r (pk_lRem ha (by omega) hb) (ih b (a % b) (by omega) hb (by omega) (by rw [hg]; exact hp))⟩
theorem bg_gcd {a b : Nat} (ha : a < 2 ^ 63) (hb : b < 2 ^ 63) (hp : post (lN (Nat.gcd a b))) : wpX_commonDivisor post (f1, f2, f3, f4, f5, f6, f7, f8, f9, a1, a2, a3, a4, a5, a6, a7, a8, a9, a10) (lN a) (lN b) := by
  have za : (0 : Int64) ≤ lN a := (pk_lLE (a := 0) (by omega) ha).mpr (by omega)
  have zb : (0 : Int64) ≤ lN b := (pk_lLE (a := 0) (by omega) hb).mpr (by omega)
  exact br_t za (br_t zb ⟨b + 1, bg_gcdL b a b (by omega) ha hb hp⟩)
theorem bg_sum {e : Nat} {v : Nat → Nat} (he : e < 48) (hv : bg_E a3 e v) (hp : post (lN (v 0 + v 1 + v 2))) : wpX_sumOf post (f1, f2, f3, f4, f5, f6, f7, f8, f9, a1, a2, a3, a4, a5, a6, a7, a8, a9, a10) (nI e) := by
  have i0 : (4 : Int32) * nI e = nI (4 * e) := pk_mul 4 e
  have i1 : (4 : Int32) * nI e + 1 = nI (4 * e + 1) := bg_i4 e 1
  have i2 : (4 : Int32) * nI e + 2 = nI (4 * e + 2) := bg_i4 e 2
  refine ⟨pk_in (4 * e) 192 (by omega) i0, pk_in (4 * e + 1) 192 (by omega) i1, pk_in (4 * e + 2) 192 (by omega) i2, ?_⟩
  rw [pk_cl (4 * e) i0, pk_cl (4 * e + 1) i1, pk_cl (4 * e + 2) i2, show a3 (4 * e) = lN (v 0) from hv 0 (by omega), hv 1 (by omega), hv 2 (by omega), lN_add, lN_add]
  exact hp
end
end
section
def bg_z (x y : Nat → Nat) (u w : Nat) (i : Nat) : Nat := x i * w + y i * u
def bg_d (z : Nat → Nat) : Nat → Nat
  | 0 => 0
  | n + 1 => Nat.gcd (bg_d z n) (z n)
theorem bg_dlt {z : Nat → Nat} {M : Nat} (hM : 0 < M) (hz : ∀ i, i < 4 → z i < M) : ∀ n, n ≤ 4 → bg_d z n < M := by
  intro n
  induction n with
  | zero => intro _; exact hM
  | succ n ih =>
    intro hn
    have h1 := ih (by omega)
    have h2 := hz n (by omega)
    show Nat.gcd (bg_d z n) (z n) < M
    by_cases h0 : bg_d z n = 0
    · rw [h0, Nat.gcd_zero_left]
      exact h2
    · have := Nat.gcd_le_left (z n) (show 0 < bg_d z n by omega)
      omega
section
variable {post : St2 → Prop} {f1 f2 f3 f4 f5 f6 f7 : Int32} {f8 f9 : Int64} {a1 a2 : Nat → Int32} {a3 : Nat → Int64} {a4 : Nat → Int32} {a5 : Nat → Int64} {a6 : Nat → Int32} {a7 : Nat → Int64} {a8 a9 a10 : Nat → Int32}
theorem bg_keep {e m : Nat} {mr : Int32} {v : Nat → Nat} (he : e < 48) (hm : m < 24) (hv : bg_E a3 e v)
    (H : ∀ b5, bg_E b5 m v → bg_O a5 b5 m → post (f1, f2, nI (m + 1), f4, f5, f6, f7, f8, f9, a1, a2, a3, a4, b5, upd a6 m ((a4 e ||| mr).toInt8.toInt32), a7, a8, a9, a10)) :
    wpX_keepEdge post (f1, f2, nI m, f4, f5, f6, f7, f8, f9, a1, a2, a3, a4, a5, a6, a7, a8, a9, a10) (nI e) mr :=
  pk_loop (fun n i s => wX_keepEdge_2 post (nI e) mr f1 f2 (nI m) f4 f5 f6 f7 f8 f9 n (nI i) a1 a2 a3 a4 s a6 a7 a8 a9 a10)
    (fun i s => (∀ k, k < i → s (4 * m + k) = lN (v k)) ∧ bg_O a5 s m) 4 0 a5 (by omega) ⟨fun k hk => absurd hk (by omega), fun _ _ => rfl⟩
    (fun n s h => br_t (nI_le (a := 4) (b := 4) (by omega) (by decide)) ⟨pk_in e 48 he, pk_in m 24 hm,
      nm_r (by rw [nI_clamp (show e < 2 ^ 31 by omega), nI_clamp (show m < 2 ^ 31 by omega)]) (nm_r (nI_1 m) (H s h.1 h.2))⟩)
    (fun n i s hi h hw => br_f (nI_ge (b := 4) hi (by decide)) ⟨pk_in (4 * e + i) 192 (by omega) (bg_i4 e i), pk_in (4 * m + i) 96 (by omega) (bg_i4 m i),
      nm_r (by rw [bg_c4 m i (by omega), bg_c4 e i (by omega), hv i hi]) (nm_r (nI_1 i) (hw _ (bg_fill hi h)))⟩)
theorem bg_cross91 {b k l m d : Nat} {mr : Int32} {z : Nat → Nat} (hk : b + k < 48) (hl : b + l < 48) (hm : m < 24) (hd : 0 < d) (hd2 : d < 2 ^ 63) (hz : ∀ i, i < 4 → z i < 2 ^ 63) (hv : bg_E a5 m z)
    (H : ∀ b5, bg_E b5 m (fun i => z i / d) → bg_O a5 b5 m → post (f1, f2, nI (m + 1), f4, f5, f6, f7, f8, f9, a1, a2, a3, a4, b5, upd a6 m (((a4 (b + k) &&& a4 (b + l)) ||| mr).toInt8.toInt32), a7, a8, a9, a10)) :
    ∃ n, wX_cross_91 post (nI b) (nI k) (nI l) mr (lN d) f1 f2 (nI m) f4 f5 f6 f7 f8 f9 n 0 a1 a2 a3 a4 a5 a6 a7 a8 a9 a10 := by
  have hne : ¬ lN d = 0 := fun z => absurd ((pk_lEQ (b := 0) hd2 (by omega)).mp (z.trans (rfl : (0 : Int64) = lN 0))) (by omega)
  exact pk_loop (fun n i s => wX_cross_91 post (nI b) (nI k) (nI l) mr (lN d) f1 f2 (nI m) f4 f5 f6 f7 f8 f9 n (nI i) a1 a2 a3 a4 s a6 a7 a8 a9 a10)
    (fun i s => (∀ j, i ≤ j → j < 4 → s (4 * m + j) = lN (z j)) ∧ (∀ j, j < i → s (4 * m + j) = lN (z j / d)) ∧ bg_O a5 s m) 4 0 a5 (by omega)
    ⟨fun j _ hj => hv j hj, fun j hj => absurd hj (by omega), fun _ _ => rfl⟩
    (fun n s h => br_t (nI_le (a := 4) (b := 4) (by omega) (by decide)) ⟨pk_in (b + k) 48 hk (nI_add b k), pk_in (b + l) 48 hl (nI_add b l), pk_in m 24 hm,
      nm_r (by rw [bg_cb b k (by omega), bg_cb b l (by omega), nI_clamp (show m < 2 ^ 31 by omega)]) (nm_r (nI_1 m) (H s h.2.1 h.2.2))⟩)
    (fun n i s hi h hw => br_f (nI_ge (b := 4) hi (by decide)) ⟨pk_in (4 * m + i) 96 (by omega) (bg_i4 m i), hne, pk_in (4 * m + i) 96 (by omega) (bg_i4 m i),
      nm_r (by rw [bg_c4 m i (by omega), h.1 i (by omega) hi, pk_lDiv (hz i hi) hd hd2]) (nm_r (nI_1 i) (hw _
        ⟨fun j h1 h2 => by rw [pk_uLn (by omega)]; exact h.1 j (by omega) h2, bg_fill (v := fun j => z j / d) hi h.2⟩))⟩)
theorem bg_cross {b k l m u w : Nat} {mr : Int32} {x y : Nat → Nat} (hk : b + k < 48) (hl : b + l < 48) (hk2 : k < 24) (hl2 : l < 24) (hm : m < 24)
    (hx : bg_E a3 (b + k) x) (hy : bg_E a3 (b + l) y) (hu : a7 k = lN u) (hw : a7 l = -(lN w)) (hz : ∀ i, i < 4 → bg_z x y u w i < 2 ^ 63) (hd : 0 < bg_d (bg_z x y u w) 4)
    (H : ∀ b5, bg_E b5 m (fun i => bg_z x y u w i / bg_d (bg_z x y u w) 4) → bg_O a5 b5 m → post (f1, f2, nI (m + 1), f4, f5, f6, f7, f8, f9, a1, a2, a3, a4, b5, upd a6 m (((a4 (b + k) &&& a4 (b + l)) ||| mr).toInt8.toInt32), a7, a8, a9, a10)) :
    wpX_cross post (f1, f2, nI m, f4, f5, f6, f7, f8, f9, a1, a2, a3, a4, a5, a6, a7, a8, a9, a10) (nI b) (nI k) (nI l) mr := by
  have hdl : ∀ n, n ≤ 4 → bg_d (bg_z x y u w) n < 2 ^ 63 := bg_dlt (by omega) hz
  exact pk_loop (fun n i s => wX_cross_6 post (nI b) (nI k) (nI l) mr f1 f2 (nI m) f4 f5 f6 f7 f8 f9 n s.1 (nI i) a1 a2 a3 a4 s.2 a6 a7 a8 a9 a10)
    (fun i s => s.1 = lN (bg_d (bg_z x y u w) i) ∧ (∀ j, j < i → s.2 (4 * m + j) = lN (bg_z x y u w j)) ∧ bg_O a5 s.2 m) 4 0 ((0 : Int64), a5) (by omega)
    ⟨rfl, fun j hj => absurd hj (by omega), fun _ _ => rfl⟩
    (fun n s h => by
      obtain ⟨s1, s2⟩ := s
      obtain ⟨h1, h2, h3⟩ := h
      obtain rfl : s1 = lN (bg_d (bg_z x y u w) 4) := h1
      exact br_t (nI_le (a := 4) (b := 4) (by omega) (by decide)) (bg_cross91 hk hl hm hd (hdl 4 (by omega)) hz h2 (fun b5 e5 o5 => H b5 e5 (fun j hj => (o5 j hj).trans (h3 j hj)))))
    (fun n i s hi h hN => by
      obtain ⟨s1, s2⟩ := s
      obtain ⟨h1, h2, h3⟩ := h
      obtain rfl : s1 = lN (bg_d (bg_z x y u w) i) := h1
      refine br_f (nI_ge (b := 4) hi (by decide)) ⟨pk_in (4 * (b + k) + i) 192 (by omega) (bg_i4b b k i), pk_in l 24 hl2, pk_in (4 * (b + l) + i) 192 (by omega) (bg_i4b b l i), pk_in k 24 hk2,
        nm_r (e' := lN (bg_z x y u w i)) ?_ ⟨pk_in (4 * m + i) 96 (by omega) (bg_i4 m i), nm_r (e' := vp_updL s2 (4 * m + i) (lN (bg_z x y u w i))) (by rw [bg_c4 m i (by omega)])
          (bg_gcd (hdl i (by omega)) (hz i hi) (nm_r (nI_1 i) (hN (_, _) ⟨rfl, bg_fill hi ⟨h2, h3⟩⟩)))⟩⟩
      rw [bg_c4b b k i (by omega), bg_c4b b l i (by omega), nI_clamp (show k < 2 ^ 31 by omega), nI_clamp (show l < 2 ^ 31 by omega), hx i hi, hy i hi, hu, hw, Int64.neg_neg, lN_mul, lN_mul, lN_add]
      rfl)
theorem bg_addEdge {sd c m vv : Nat} {x1 x2 x3 bits : Int32} (hs : sd < 2) (hc : c < 4) (hm : m < 24) (hv : vv < 2 ^ 31) (h2 : a2 sd = nI m) (e1 : x1 = nI sd) (e2 : x2 = nI c) (e3 : x3 = nI vv)
    (H : ∀ b3, bg_E b3 (24 * sd + m) (fun i => if i = 3 then vv else if i = c then 1 else 0) → bg_O a3 b3 (24 * sd + m) →
      post (f1, f2, f3, f4, f5, f6, f7, f8, f9, a1, upd a2 sd (nI (m + 1)), b3, upd a4 (24 * sd + m) (bits.toInt8.toInt32), a5, a6, a7, a8, a9, a10)) :
    wpX_addEdge post (f1, f2, f3, f4, f5, f6, f7, f8, f9, a1, a2, a3, a4, a5, a6, a7, a8, a9, a10) x1 x2 x3 bits := by
  subst e1 e2 e3
  have he : (24 : Int32) * nI sd + nI m = nI (24 * sd + m) := by
    rw [show (24 : Int32) = nI 24 from rfl, pk_mul, nI_add]
  generalize hE : 24 * sd + m = e at *
  have hel : e < 48 := by omega
  refine ⟨pk_in sd 2 hs, nm_r (e' := nI e) (by rw [nI_clamp (show sd < 2 ^ 31 by omega), h2, he]) ?_⟩
  exact pk_loop (fun n i s => wX_addEdge_16 post (nI sd) (nI c) (nI vv) bits (nI e) f1 f2 f3 f4 f5 f6 f7 f8 f9 n (nI i) a1 a2 s a4 a5 a6 a7 a8 a9 a10)
    (fun i s => (∀ k, k < i → s (4 * e + k) = lN ((fun _ => 0) k)) ∧ bg_O a3 s e) 4 0 a3 (by omega) ⟨fun k hk => absurd hk (by omega), fun _ _ => rfl⟩
    (fun n s h => br_t (nI_le (a := 4) (b := 4) (by omega) (by decide)) ⟨pk_in (4 * e + c) 192 (by omega) (bg_i4 e c),
      nm_r (e' := vp_updL s (4 * e + c) (lN 1)) (by rw [bg_c4 e c (by omega)]; rfl) ⟨pk_in (4 * e + 3) 192 (by omega) (bg_i43 e),
      nm_r (e' := vp_updL (vp_updL s (4 * e + c) (lN 1)) (4 * e + 3) (lN vv)) (by rw [bg_c43 e (by omega), nI_l hv]) ⟨pk_in e 48 hel,
      nm_r (by rw [nI_clamp (show e < 2 ^ 31 by omega)]) ⟨pk_in sd 2 hs, pk_in sd 2 hs, nm_r (by rw [nI_clamp (show sd < 2 ^ 31 by omega), h2, nI_1]) (H _ (fun i hi => by
        by_cases h3 : i = 3
        · subst h3
          rw [pk_uLs]
          rfl
        · rw [pk_uLn (by omega)]
          by_cases h4 : i = c
          · subst h4
            rw [pk_uLs]
            simp only [h3, if_false, if_true]
          · rw [pk_uLn (by omega), h.1 i hi]
            simp only [h3, h4, if_false]) (fun j hj => by
        rw [pk_uLn (by omega), pk_uLn (by omega)]
        exact h.2 j hj))⟩⟩⟩⟩)
    (fun n i s hi h hw => br_f (nI_ge (b := 4) hi (by decide)) ⟨pk_in (4 * e + i) 192 (by omega) (bg_i4 e i),
      nm_r (e' := vp_updL s (4 * e + i) (lN ((fun _ => 0) i))) (by rw [bg_c4 e i (by omega)]; rfl) (nm_r (nI_1 i) (hw _ (bg_fill (v := fun _ => 0) hi h)))⟩)
end
section
variable {post : Int32 → Prop} {f1 f2 f3 f4 f5 f6 f7 : Int32} {f8 f9 : Int64} {a1 a2 : Nat → Int32} {a3 : Nat → Int64} {a4 : Nat → Int32} {a5 : Nat → Int64} {a6 : Nat → Int32} {a7 : Nat → Int64} {a8 a9 a10 : Nat → Int32}
theorem bg_neigh {b c k l : Nat} (hb : b + c ≤ 48) (hk : k < c) (hl : l < c) (hp : post 1)
    (h : ∀ i, i < c → i ≠ k → i ≠ l → ¬ (a4 (b + i) &&& (a4 (b + k) &&& a4 (b + l))) = (a4 (b + k) &&& a4 (b + l))) :
    wpX_areNeighbours post (f1, f2, f3, f4, f5, f6, f7, f8, f9, a1, a2, a3, a4, a5, a6, a7, a8, a9, a10) (nI b) (nI c) (nI k) (nI l) := by
  refine ⟨pk_in (b + k) 48 (by omega) (nI_add b k), pk_in (b + l) 48 (by omega) (nI_add b l), nm_r (e' := a4 (b + k) &&& a4 (b + l)) (by rw [bg_cb b k (by omega), bg_cb b l (by omega)]) ?_⟩
  exact pk_loop (σ := Unit) (fun n i _ => wX_areNeighbours_23 post (nI b) (nI c) (nI k) (nI l) (a4 (b + k) &&& a4 (b + l)) f1 f2 f3 f4 f5 f6 f7 f8 f9 a1 a2 a3 a4 a5 a6 a7 a8 a9 a10 n (nI i)) (fun _ _ => True) c 0 () (by omega) trivial
    (fun n _ _ => pk_le c c (fun _ => hp) (fun z => absurd z (by omega)))
    (fun n i _ hi _ hw => pk_le c i (fun z => absurd z (by omega)) (fun _ => pk_eq i k (fun _ => nm_r (nI_1 i) (hw () trivial)) (fun n1 => pk_eq i l (fun _ => nm_r (nI_1 i) (hw () trivial)) (fun n2 =>
      ⟨pk_in (b + i) 48 (by omega) (nI_add b i), br_f (by rw [bg_cb b i (by omega)]; exact h i hi n1 n2) (nm_r (nI_1 i) (hw () trivial))⟩))))
end
end
section
theorem bg_fill3 {s : Nat → Int32} {V : Nat → Nat → Int32} {c o : Nat} (ho : o < 3) (h : (∀ c', c' < c → ∀ o', o' < 3 → s (3 * c' + o') = V c' o') ∧ (∀ o', o' < o → s (3 * c + o') = V c o')) :
    (∀ c', c' < c → ∀ o', o' < 3 → upd s (3 * c + o) (V c o) (3 * c' + o') = V c' o') ∧ (∀ o', o' < o + 1 → upd s (3 * c + o) (V c o) (3 * c + o') = V c o') := by
  refine ⟨fun c' hc o' ho' => ?_, fun o' ho' => ?_⟩
  · rw [pk_un (by omega)]
    exact h.1 c' hc o' ho'
  · by_cases e : o' = o
    · rw [e, pk_us]
    · rw [pk_un (by omega)]
      exact h.2 o' (by omega)
theorem bg_all3 {s : Nat → Int32} {V : Nat → Nat → Int32} {c : Nat} (h : (∀ c', c' < c → ∀ o', o' < 3 → s (3 * c' + o') = V c' o') ∧ (∀ o', o' < 3 → s (3 * c + o') = V c o')) :
    ∀ c', c' < c + 1 → ∀ o', o' < 3 → s (3 * c' + o') = V c' o' := fun c' hc o' ho => by
  by_cases e : c' = c
  · rw [e]
    exact h.2 o' ho
  · exact h.1 c' (by omega) o' ho
section
variable {post : St2 → Prop} {f1 f2 f3 f4 f5 f6 f7 : Int32} {f8 f9 : Int64} {a1 a2 : Nat → Int32} {a3 : Nat → Int64} {a4 : Nat → Int32} {a5 : Nat → Int64} {a6 : Nat → Int32} {a7 : Nat → Int64} {a8 a9 a10 : Nat → Int32}
theorem bg_loss0 (H : ∀ b8, (∀ c, c < 3 → ∀ o, o < 3 → b8 (3 * c + o) = (10 + a1 (9 + 3 * c + o)).toInt8.toInt32) → post (f1, f2, f3, f4, f5, f6, f7, f8, f9, a1, a2, a3, a4, a5, a6, a7, b8, a9, a10)) : wpX_setLosses post (f1, f2, f3, f4, f5, f6, f7, f8, f9, a1, a2, a3, a4, a5, a6, a7, a8, a9, a10) 0 0 :=
  pk_loop (fun n c s => wX_setLosses_2 post 0 0 f1 f2 f3 f4 f5 f6 f7 f8 f9 n (nI c) a1 a2 a3 a4 a5 a6 a7 s a9 a10)
    (fun c s => ∀ c', c' < c → ∀ o, o < 3 → s (3 * c' + o) = (10 + a1 (9 + 3 * c' + o)).toInt8.toInt32) 3 0 a8 (by omega) (fun c hc => absurd hc (by omega))
    (fun n s h => br_t (nI_le (a := 3) (b := 3) (by omega) (by decide)) (H s h))
    (fun n c s hc h hw => br_f (nI_ge (b := 3) hc (by decide))
      (pk_loop (fun n' o s' => wX_setLosses_10 post (wX_setLosses_2 post 0 0 f1 f2 f3 f4 f5 f6 f7 f8 f9 n) 0 0 (nI c) f1 f2 f3 f4 f5 f6 f7 f8 f9 n' (nI o) a1 a2 a3 a4 a5 a6 a7 (s') a9 a10)
        (fun o s' => (∀ c', c' < c → ∀ o', o' < 3 → s' (3 * c' + o') = (fun c o => (10 + a1 (9 + 3 * c + o)).toInt8.toInt32) c' o') ∧ (∀ o', o' < o → s' (3 * c + o') = (fun c o => (10 + a1 (9 + 3 * c + o)).toInt8.toInt32) c o'))
        3 0 s (by omega) ⟨h, fun o ho => absurd ho (by omega)⟩
        (fun n' s' h' => br_t (nI_le (a := 3) (b := 3) (by omega) (by decide)) (nm_r (nI_1 c) (hw s' (bg_all3 h'))))
        (fun n' o s' ho h' hw' => by
          have ei : (9 : Int32) * (1 - 0) + 3 * nI c + nI o = nI (9 + 3 * c + o) := by
            rw [show (9 : Int32) * (1 - 0) = nI 9 from rfl, show (3 : Int32) = nI 3 from rfl, pk_mul, nI_add, nI_add]
          refine br_f (nI_ge (b := 3) ho (by decide)) (br_t rfl (br_t rfl (br_t rfl ⟨pk_in (9 + 3 * c + o) 18 (by omega) ei, pk_in (3 * c + o) 9 (by omega) (bg_i3 c o), nm_r ?_ (nm_r (nI_1 o) (hw' _ (bg_fill3 ho h')))⟩)))
          rw [pk_cl (9 + 3 * c + o) ei, bg_c3 c o (by omega)])))
theorem bg_loss1 (H : ∀ b8, (∀ c, c < 3 → ∀ o, o < 3 → b8 (3 * c + o) = (10 + a1 (3 * o + c)).toInt8.toInt32) → post (f1, f2, f3, f4, f5, f6, f7, f8, f9, a1, a2, a3, a4, a5, a6, a7, b8, a9, a10)) : wpX_setLosses post (f1, f2, f3, f4, f5, f6, f7, f8, f9, a1, a2, a3, a4, a5, a6, a7, a8, a9, a10) 1 0 :=
  pk_loop (fun n c s => wX_setLosses_2 post 1 0 f1 f2 f3 f4 f5 f6 f7 f8 f9 n (nI c) a1 a2 a3 a4 a5 a6 a7 s a9 a10)
    (fun c s => ∀ c', c' < c → ∀ o, o < 3 → s (3 * c' + o) = (10 + a1 (3 * o + c')).toInt8.toInt32) 3 0 a8 (by omega) (fun c hc => absurd hc (by omega))
    (fun n s h => br_t (nI_le (a := 3) (b := 3) (by omega) (by decide)) (H s h))
    (fun n c s hc h hw => br_f (nI_ge (b := 3) hc (by decide))
      (pk_loop (fun n' o s' => wX_setLosses_10 post (wX_setLosses_2 post 1 0 f1 f2 f3 f4 f5 f6 f7 f8 f9 n) 1 0 (nI c) f1 f2 f3 f4 f5 f6 f7 f8 f9 n' (nI o) a1 a2 a3 a4 a5 a6 a7 (s') a9 a10)
        (fun o s' => (∀ c', c' < c → ∀ o', o' < 3 → s' (3 * c' + o') = (fun c o => (10 + a1 (3 * o + c)).toInt8.toInt32) c' o') ∧ (∀ o', o' < o → s' (3 * c + o') = (fun c o => (10 + a1 (3 * o + c)).toInt8.toInt32) c o'))
        3 0 s (by omega) ⟨h, fun o ho => absurd ho (by omega)⟩
        (fun n' s' h' => br_t (nI_le (a := 3) (b := 3) (by omega) (by decide)) (nm_r (nI_1 c) (hw s' (bg_all3 h'))))
        (fun n' o s' ho h' hw' => by
          have ei : (9 : Int32) * (1 - 1) + 3 * nI o + nI c = nI (3 * o + c) := by
            rw [show (9 : Int32) * (1 - 1) = nI 0 from rfl, show (3 : Int32) = nI 3 from rfl, pk_mul, nI_add, nI_add, Nat.zero_add]
          refine br_f (nI_ge (b := 3) ho (by decide)) (br_f (by decide) (br_f (by decide) (br_t rfl ⟨pk_in (3 * o + c) 18 (by omega) ei, pk_in (3 * c + o) 9 (by omega) (bg_i3 c o), nm_r ?_ (nm_r (nI_1 o) (hw' _ (bg_fill3 ho h')))⟩)))
          rw [pk_cl (3 * o + c) ei, bg_c3 c o (by omega)])))
end
section
variable {post : Int32 → St2 → Prop} {f1 f2 f3 f4 f5 f6 f7 : Int32} {f8 f9 : Int64} {a1 a2 : Nat → Int32} {a3 : Nat → Int64} {a4 : Nat → Int32} {a5 : Nat → Int64} {a6 : Nat → Int32} {a7 : Nat → Int64} {a8 a9 a10 : Nat → Int32}
theorem bg_pay {p0 p1 p2 : Int32} (hs : p0 = 0 ∨ p0 = 1) (h1 : ¬ p1 < 0) (h2 : ¬ f1 ≤ p1 / 3) (h3 : ¬ f2 ≤ p1 - p1 / 3 * 3) (h4 : ¬ p2 < (-9)) (h5 : p2 ≤ 9) (h6 : vp_in (9 * p0 + p1) 18)
    (hp : post 1 (f1, f2, f3, f4, f5, 0, f7, f8, f9, upd a1 (9 * p0 + p1).toNatClampNeg p2.toInt8.toInt32, a2, a3, a4, a5, a6, a7, a8, a9, a10)) : wpX_pay post (f1, f2, f3, f4, f5, f6, f7, f8, f9, a1, a2, a3, a4, a5, a6, a7, a8, a9, a10) p0 p1 p2 := by
  rcases hs with rfl | rfl
  · exact br_t rfl (br_f (by decide) (br_f h1 ⟨by decide, br_f h2 ⟨by decide, br_f h3 (br_f (by decide) (br_f h4 (br_t h5 ⟨h6, nm_e hp⟩)))⟩⟩))
  · exact br_f (by decide) (br_t rfl (br_f (by decide) (br_f h1 ⟨by decide, br_f h2 ⟨by decide, br_f h3 (br_f (by decide) (br_f h4 (br_t h5 ⟨h6, nm_e hp⟩)))⟩⟩)))
end
end
section
/-- what is left of the loss of an edge v after i of the choice o's losses -/
def bg_sl (v : Nat → Nat) (a8 : Nat → Int32) (o : Nat) : Nat → Int64
  | 0 => lN (v 3)
  | i + 1 => bg_sl v a8 o i - lN (v i) * (a8 (3 * i + o)).toInt64
section
variable {post : St2 → Prop} {J : Int32 → Int32 → Int32 → Int32 → Int32 → Int32 → Int32 → Int32 → Int64 → Int64 → (Nat → Int32) → (Nat → Int32) → (Nat → Int64) → (Nat → Int32) → (Nat → Int64) → (Nat → Int32) → (Nat → Int64) → (Nat → Int32) → (Nat → Int32) → (Nat → Int32) → Prop} {x1 x2 x4 : Int32} {f1 f2 f3 f4 f5 f6 f7 : Int32} {f8 f9 : Int64} {a1 a2 : Nat → Int32} {a3 : Nat → Int64} {a4 : Nat → Int32} {a5 : Nat → Int64} {a6 : Nat → Int32} {a7 : Nat → Int64} {a8 a9 a10 : Nat → Int32}
theorem bg_50neg {o k e : Nat} {v : Nat → Nat} (ho : o < 3) (hk : k < 24) (he : e < 48) (hv : bg_E a3 e v) (h7 : a7 k = lN (v 3)) (hn : bg_sl v a8 o 3 < 0)
    (H : ∀ b7, b7 k = bg_sl v a8 o 3 → (∀ j, j ≠ k → b7 j = a7 j) → J (nI (k + 1)) f1 f2 f3 f4 f5 f6 f7 f8 f9 a1 a2 a3 a4 a5 a6 b7 a8 a9 a10) :
    ∃ n, wX_addChoice_50 post J x1 x2 (nI o) x4 (nI k) (nI e) f1 f2 f3 f4 f5 f6 f7 f8 f9 n 0 a1 a2 a3 a4 a5 a6 a7 a8 a9 a10 :=
  pk_loop (fun n i s => wX_addChoice_50 post J x1 x2 (nI o) x4 (nI k) (nI e) f1 f2 f3 f4 f5 f6 f7 f8 f9 n (nI i) a1 a2 a3 a4 a5 a6 s a8 a9 a10)
    (fun i s => s k = bg_sl v a8 o i ∧ ∀ j, j ≠ k → s j = a7 j) 3 0 a7 (by omega) ⟨h7, fun _ _ => rfl⟩
    (fun n s h => br_t (nI_le (a := 3) (b := 3) (by omega) (by decide)) ⟨pk_in k 24 hk, br_t (by rw [nI_clamp (show k < 2 ^ 31 by omega), h.1]; exact hn) (nm_r (nI_1 k) (H s h.1 h.2))⟩)
    (fun n i s hi h hw => br_f (nI_ge (b := 3) hi (by decide)) ⟨pk_in k 24 hk, pk_in (4 * e + i) 192 (by omega) (bg_i4 e i), pk_in (3 * i + o) 9 (by omega) (bg_i3 i o), pk_in k 24 hk,
      nm_r (e' := vp_updL s k (bg_sl v a8 o (i + 1))) (by rw [nI_clamp (show k < 2 ^ 31 by omega), bg_c4 e i (by omega), bg_c3 i o (by omega), h.1, hv i (by omega)]; rfl) (nm_r (nI_1 i) (hw _
        ⟨pk_uLs, fun j hj => by rw [pk_uLn hj]; exact h.2 j hj⟩))⟩)
theorem bg_50pos {o k e m : Nat} {v : Nat → Nat} (ho : o < 3) (hk : k < 24) (he : e < 48) (hm : m < 24) (hv : bg_E a3 e v) (h7 : a7 k = lN (v 3)) (hn : ¬ bg_sl v a8 o 3 < 0) (h0 : ¬ bg_sl v a8 o 3 = 0)
    (H : ∀ b5 b7, bg_E b5 m v → bg_O a5 b5 m → b7 k = bg_sl v a8 o 3 → (∀ j, j ≠ k → b7 j = a7 j) → J (nI (k + 1)) f1 f2 (nI (m + 1)) f4 f5 f6 f7 f8 f9 a1 a2 a3 a4 b5 (upd a6 m ((a4 e ||| 0).toInt8.toInt32)) b7 a8 a9 a10) :
    ∃ n, wX_addChoice_50 post J x1 x2 (nI o) x4 (nI k) (nI e) f1 f2 (nI m) f4 f5 f6 f7 f8 f9 n 0 a1 a2 a3 a4 a5 a6 a7 a8 a9 a10 :=
  pk_loop (fun n i s => wX_addChoice_50 post J x1 x2 (nI o) x4 (nI k) (nI e) f1 f2 (nI m) f4 f5 f6 f7 f8 f9 n (nI i) a1 a2 a3 a4 a5 a6 s a8 a9 a10)
    (fun i s => s k = bg_sl v a8 o i ∧ ∀ j, j ≠ k → s j = a7 j) 3 0 a7 (by omega) ⟨h7, fun _ _ => rfl⟩
    (fun n s h => br_t (nI_le (a := 3) (b := 3) (by omega) (by decide)) ⟨pk_in k 24 hk, br_f (by rw [nI_clamp (show k < 2 ^ 31 by omega), h.1]; exact hn) ⟨pk_in k 24 hk,
      br_f (by rw [nI_clamp (show k < 2 ^ 31 by omega), h.1]; exact h0) (bg_keep he hm hv (fun b5 e5 o5 => nm_r (nI_1 k) (H b5 s e5 o5 h.1 h.2)))⟩⟩)
    (fun n i s hi h hw => br_f (nI_ge (b := 3) hi (by decide)) ⟨pk_in k 24 hk, pk_in (4 * e + i) 192 (by omega) (bg_i4 e i), pk_in (3 * i + o) 9 (by omega) (bg_i3 i o), pk_in k 24 hk,
      nm_r (e' := vp_updL s k (bg_sl v a8 o (i + 1))) (by rw [nI_clamp (show k < 2 ^ 31 by omega), bg_c4 e i (by omega), bg_c3 i o (by omega), h.1, hv i (by omega)]; rfl) (nm_r (nI_1 i) (hw _
        ⟨pk_uLs, fun j hj => by rw [pk_uLn hj]; exact h.2 j hj⟩))⟩)
theorem bg_16neg {b o c k n : Nat} {v : Nat → Nat} (ho : o < 3) (hkc : k < c) (hc : c < 24) (he : b + k < 48) (hv : bg_E a3 (b + k) v) (hn : bg_sl v a8 o 3 < 0)
    (H : ∀ b7, b7 k = bg_sl v a8 o 3 → (∀ j, j ≠ k → b7 j = a7 j) → wX_addChoice_16 post x1 (nI b) (nI o) (nI c) n (nI (k + 1)) f1 f2 f3 f4 f5 f6 f7 f8 f9 a1 a2 a3 a4 a5 a6 b7 a8 a9 a10) :
    wX_addChoice_16 post x1 (nI b) (nI o) (nI c) (n + 1) (nI k) f1 f2 f3 f4 f5 f6 f7 f8 f9 a1 a2 a3 a4 a5 a6 a7 a8 a9 a10 := by
  refine pk_le c k (fun z => absurd z (by omega)) (fun _ => nm_r (nI_add b k) ⟨pk_in (4 * (b + k) + 3) 192 (by omega) (bg_i43 (b + k)), pk_in k 24 (by omega),
    nm_r (e' := vp_updL a7 k (lN (v 3))) (by rw [nI_clamp (show k < 2 ^ 31 by omega), bg_c43 (b + k) (by omega), hv 3 (by omega)]) ?_⟩)
  exact bg_50neg ho (by omega) he hv pk_uLs hn (fun b7 h1 h2 => H b7 h1 (fun j hj => by rw [h2 j hj, pk_uLn hj]))
theorem bg_16pos {b o c k n m : Nat} {v : Nat → Nat} (ho : o < 3) (hkc : k < c) (hc : c < 24) (he : b + k < 48) (hm : m < 24) (hv : bg_E a3 (b + k) v) (hn : ¬ bg_sl v a8 o 3 < 0) (h0 : ¬ bg_sl v a8 o 3 = 0)
    (H : ∀ b5 b7, bg_E b5 m v → bg_O a5 b5 m → b7 k = bg_sl v a8 o 3 → (∀ j, j ≠ k → b7 j = a7 j) →
      wX_addChoice_16 post x1 (nI b) (nI o) (nI c) n (nI (k + 1)) f1 f2 (nI (m + 1)) f4 f5 f6 f7 f8 f9 a1 a2 a3 a4 b5 (upd a6 m ((a4 (b + k) ||| 0).toInt8.toInt32)) b7 a8 a9 a10) :
    wX_addChoice_16 post x1 (nI b) (nI o) (nI c) (n + 1) (nI k) f1 f2 (nI m) f4 f5 f6 f7 f8 f9 a1 a2 a3 a4 a5 a6 a7 a8 a9 a10 := by
  refine pk_le c k (fun z => absurd z (by omega)) (fun _ => nm_r (nI_add b k) ⟨pk_in (4 * (b + k) + 3) 192 (by omega) (bg_i43 (b + k)), pk_in k 24 (by omega),
    nm_r (e' := vp_updL a7 k (lN (v 3))) (by rw [nI_clamp (show k < 2 ^ 31 by omega), bg_c43 (b + k) (by omega), hv 3 (by omega)]) ?_⟩)
  exact bg_50pos ho (by omega) he hm hv pk_uLs hn h0 (fun b5 b7 e5 o5 h1 h2 => H b5 b7 e5 o5 h1 (fun j hj => by rw [h2 j hj, pk_uLn hj]))
/-- edge k is not above: it is crossed with none -/
theorem bg_skip {x3 : Int32} {c k : Nat} (hk : k < c) (hc : c < 24) (hs : a7 k ≤ 0) (H : J (nI (k + 1)) f1 f2 f3 f4 f5 f6 f7 f8 f9 a1 a2 a3 a4 a5 a6 a7 a8 a9 a10) :
    ∃ n, wX_addChoice_154 post J x1 x2 x3 (nI c) (nI k) n 0 f1 f2 f3 f4 f5 f6 f7 f8 f9 a1 a2 a3 a4 a5 a6 a7 a8 a9 a10 :=
  pk_loop (σ := Unit) (fun n i _ => wX_addChoice_154 post J x1 x2 x3 (nI c) (nI k) n (nI i) f1 f2 f3 f4 f5 f6 f7 f8 f9 a1 a2 a3 a4 a5 a6 a7 a8 a9 a10) (fun _ _ => True) c 0 () (by omega) trivial
    (fun n _ _ => pk_le c c (fun _ => nm_r (nI_1 k) H) (fun z => absurd z (by omega)))
    (fun n i _ hi _ hw => pk_le c i (fun z => absurd z (by omega)) (fun _ => ⟨pk_in k 24 (by omega), br_t (by rw [nI_clamp (show k < 2 ^ 31 by omega)]; exact hs) (nm_r (nI_1 i) (hw () trivial))⟩))
/-- just one edge, l, is below: it is crossed with k -/
theorem bg_hit {b o c k l m u w : Nat} {x y : Nat → Nat} (hbc : b + c ≤ 48) (hc : c < 24) (hk : k < c) (hl : l < c) (hm : m < 24)
    (hx : bg_E a3 (b + k) x) (hy : bg_E a3 (b + l) y) (hu : a7 k = lN u) (hw : a7 l = -(lN w)) (hup : ¬ a7 k ≤ 0) (hwn : ¬ 0 ≤ a7 l) (hoth : ∀ i, i < c → i ≠ l → 0 ≤ a7 i)
    (hz : ∀ i, i < 4 → bg_z x y u w i < 2 ^ 63) (hd : 0 < bg_d (bg_z x y u w) 4)
    (hnb : ∀ i, i < c → i ≠ k → i ≠ l → ¬ (a4 (b + i) &&& (a4 (b + k) &&& a4 (b + l))) = (a4 (b + k) &&& a4 (b + l)))
    (H : ∀ b5, bg_E b5 m (fun i => bg_z x y u w i / bg_d (bg_z x y u w) 4) → bg_O a5 b5 m →
      J (nI (k + 1)) f1 f2 (nI (m + 1)) f4 f5 f6 f7 f8 f9 a1 a2 a3 a4 b5 (upd a6 m (((a4 (b + k) &&& a4 (b + l)) ||| ((8 : Int32) <<< (nI o &&& 31))).toInt8.toInt32)) a7 a8 a9 a10) :
    ∃ n, wX_addChoice_154 post J x1 (nI b) (nI o) (nI c) (nI k) n 0 f1 f2 (nI m) f4 f5 f6 f7 f8 f9 a1 a2 a3 a4 a5 a6 a7 a8 a9 a10 := by
  have after : ∀ (g3 : Int32) (g5 : Nat → Int64) (g6 : Nat → Int32), J (nI (k + 1)) f1 f2 g3 f4 f5 f6 f7 f8 f9 a1 a2 a3 a4 g5 g6 a7 a8 a9 a10 → ∀ n i, c - i < n → l < i → i ≤ c → wX_addChoice_154 post J x1 (nI b) (nI o) (nI c) (nI k) n (nI i) f1 f2 g3 f4 f5 f6 f7 f8 f9 a1 a2 a3 a4 g5 g6 a7 a8 a9 a10 := by
    intro g3 g5 g6 HJ n
    induction n with
    | zero => intro i h _ _; omega
    | succ n ih =>
      intro i h1 h2 h3
      refine pk_le c i (fun _ => nm_r (nI_1 k) HJ) (fun z => ⟨pk_in k 24 (by omega), br_f (by rw [nI_clamp (show k < 2 ^ 31 by omega)]; exact hup) ⟨pk_in i 24 (by omega),
        br_t (by rw [nI_clamp (show i < 2 ^ 31 by omega)]; exact hoth i z (by omega)) (nm_r (nI_1 i) (ih (i + 1) (by omega) (by omega) (by omega)))⟩⟩)
  have upto : ∀ n i, c - i < n → i ≤ l → wX_addChoice_154 post J x1 (nI b) (nI o) (nI c) (nI k) n (nI i) f1 f2 (nI m) f4 f5 f6 f7 f8 f9 a1 a2 a3 a4 a5 a6 a7 a8 a9 a10 := by
    intro n
    induction n with
    | zero => intro i h _; omega
    | succ n ih =>
      intro i h1 h2
      refine pk_le c i (fun z => absurd z (by omega)) (fun z => ⟨pk_in k 24 (by omega), br_f (by rw [nI_clamp (show k < 2 ^ 31 by omega)]; exact hup) ⟨pk_in i 24 (by omega), ?_⟩⟩)
      by_cases e : i = l
      · subst e
        refine br_f (by rw [nI_clamp (show i < 2 ^ 31 by omega)]; exact hwn) (bg_neigh hbc hk hl (br_f (by decide) ?_) hnb)
        exact bg_cross (by omega) (by omega) (by omega) (by omega) hm hx hy hu hw hz hd (fun b5 e5 o5 => nm_r (nI_1 i) (after _ _ _ (H b5 e5 o5) n (i + 1) (by omega) (by omega) (by omega)))
      · exact br_t (by rw [nI_clamp (show i < 2 ^ 31 by omega)]; exact hoth i z e) (nm_r (nI_1 i) (ih (i + 1) (by omega) (by omega)))
  exact ⟨c + 1, upto (c + 1) 0 (by omega) (by omega)⟩
end
section
variable {post : St2 → Prop} {J : Int32 → (Nat → Int32) → (Nat → Int32) → (Nat → Int64) → (Nat → Int32) → (Nat → Int64) → (Nat → Int32) → (Nat → Int64) → (Nat → Int32) → (Nat → Int32) → (Nat → Int32) → Prop} {f1 f2 f3 f4 f5 f6 f7 : Int32} {f8 f9 : Int64} {a1 a2 : Nat → Int32} {a3 : Nat → Int64} {a4 : Nat → Int32} {a5 : Nat → Int64} {a6 : Nat → Int32} {a7 : Nat → Int64} {a8 a9 a10 : Nat → Int32}
theorem bg_249 {b k : Nat} (hk : k < 24) (he : b + k < 48)
    (H : ∀ b3, (∀ i, i < 4 → b3 (4 * (b + k) + i) = a5 (4 * k + i)) → bg_O a3 b3 (b + k) → J (nI (k + 1)) a1 a2 b3 (upd a4 (b + k) (vp_nar .byte (a6 k))) a5 a6 a7 a8 a9 a10) :
    ∃ n, wX_addChoice_249 post J (nI b) (nI k) f1 f2 f3 f4 f5 f6 f7 f8 f9 n 0 a1 a2 a3 a4 a5 a6 a7 a8 a9 a10 :=
  pk_loop (fun n i s => wX_addChoice_249 post J (nI b) (nI k) f1 f2 f3 f4 f5 f6 f7 f8 f9 n (nI i) a1 a2 s a4 a5 a6 a7 a8 a9 a10)
    (fun i s => (∀ j, j < i → s (4 * (b + k) + j) = a5 (4 * k + j)) ∧ bg_O a3 s (b + k)) 4 0 a3 (by omega) ⟨fun j hj => absurd hj (by omega), fun _ _ => rfl⟩
    (fun n s h => br_t (nI_le (a := 4) (b := 4) (by omega) (by decide)) ⟨pk_in k 24 hk, pk_in (b + k) 48 he (nI_add b k),
      nm_r (by rw [bg_cb b k (by omega), nI_clamp (show k < 2 ^ 31 by omega)]) (nm_r (nI_1 k) (H s h.1 h.2))⟩)
    (fun n i s hi h hw => br_f (nI_ge (b := 4) hi (by decide)) ⟨pk_in (4 * k + i) 96 (by omega) (bg_i4 k i), pk_in (4 * (b + k) + i) 192 (by omega) (bg_i4b b k i),
      nm_r (e' := vp_updL s (4 * (b + k) + i) (a5 (4 * k + i))) (by rw [bg_c4b b k i (by omega), bg_c4 k i (by omega)]) (nm_r (nI_1 i) (hw _ ⟨fun j hj => by
        by_cases e : j = i
        · rw [e, pk_uLs]
        · rw [pk_uLn (by omega)]
          exact h.1 j (by omega), fun j hj => by
        rw [pk_uLn (by omega)]
        exact h.2 j hj⟩))⟩)
theorem bg_237 {b m : Nat} (hm : m ≤ 24) (he : b + m ≤ 48)
    (H : ∀ b3 b4, (∀ k, k < m → ∀ i, i < 4 → b3 (4 * (b + k) + i) = a5 (4 * k + i)) → (∀ j, (j < 4 * b ∨ 4 * (b + m) ≤ j) → b3 j = a3 j) →
      (∀ k, k < m → b4 (b + k) = vp_nar .byte (a6 k)) → (∀ j, (j < b ∨ b + m ≤ j) → b4 j = a4 j) → post (f1, f2, nI m, f4, f5, f6, f7, f8, f9, a1, a2, b3, b4, a5, a6, a7, a8, a9, a10)) :
    ∃ n, wX_addChoice_237 post (nI b) f1 f2 (nI m) f4 f5 f6 f7 f8 f9 n 0 a1 a2 a3 a4 a5 a6 a7 a8 a9 a10 :=
  pk_loop (σ := (Nat → Int64) × (Nat → Int32)) (fun n k s => wX_addChoice_237 post (nI b) f1 f2 (nI m) f4 f5 f6 f7 f8 f9 n (nI k) a1 a2 s.1 s.2 a5 a6 a7 a8 a9 a10)
    (fun c s => (∀ k, k < c → ∀ i, i < 4 → s.1 (4 * (b + k) + i) = a5 (4 * k + i)) ∧ (∀ j, (j < 4 * b ∨ 4 * (b + m) ≤ j) → s.1 j = a3 j) ∧ (∀ k, k < c → s.2 (b + k) = vp_nar .byte (a6 k)) ∧ (∀ j, (j < b ∨ b + m ≤ j) → s.2 j = a4 j))
    m 0 (a3, a4) (by omega) ⟨fun k hk => absurd hk (by omega), fun _ _ => rfl, fun k hk => absurd hk (by omega), fun _ _ => rfl⟩
    (fun n s h => pk_le m m (fun _ => H s.1 s.2 h.1 h.2.1 h.2.2.1 h.2.2.2) (fun z => absurd z (by omega)))
    (fun n k s hk h hw => pk_le m k (fun z => absurd z (by omega)) (fun _ => bg_249 (by omega) (by omega) (fun b3 h1 h2 => hw (b3, _)
      ⟨fun k' hk' i hi => by
        by_cases e : k' = k
        · rw [e]
          exact h1 i hi
        · exact (h2 _ (by omega)).trans (h.1 k' (by omega) i hi),
       fun j hj => (h2 j (by omega)).trans (h.2.1 j hj),
       fun k' hk' => by
        by_cases e : k' = k
        · rw [e]
          exact pk_us
        · exact (pk_un (by omega)).trans (h.2.2.1 k' (by omega)),
       fun j hj => (pk_un (by omega)).trans (h.2.2.2 j hj)⟩)))
end
end
section
section
variable {post : St2 → Prop} {J : Int32 → Int32 → (Nat → Int32) → (Nat → Int32) → (Nat → Int64) → (Nat → Int32) → (Nat → Int64) → (Nat → Int32) → (Nat → Int64) → (Nat → Int32) → (Nat → Int32) → (Nat → Int32) → Prop} {x1 : Int32} {f1 f2 f3 f4 f5 f6 f7 : Int32} {f8 f9 : Int64} {a1 a2 : Nat → Int32} {a3 : Nat → Int64} {a4 : Nat → Int32} {a5 : Nat → Int64} {a6 : Nat → Int32} {a7 : Nat → Int64} {a8 a9 a10 : Nat → Int32}
theorem bg_39 {b q k : Nat} {v : Nat → Nat} (hk : b + k < 48) (hq : b + q < 48) (hv : bg_E a3 (b + k) v)
    (H : ∀ b3, bg_E b3 (b + q) v → bg_O a3 b3 (b + q) → J (nI (q + 1)) (nI (k + 1)) a1 a2 b3 (upd a4 (b + q) (vp_nar .byte (a4 (b + k)))) a5 a6 a7 a8 a9 a10) :
    ∃ n, wX_dropLast_39 post J x1 (nI b) (nI q) (nI k) (nI (b + k)) f1 f2 f3 f4 f5 f6 f7 f8 f9 n 0 a1 a2 a3 a4 a5 a6 a7 a8 a9 a10 :=
  pk_loop (fun n i s => wX_dropLast_39 post J x1 (nI b) (nI q) (nI k) (nI (b + k)) f1 f2 f3 f4 f5 f6 f7 f8 f9 n (nI i) a1 a2 s a4 a5 a6 a7 a8 a9 a10)
    (fun i s => bg_E s (b + k) v ∧ (∀ j, j < i → s (4 * (b + q) + j) = lN (v j)) ∧ bg_O a3 s (b + q)) 4 0 a3 (by omega) ⟨hv, fun j hj => absurd hj (by omega), fun _ _ => rfl⟩
    (fun n s h => br_t (nI_le (a := 4) (b := 4) (by omega) (by decide)) ⟨pk_in (b + k) 48 hk, pk_in (b + q) 48 hq (nI_add b q),
      nm_r (by rw [bg_cb b q (by omega), nI_clamp (show b + k < 2 ^ 31 by omega)]) (nm_r (nI_1 q) (nm_r (nI_1 k) (H s h.2.1 h.2.2)))⟩)
    (fun n i s hi h hw => br_f (nI_ge (b := 4) hi (by decide)) ⟨pk_in (4 * (b + k) + i) 192 (by omega) (bg_i4 (b + k) i), pk_in (4 * (b + q) + i) 192 (by omega) (bg_i4b b q i),
      nm_r (e' := vp_updL s (4 * (b + q) + i) (lN (v i))) (by rw [bg_c4b b q i (by omega), bg_c4 (b + k) i (by omega), h.1 i hi]) (nm_r (nI_1 i) (hw _ ⟨fun j hj => by
        by_cases e : 4 * (b + k) + j = 4 * (b + q) + i
        · obtain rfl : j = i := by omega
          rw [e, pk_uLs]
        · rw [pk_uLn e]
          exact h.1 j hj, bg_fill hi h.2⟩))⟩)
theorem bg_5keep {sd b c q k n : Nat} {v : Nat → Nat} (hs : sd < 2) (h2 : a2 sd = nI c) (hc : c ≤ 24) (hb : b + c ≤ 48) (hk : k < c) (hq : q ≤ k) (hv : bg_E a3 (b + k) v) (hn : ¬ lN (v 0 + v 1 + v 2) = 0)
    (H : ∀ b3, bg_E b3 (b + q) v → bg_O a3 b3 (b + q) → wX_dropLast_5 post (nI sd) (nI b) f1 f2 f3 f4 f5 f6 f7 f8 f9 n (nI (q + 1)) (nI (k + 1)) a1 a2 b3 (upd a4 (b + q) (vp_nar .byte (a4 (b + k)))) a5 a6 a7 a8 a9 a10) :
    wX_dropLast_5 post (nI sd) (nI b) f1 f2 f3 f4 f5 f6 f7 f8 f9 (n + 1) (nI q) (nI k) a1 a2 a3 a4 a5 a6 a7 a8 a9 a10 :=
  ⟨pk_in sd 2 hs, pk_le c k (fun z => absurd z (by omega)) (fun _ => nm_r (nI_add b k) (bg_sum (by omega) hv (br_f hn (bg_39 (by omega) (by omega) hv H)))) (by rw [nI_clamp (show sd < 2 ^ 31 by omega)]; exact h2)⟩
theorem bg_5drop {sd b c q k n : Nat} {v : Nat → Nat} (hs : sd < 2) (h2 : a2 sd = nI c) (hc : c ≤ 24) (hb : b + c ≤ 48) (hk : k < c) (hv : bg_E a3 (b + k) v) (hn : lN (v 0 + v 1 + v 2) = 0)
    (H : wX_dropLast_5 post (nI sd) (nI b) f1 f2 f3 f4 f5 f6 f7 f8 f9 n (nI q) (nI (k + 1)) a1 a2 a3 a4 a5 a6 a7 a8 a9 a10) :
    wX_dropLast_5 post (nI sd) (nI b) f1 f2 f3 f4 f5 f6 f7 f8 f9 (n + 1) (nI q) (nI k) a1 a2 a3 a4 a5 a6 a7 a8 a9 a10 :=
  ⟨pk_in sd 2 hs, pk_le c k (fun z => absurd z (by omega)) (fun _ => nm_r (nI_add b k) (bg_sum (by omega) hv (br_t hn (nm_r (nI_1 k) H)))) (by rw [nI_clamp (show sd < 2 ^ 31 by omega)]; exact h2)⟩
theorem bg_5end {sd b c q n : Nat} (hs : sd < 2) (h2 : a2 sd = nI c) (hc : c ≤ 24) (H : post (f1, f2, f3, f4, f5, f6, f7, f8, f9, a1, upd a2 sd (nI q), a3, a4, a5, a6, a7, a8, a9, a10)) :
    wX_dropLast_5 post (nI sd) (nI b) f1 f2 f3 f4 f5 f6 f7 f8 f9 (n + 1) (nI q) (nI c) a1 a2 a3 a4 a5 a6 a7 a8 a9 a10 :=
  ⟨pk_in sd 2 hs, pk_le c c (fun _ => ⟨pk_in sd 2 hs, nm_r (by rw [nI_clamp (show sd < 2 ^ 31 by omega)]) H⟩) (fun z => absurd z (by omega)) (by rw [nI_clamp (show sd < 2 ^ 31 by omega)]; exact h2)⟩
/-- of four edges the second one goes -/
theorem bg_drop {sd b : Nat} {v0 v1 v2 v3 : Nat → Nat} (hs : sd < 2) (hb : b + 4 ≤ 48) (h2 : a2 sd = nI 4) (e0 : bg_E a3 b v0) (e1 : bg_E a3 (b + 1) v1) (e2 : bg_E a3 (b + 2) v2) (e3 : bg_E a3 (b + 3) v3)
    (s0 : ¬ lN (v0 0 + v0 1 + v0 2) = 0) (s1 : lN (v1 0 + v1 1 + v1 2) = 0) (s2 : ¬ lN (v2 0 + v2 1 + v2 2) = 0) (s3 : ¬ lN (v3 0 + v3 1 + v3 2) = 0)
    (H : ∀ b3 b4, bg_E b3 b v0 → bg_E b3 (b + 1) v2 → bg_E b3 (b + 2) v3 → (∀ j, (j < 4 * b ∨ 4 * b + 16 ≤ j) → b3 j = a3 j) →
      b4 b = vp_nar .byte (a4 b) → b4 (b + 1) = vp_nar .byte (a4 (b + 2)) → b4 (b + 2) = vp_nar .byte (a4 (b + 3)) → (∀ j, (j < b ∨ b + 4 ≤ j) → b4 j = a4 j) →
      post (f1, f2, f3, f4, f5, f6, f7, f8, f9, a1, upd a2 sd (nI 3), b3, b4, a5, a6, a7, a8, a9, a10)) :
    wpX_dropLast post (f1, f2, f3, f4, f5, f6, f7, f8, f9, a1, a2, a3, a4, a5, a6, a7, a8, a9, a10) (nI sd) (nI b) := by
  refine ⟨5, bg_5keep (k := 0) (q := 0) hs h2 (by omega) hb (by omega) (by omega) e0 s0 (fun c3 k0 o0 => ?_)⟩
  refine bg_5drop (k := 1) hs h2 (by omega) hb (by omega) (bg_Ek e1 o0 (by omega)) s1 ?_
  refine bg_5keep (k := 2) (q := 1) hs h2 (by omega) hb (by omega) (by omega) (bg_Ek e2 o0 (by omega)) s2 (fun d3 k1 o1 => ?_)
  refine bg_5keep (k := 3) (q := 2) hs h2 (by omega) hb (by omega) (by omega) (bg_Ek (bg_Ek e3 o0 (by omega)) o1 (by omega)) s3 (fun g3 k2 o2 => ?_)
  refine bg_5end hs h2 (by omega) (H g3 _ (bg_Ek (bg_Ek k0 o1 (by omega)) o2 (by omega)) (bg_Ek k1 o2 (by omega)) k2 (fun j hj => ?_) ?_ ?_ ?_ (fun j hj => ?_))
  · rw [o2 j (by omega), o1 j (by omega), o0 j (by omega)]
  · rw [pk_un (by omega), pk_un (by omega)]
    exact pk_us
  · rw [pk_un (by omega), pk_us, pk_un (by omega)]
  · rw [pk_us, pk_un (by omega), pk_un (by omega)]
  · rw [pk_un (by omega), pk_un (by omega), pk_un (by omega)]
end
end
section
theorem bg_sg : ∀ n, n < 10 → 0 < n → -(lN n) < 0 ∧ -(lN n) ≤ 0 ∧ ¬ 0 ≤ -(lN n) ∧ ¬ lN n < 0 ∧ ¬ lN n = 0 ∧ ¬ lN n ≤ 0 ∧ 0 ≤ lN n := by decide +kernel
theorem bg_Et {a b : Nat → Int64} {e k : Nat} {v : Nat → Nat} (h : ∀ i, i < 4 → b (4 * e + i) = a (4 * k + i)) (hv : bg_E a k v) : bg_E b e v := fun i hi => (h i hi).trans (hv i hi)
section
variable {post : St2 → Prop} {f1 f2 f3 f4 f5 f6 f7 : Int32} {f8 f9 : Int64} {a1 a2 : Nat → Int32} {a3 : Nat → Int64} {a4 : Nat → Int32} {a5 : Nat → Int64} {a6 : Nat → Int32} {a7 : Nat → Int64} {a8 a9 a10 : Nat → Int32}
/-- of three edges the first one is below the new choice -/
theorem bg_choiceA {sd b u w : Nat} {v0 v1 v2 : Nat → Nat} (hs : sd < 2) (hb : b + 4 ≤ 48) (h2 : a2 sd = nI 3) (e0 : bg_E a3 b v0) (e1 : bg_E a3 (b + 1) v1) (e2 : bg_E a3 (b + 2) v2)
    (t0 : a4 b = 10) (t1 : a4 (b + 1) = 9) (t2 : a4 (b + 2) = 3)
    (s0 : bg_sl v0 a8 1 3 = -(lN w)) (s1 : bg_sl v1 a8 1 3 = lN u) (s2 : bg_sl v2 a8 1 3 = lN 1) (hu : 0 < u) (hu9 : u < 10) (hw : 0 < w) (hw9 : w < 10)
    (z1 : ∀ i, i < 4 → bg_z v1 v0 u w i < 2 ^ 63) (d1 : 0 < bg_d (bg_z v1 v0 u w) 4) (z2 : ∀ i, i < 4 → bg_z v2 v0 1 w i < 2 ^ 63) (d2 : 0 < bg_d (bg_z v2 v0 1 w) 4)
    (H : ∀ b3 b4 b5 b6 b7, bg_E b3 b v1 → bg_E b3 (b + 1) v2 → bg_E b3 (b + 2) (fun i => bg_z v1 v0 u w i / bg_d (bg_z v1 v0 u w) 4) → bg_E b3 (b + 3) (fun i => bg_z v2 v0 1 w i / bg_d (bg_z v2 v0 1 w) 4) →
      (∀ j, (j < 4 * b ∨ 4 * (b + 4) ≤ j) → b3 j = a3 j) → b4 b = 9 → b4 (b + 1) = 3 → b4 (b + 2) = 24 → b4 (b + 3) = 18 → (∀ j, (j < b ∨ b + 4 ≤ j) → b4 j = a4 j) →
      post (f1, f2, nI 4, f4, f5, f6, f7, f8, f9, a1, upd a2 sd (nI 4), b3, b4, b5, b6, b7, a8, a9, a10)) :
    wpX_addChoice post (f1, f2, f3, f4, f5, f6, f7, f8, f9, a1, a2, a3, a4, a5, a6, a7, a8, a9, a10) (nI sd) (nI b) (nI 1) := by
  obtain ⟨gw1, gw2, gw3, -, -, -, -⟩ := bg_sg w hw9 hw
  obtain ⟨-, -, -, gu4, gu5, gu6, gu7⟩ := bg_sg u hu9 hu
  obtain ⟨-, -, -, g14, g15, g16, g17⟩ := bg_sg 1 (by omega) (by omega)
  have t0' : a4 (b + 0) = 10 := t0
  refine ⟨pk_in sd 2 hs, nm_r (e' := nI 3) (by rw [nI_clamp (show sd < 2 ^ 31 by omega)]; exact h2) ⟨4, ?_⟩⟩
  refine bg_16neg (k := 0) (c := 3) (o := 1) (n := 3) (v := v0) (by omega) (by omega) (by omega) (by omega) e0 (by rw [s0]; exact gw1) (fun c7 c0 cO => ?_)
  refine bg_16pos (k := 1) (c := 3) (o := 1) (n := 2) (m := 0) (v := v1) (by omega) (by omega) (by omega) (by omega) (by omega) e1 (by rw [s1]; exact gu4) (by rw [s1]; exact gu5) (fun p5 d7 E0 O0 c1 dO => ?_)
  refine bg_16pos (k := 2) (c := 3) (o := 1) (n := 1) (m := 1) (v := v2) (by omega) (by omega) (by omega) (by omega) (by omega) e2 (by rw [s2]; exact g14) (by rw [s2]; exact g15) (fun q5 g7 E1 O1 c2 gO => ?_)
  have k0 : g7 0 = -(lN w) := by rw [gO 0 (by omega), dO 0 (by omega), c0, s0]
  have k1 : g7 1 = lN u := by rw [gO 1 (by omega), c1, s1]
  have k2 : g7 2 = lN 1 := by rw [c2, s2]
  refine pk_le 3 3 (fun _ => ⟨4, ?_⟩) (fun z => absurd z (by omega))
  refine pk_le 3 0 (fun z => absurd z (by omega)) (fun _ => bg_skip (k := 0) (c := 3) (by omega) (by omega) (by rw [k0]; exact gw2) ?_)
  refine pk_le 3 1 (fun z => absurd z (by omega)) (fun _ => bg_hit (o := 1) (c := 3) (k := 1) (l := 0) (m := 2) (x := v1) (y := v0) (u := u) (w := w) (by omega) (by omega) (by omega) (by omega) (by omega) e1 e0 k1 k0
    (by rw [k1]; exact gu6) (by rw [k0]; exact gw3) (fun i hi hn => ?_) z1 d1 (fun i hi h1 h2 => ?_) (fun r5 E2 O2 => ?_))
  · obtain rfl | rfl : i = 1 ∨ i = 2 := by omega
    · rw [k1]; exact gu7
    · rw [k2]; exact g17
  · obtain rfl : i = 2 := by omega
    rw [t2, t1, t0']
    decide
  refine pk_le 3 2 (fun z => absurd z (by omega)) (fun _ => bg_hit (o := 1) (c := 3) (k := 2) (l := 0) (m := 3) (x := v2) (y := v0) (u := 1) (w := w) (by omega) (by omega) (by omega) (by omega) (by omega) e2 e0 k2 k0
    (by rw [k2]; exact g16) (by rw [k0]; exact gw3) (fun i hi hn => ?_) z2 d2 (fun i hi h1 h2 => ?_) (fun y5 E3 O3 => ?_))
  · obtain rfl | rfl : i = 1 ∨ i = 2 := by omega
    · rw [k1]; exact gu7
    · rw [k2]; exact g17
  · obtain rfl : i = 1 := by omega
    rw [t2, t1, t0']
    decide
  refine pk_le 3 3 (fun _ => ⟨pk_in sd 2 hs, nm_r (by rw [nI_clamp (show sd < 2 ^ 31 by omega)]) (bg_237 (m := 4) (by omega) hb (fun b3 b4 H1 H2 H3 H4 => ?_))⟩) (fun z => absurd z (by omega))
  refine H b3 b4 _ _ _ (bg_Et (H1 0 (by omega)) (bg_Ek (bg_Ek (bg_Ek E0 O1 (by omega)) O2 (by omega)) O3 (by omega))) (bg_Et (H1 1 (by omega)) (bg_Ek (bg_Ek E1 O2 (by omega)) O3 (by omega)))
    (bg_Et (H1 2 (by omega)) (bg_Ek E2 O3 (by omega))) (bg_Et (H1 3 (by omega)) E3) H2 ?_ ?_ ?_ ?_ H4
  · refine (H3 0 (by omega)).trans ?_
    rw [pk_un (by omega), pk_un (by omega), pk_un (by omega), pk_us, t1, vp_nar_byte]
    decide
  · refine (H3 1 (by omega)).trans ?_
    rw [pk_un (by omega), pk_un (by omega), pk_us, t2, vp_nar_byte]
    decide
  · refine (H3 2 (by omega)).trans ?_
    rw [pk_un (by omega), pk_us, t1, t0', vp_nar_byte]
    decide
  · refine (H3 3 (by omega)).trans ?_
    rw [pk_us, t2, t0', vp_nar_byte]
    decide
/-- of three edges the second one is below the new choice -/
theorem bg_choiceB {sd b u w : Nat} {v0 v1 v2 : Nat → Nat} (hs : sd < 2) (hb : b + 4 ≤ 48) (h2 : a2 sd = nI 3) (e0 : bg_E a3 b v0) (e1 : bg_E a3 (b + 1) v1) (e2 : bg_E a3 (b + 2) v2)
    (t0 : a4 b = 10) (t1 : a4 (b + 1) = 9) (t2 : a4 (b + 2) = 3)
    (s0 : bg_sl v0 a8 1 3 = lN u) (s1 : bg_sl v1 a8 1 3 = -(lN w)) (s2 : bg_sl v2 a8 1 3 = lN 1) (hu : 0 < u) (hu9 : u < 10) (hw : 0 < w) (hw9 : w < 10)
    (z1 : ∀ i, i < 4 → bg_z v0 v1 u w i < 2 ^ 63) (d1 : 0 < bg_d (bg_z v0 v1 u w) 4) (z2 : ∀ i, i < 4 → bg_z v2 v1 1 w i < 2 ^ 63) (d2 : 0 < bg_d (bg_z v2 v1 1 w) 4)
    (H : ∀ b3 b4 b5 b6 b7, bg_E b3 b v0 → bg_E b3 (b + 1) v2 → bg_E b3 (b + 2) (fun i => bg_z v0 v1 u w i / bg_d (bg_z v0 v1 u w) 4) → bg_E b3 (b + 3) (fun i => bg_z v2 v1 1 w i / bg_d (bg_z v2 v1 1 w) 4) →
      (∀ j, (j < 4 * b ∨ 4 * (b + 4) ≤ j) → b3 j = a3 j) → b4 b = 10 → b4 (b + 1) = 3 → b4 (b + 2) = 24 → b4 (b + 3) = 17 → (∀ j, (j < b ∨ b + 4 ≤ j) → b4 j = a4 j) →
      post (f1, f2, nI 4, f4, f5, f6, f7, f8, f9, a1, upd a2 sd (nI 4), b3, b4, b5, b6, b7, a8, a9, a10)) :
    wpX_addChoice post (f1, f2, f3, f4, f5, f6, f7, f8, f9, a1, a2, a3, a4, a5, a6, a7, a8, a9, a10) (nI sd) (nI b) (nI 1) := by
  obtain ⟨gw1, gw2, gw3, -, -, -, -⟩ := bg_sg w hw9 hw
  obtain ⟨-, -, -, gu4, gu5, gu6, gu7⟩ := bg_sg u hu9 hu
  obtain ⟨-, -, -, g14, g15, g16, g17⟩ := bg_sg 1 (by omega) (by omega)
  have t0' : a4 (b + 0) = 10 := t0
  refine ⟨pk_in sd 2 hs, nm_r (e' := nI 3) (by rw [nI_clamp (show sd < 2 ^ 31 by omega)]; exact h2) ⟨4, ?_⟩⟩
  refine bg_16pos (k := 0) (c := 3) (o := 1) (n := 3) (m := 0) (v := v0) (by omega) (by omega) (by omega) (by omega) (by omega) e0 (by rw [s0]; exact gu4) (by rw [s0]; exact gu5) (fun p5 c7 E0 O0 c0 cO => ?_)
  refine bg_16neg (k := 1) (c := 3) (o := 1) (n := 2) (v := v1) (by omega) (by omega) (by omega) (by omega) e1 (by rw [s1]; exact gw1) (fun d7 c1 dO => ?_)
  refine bg_16pos (k := 2) (c := 3) (o := 1) (n := 1) (m := 1) (v := v2) (by omega) (by omega) (by omega) (by omega) (by omega) e2 (by rw [s2]; exact g14) (by rw [s2]; exact g15) (fun q5 g7 E1 O1 c2 gO => ?_)
  have k0 : g7 0 = lN u := by rw [gO 0 (by omega), dO 0 (by omega), c0, s0]
  have k1 : g7 1 = -(lN w) := by rw [gO 1 (by omega), c1, s1]
  have k2 : g7 2 = lN 1 := by rw [c2, s2]
  refine pk_le 3 3 (fun _ => ⟨4, ?_⟩) (fun z => absurd z (by omega))
  refine pk_le 3 0 (fun z => absurd z (by omega)) (fun _ => bg_hit (o := 1) (c := 3) (k := 0) (l := 1) (m := 2) (x := v0) (y := v1) (u := u) (w := w) (by omega) (by omega) (by omega) (by omega) (by omega) e0 e1 k0 k1
    (by rw [k0]; exact gu6) (by rw [k1]; exact gw3) (fun i hi hn => ?_) z1 d1 (fun i hi h1 h2 => ?_) (fun r5 E2 O2 => ?_))
  · obtain rfl | rfl : i = 0 ∨ i = 2 := by omega
    · rw [k0]; exact gu7
    · rw [k2]; exact g17
  · obtain rfl : i = 2 := by omega
    rw [t2, t1, t0']
    decide
  refine pk_le 3 1 (fun z => absurd z (by omega)) (fun _ => bg_skip (k := 1) (c := 3) (by omega) (by omega) (by rw [k1]; exact gw2) ?_)
  refine pk_le 3 2 (fun z => absurd z (by omega)) (fun _ => bg_hit (o := 1) (c := 3) (k := 2) (l := 1) (m := 3) (x := v2) (y := v1) (u := 1) (w := w) (by omega) (by omega) (by omega) (by omega) (by omega) e2 e1 k2 k1
    (by rw [k2]; exact g16) (by rw [k1]; exact gw3) (fun i hi hn => ?_) z2 d2 (fun i hi h1 h2 => ?_) (fun y5 E3 O3 => ?_))
  · obtain rfl | rfl : i = 0 ∨ i = 2 := by omega
    · rw [k0]; exact gu7
    · rw [k2]; exact g17
  · obtain rfl : i = 0 := by omega
    rw [t2, t1, t0']
    decide
  refine pk_le 3 3 (fun _ => ⟨pk_in sd 2 hs, nm_r (by rw [nI_clamp (show sd < 2 ^ 31 by omega)]) (bg_237 (m := 4) (by omega) hb (fun b3 b4 H1 H2 H3 H4 => ?_))⟩) (fun z => absurd z (by omega))
  refine H b3 b4 _ _ _ (bg_Et (H1 0 (by omega)) (bg_Ek (bg_Ek (bg_Ek E0 O1 (by omega)) O2 (by omega)) O3 (by omega))) (bg_Et (H1 1 (by omega)) (bg_Ek (bg_Ek E1 O2 (by omega)) O3 (by omega)))
    (bg_Et (H1 2 (by omega)) (bg_Ek E2 O3 (by omega))) (bg_Et (H1 3 (by omega)) E3) H2 ?_ ?_ ?_ ?_ H4
  · refine (H3 0 (by omega)).trans ?_
    rw [pk_un (by omega), pk_un (by omega), pk_un (by omega), pk_us, t0', vp_nar_byte]
    decide
  · refine (H3 1 (by omega)).trans ?_
    rw [pk_un (by omega), pk_un (by omega), pk_us, t2, vp_nar_byte]
    decide
  · refine (H3 2 (by omega)).trans ?_
    rw [pk_un (by omega), pk_us, t1, t0', vp_nar_byte]
    decide
  · refine (H3 3 (by omega)).trans ?_
    rw [pk_us, t2, t1, vp_nar_byte]
    decide
end
end
section
theorem bg_dA (x y u w : Nat) : bg_d (bg_z (bg_v 0 1 0 y) (bg_v 1 0 0 x) u w) 4 = Nat.gcd u w := by
  show Nat.gcd (Nat.gcd (Nat.gcd (Nat.gcd 0 (0 * w + 1 * u)) (1 * w + 0 * u)) (0 * w + 0 * u)) (y * w + x * u) = Nat.gcd u w
  simp only [Nat.zero_mul, Nat.one_mul, Nat.zero_add, Nat.add_zero, Nat.gcd_zero_left, Nat.gcd_zero_right]
  exact Nat.gcd_eq_left (Nat.dvd_add (Nat.dvd_trans (Nat.gcd_dvd_right u w) (Nat.dvd_mul_left w y)) (Nat.dvd_trans (Nat.gcd_dvd_left u w) (Nat.dvd_mul_left u x)))
theorem bg_dB (x y u w : Nat) : bg_d (bg_z (bg_v 1 0 0 x) (bg_v 0 1 0 y) u w) 4 = Nat.gcd w u := by
  show Nat.gcd (Nat.gcd (Nat.gcd (Nat.gcd 0 (1 * w + 0 * u)) (0 * w + 1 * u)) (0 * w + 0 * u)) (x * w + y * u) = Nat.gcd w u
  simp only [Nat.zero_mul, Nat.one_mul, Nat.zero_add, Nat.add_zero, Nat.gcd_zero_left, Nat.gcd_zero_right]
  exact Nat.gcd_eq_left (Nat.dvd_add (Nat.dvd_trans (Nat.gcd_dvd_left w u) (Nat.dvd_mul_left w x)) (Nat.dvd_trans (Nat.gcd_dvd_right w u) (Nat.dvd_mul_left u y)))
theorem bg_dA2 (x w : Nat) : bg_d (bg_z (bg_v 0 0 0 1) (bg_v 1 0 0 x) 1 w) 4 = 1 := by
  show Nat.gcd (Nat.gcd (Nat.gcd (Nat.gcd 0 (0 * w + 1 * 1)) (0 * w + 0 * 1)) (0 * w + 0 * 1)) (1 * w + x * 1) = 1
  simp only [Nat.zero_mul, Nat.one_mul, Nat.zero_add, Nat.add_zero, Nat.gcd_zero_left, Nat.gcd_zero_right, Nat.gcd_one_left]
theorem bg_dB2 (y w : Nat) : bg_d (bg_z (bg_v 0 0 0 1) (bg_v 0 1 0 y) 1 w) 4 = 1 := by
  show Nat.gcd (Nat.gcd (Nat.gcd (Nat.gcd 0 (0 * w + 0 * 1)) (0 * w + 1 * 1)) (0 * w + 0 * 1)) (1 * w + y * 1) = 1
  simp only [Nat.zero_mul, Nat.one_mul, Nat.zero_add, Nat.add_zero, Nat.gcd_zero_left, Nat.gcd_zero_right, Nat.gcd_one_left]
theorem bg_zb {x y : Nat → Nat} {u w : Nat} (hx : ∀ i, i < 4 → x i < 100) (hy : ∀ i, i < 4 → y i < 100) (hu : u < 10) (hw : w < 10) : ∀ i, i < 4 → bg_z x y u w i < 2 ^ 63 := fun i hi => by
  have h1 := Nat.mul_le_mul (Nat.le_of_lt (hx i hi)) (Nat.le_of_lt hw)
  have h2 := Nat.mul_le_mul (Nat.le_of_lt (hy i hi)) (Nat.le_of_lt hu)
  unfold bg_z
  omega
theorem bg_vb {x0 x1 x2 x3 : Nat} (h0 : x0 < 100) (h1 : x1 < 100) (h2 : x2 < 100) (h3 : x3 < 100) : ∀ i, i < 4 → bg_v x0 x1 x2 x3 i < 100 := bg_4 (P := fun i => bg_v x0 x1 x2 x3 i < 100) h0 h1 h2 h3
theorem bg_q0 {u w : Nat} (hu : 0 < u) (hu9 : u < 10) (hw9 : w < 10) : ¬ lN (u / Nat.gcd u w + w / Nat.gcd u w + 0) = 0 := fun z => by
  have h1 : 0 < u / Nat.gcd u w := Nat.div_pos (Nat.gcd_le_left w hu) (Nat.gcd_pos_of_pos_left w hu)
  have h2 : u / Nat.gcd u w ≤ u := Nat.div_le_self _ _
  have h3 : w / Nat.gcd u w ≤ w := Nat.div_le_self _ _
  generalize u / Nat.gcd u w = k at *
  generalize w / Nat.gcd u w = l at *
  have h4 := (pk_lEQ (b := 0) (by omega) (by omega)).mp (z.trans (rfl : (0 : Int64) = lN 0))
  omega
section
variable {post : St2 → Prop} {f1 f2 f3 f4 f5 f6 f7 : Int32} {f8 f9 : Int64} {a1 a2 : Nat → Int32} {a3 : Nat → Int64} {a4 : Nat → Int32} {a5 : Nat → Int64} {a6 : Nat → Int32} {a7 : Nat → Int64} {a8 a9 a10 : Nat → Int32}
theorem bg_coneA {sd u w x y : Nat} {x1 : Int32} (hs : sd < 2) (hx1 : x1 = nI sd) (hx : x < 100) (hy : y < 100) (h80 : a8 0 = nI x) (h83 : a8 3 = nI y)
    (s0 : bg_sl (bg_v 1 0 0 x) a8 1 3 = -(lN w)) (s1 : bg_sl (bg_v 0 1 0 y) a8 1 3 = lN u) (s2 : bg_sl (bg_v 0 0 0 1) a8 1 3 = lN 1) (hu : 0 < u) (hu9 : u < 10) (hw : 0 < w) (hw9 : w < 10)
    (H : ∀ b2 b3 b4 b5 b6 b7 c, b2 sd = nI 3 → (∀ j, j ≠ sd → b2 j = a2 j) → bg_E b3 (24 * sd + 1) (bg_v (u / Nat.gcd u w) (w / Nat.gcd u w) 0 c) →
      (∀ j, (j < 4 * (24 * sd) ∨ 4 * (24 * sd + 4) ≤ j) → b3 j = a3 j) → b4 (24 * sd) = 9 → b4 (24 * sd + 1) = 24 → b4 (24 * sd + 2) = 18 → (∀ j, (j < 24 * sd ∨ 24 * sd + 4 ≤ j) → b4 j = a4 j) →
      post (f1, f2, nI 4, 3, 3, f6, f7, f8, f9, a1, b2, b3, b4, b5, b6, b7, a8, a9, a10)) :
    wpX_makeCone post (f1, f2, f3, f4, f5, f6, f7, f8, f9, a1, a2, a3, a4, a5, a6, a7, a8, a9, a10) x1 3 3 := by
  subst hx1
  have hb : (24 : Int32) * nI sd = nI (24 * sd) := pk_mul 24 sd
  refine nm_r hb ⟨1, br_f (by decide) (br_f (by decide) ⟨pk_in sd 2 hs, nm_r (e' := upd a2 sd 0) (by rw [nI_clamp (show sd < 2 ^ 31 by omega)]) ⟨4, ?_⟩⟩)⟩
  refine br_f (by decide) (br_f (by decide) (br_f (by decide) ⟨pk_in 0 9 (by omega), bg_addEdge (sd := sd) (c := 0) (m := 0) (vv := x) hs (by omega) (by omega) (by omega) pk_us rfl rfl h80 (fun c3 E0 O0 => ?_)⟩))
  refine nm_r (e' := nI 1) rfl ?_
  refine br_f (by decide) (br_f (by decide) (br_f (by decide) ⟨pk_in 3 9 (by omega), bg_addEdge (sd := sd) (c := 1) (m := 1) (vv := y) hs (by omega) (by omega) (by omega) pk_us rfl rfl h83 (fun d3 E1 O1 => ?_)⟩))
  refine nm_r (e' := nI 2) rfl ?_
  refine br_f (by decide) (br_t (by decide) (br_t rfl (nm_r (e' := nI 3) rfl ?_)))
  refine br_t (by decide) (bg_addEdge (sd := sd) (c := 3) (m := 2) (vv := 1) hs (by omega) (by omega) (by omega) pk_us rfl rfl rfl (fun g3 E2 O2 => ?_))
  refine nm_r (e' := nI 1) rfl ⟨3, ?_⟩
  refine br_f (by decide) (br_f (by decide) (br_f (by decide) ?_))
  refine bg_choiceA (sd := sd) (b := 24 * sd) (u := u) (w := w) (v0 := bg_v 1 0 0 x) (v1 := bg_v 0 1 0 y) (v2 := bg_v 0 0 0 1) hs (by omega) pk_us
    (bg_Ec (bg_Ek (bg_Ek E0 O1 (by omega)) O2 (by omega)) (bg_4 rfl rfl rfl rfl)) (bg_Ec (bg_Ek E1 O2 (by omega)) (bg_4 rfl rfl rfl rfl)) (bg_Ec E2 (bg_4 rfl rfl rfl rfl)) ?_ ?_ ?_
    s0 s1 s2 hu hu9 hw hw9 (bg_zb (bg_vb (by omega) (by omega) (by omega) hy) (bg_vb (by omega) (by omega) (by omega) hx) hu9 hw9) (by rw [bg_dA]; exact Nat.gcd_pos_of_pos_left w hu)
    (bg_zb (bg_vb (by omega) (by omega) (by omega) (by omega)) (bg_vb (by omega) (by omega) (by omega) hx) (by omega) hw9) (by rw [bg_dA2]; omega)
    (fun b3 b4 b5 b6 b7 F0 F1 F2 F3 FO t0 t1 t2 t3 tO => ?_)
  · refine (pk_un (by omega)).trans ((pk_un (by omega)).trans (Eq.trans pk_us ?_))
    decide
  · refine (pk_un (by omega)).trans (Eq.trans pk_us ?_)
    decide
  · refine Eq.trans pk_us ?_
    decide
  refine nm_r (e' := nI 2) rfl ?_
  refine br_f (by decide) (br_t (by decide) (br_t rfl (nm_r (e' := nI 3) rfl ?_)))
  have G2 : bg_E b3 (24 * sd + 2) (bg_v (u / Nat.gcd u w) (w / Nat.gcd u w) 0 ((y * w + x * u) / Nat.gcd u w)) := by
    refine bg_Ec F2 (fun i hi => ?_)
    rw [bg_dA]
    refine co_4 (P := fun i => bg_z (bg_v 0 1 0 y) (bg_v 1 0 0 x) u w i / Nat.gcd u w = bg_v (u / Nat.gcd u w) (w / Nat.gcd u w) 0 ((y * w + x * u) / Nat.gcd u w) i) ?_ ?_ ?_ ?_ hi
    · show (0 * w + 1 * u) / Nat.gcd u w = u / Nat.gcd u w
      rw [Nat.zero_mul, Nat.one_mul, Nat.zero_add]
    · show (1 * w + 0 * u) / Nat.gcd u w = w / Nat.gcd u w
      rw [Nat.zero_mul, Nat.one_mul, Nat.add_zero]
    · show (0 * w + 0 * u) / Nat.gcd u w = 0
      rw [Nat.zero_mul, Nat.zero_mul]
      exact Nat.zero_div _
    · rfl
  have G3 : bg_E b3 (24 * sd + 3) (bg_v 1 0 0 (w + x)) := by
    refine bg_Ec F3 (fun i hi => ?_)
    rw [bg_dA2, Nat.div_one]
    refine co_4 (P := fun i => bg_z (bg_v 0 0 0 1) (bg_v 1 0 0 x) 1 w i = bg_v 1 0 0 (w + x) i) ?_ ?_ ?_ ?_ hi
    · show 0 * w + 1 * 1 = 1
      omega
    · show 0 * w + 0 * 1 = 0
      omega
    · show 0 * w + 0 * 1 = 0
      omega
    · show 1 * w + x * 1 = w + x
      omega
  refine br_t (by decide) (bg_drop (sd := sd) (b := 24 * sd) hs (by omega) pk_us F0 F1 G2 G3 (show ¬ lN (0 + 1 + 0) = 0 by decide) rfl (bg_q0 hu hu9 hw9) (show ¬ lN (1 + 0 + 0) = 0 by decide)
    (fun k3 k4 K0 K1 K2 KO n0 n1 n2 nO => ?_))
  refine H _ k3 k4 _ _ _ _ pk_us (fun j hj => ?_) K1 (fun j hj => ?_) ?_ ?_ ?_ (fun j hj => ?_)
  · rw [pk_un hj, pk_un hj, pk_un hj, pk_un hj, pk_un hj, pk_un hj]
  · rw [KO j (by omega), FO j (by omega), O2 j (by omega), O1 j (by omega), O0 j (by omega)]
  · rw [n0, t0, vp_nar_byte]
    decide
  · rw [n1, t2, vp_nar_byte]
    decide
  · rw [n2, t3, vp_nar_byte]
    decide
  · rw [nO j (by omega), tO j (by omega), pk_un (by omega), pk_un (by omega), pk_un (by omega)]
theorem bg_coneB {sd u w x y : Nat} {x1 : Int32} (hs : sd < 2) (hx1 : x1 = nI sd) (hx : x < 100) (hy : y < 100) (h80 : a8 0 = nI x) (h83 : a8 3 = nI y)
    (s0 : bg_sl (bg_v 1 0 0 x) a8 1 3 = lN u) (s1 : bg_sl (bg_v 0 1 0 y) a8 1 3 = -(lN w)) (s2 : bg_sl (bg_v 0 0 0 1) a8 1 3 = lN 1) (hu : 0 < u) (hu9 : u < 10) (hw : 0 < w) (hw9 : w < 10)
    (H : ∀ b2 b3 b4 b5 b6 b7 c, b2 sd = nI 3 → (∀ j, j ≠ sd → b2 j = a2 j) → bg_E b3 (24 * sd + 1) (bg_v (w / Nat.gcd w u) (u / Nat.gcd w u) 0 c) →
      (∀ j, (j < 4 * (24 * sd) ∨ 4 * (24 * sd + 4) ≤ j) → b3 j = a3 j) → b4 (24 * sd) = 10 → b4 (24 * sd + 1) = 24 → b4 (24 * sd + 2) = 17 → (∀ j, (j < 24 * sd ∨ 24 * sd + 4 ≤ j) → b4 j = a4 j) →
      post (f1, f2, nI 4, 3, 3, f6, f7, f8, f9, a1, b2, b3, b4, b5, b6, b7, a8, a9, a10)) :
    wpX_makeCone post (f1, f2, f3, f4, f5, f6, f7, f8, f9, a1, a2, a3, a4, a5, a6, a7, a8, a9, a10) x1 3 3 := by
  subst hx1
  have hb : (24 : Int32) * nI sd = nI (24 * sd) := pk_mul 24 sd
  refine nm_r hb ⟨1, br_f (by decide) (br_f (by decide) ⟨pk_in sd 2 hs, nm_r (e' := upd a2 sd 0) (by rw [nI_clamp (show sd < 2 ^ 31 by omega)]) ⟨4, ?_⟩⟩)⟩
  refine br_f (by decide) (br_f (by decide) (br_f (by decide) ⟨pk_in 0 9 (by omega), bg_addEdge (sd := sd) (c := 0) (m := 0) (vv := x) hs (by omega) (by omega) (by omega) pk_us rfl rfl h80 (fun c3 E0 O0 => ?_)⟩))
  refine nm_r (e' := nI 1) rfl ?_
  refine br_f (by decide) (br_f (by decide) (br_f (by decide) ⟨pk_in 3 9 (by omega), bg_addEdge (sd := sd) (c := 1) (m := 1) (vv := y) hs (by omega) (by omega) (by omega) pk_us rfl rfl h83 (fun d3 E1 O1 => ?_)⟩))
  refine nm_r (e' := nI 2) rfl ?_
  refine br_f (by decide) (br_t (by decide) (br_t rfl (nm_r (e' := nI 3) rfl ?_)))
  refine br_t (by decide) (bg_addEdge (sd := sd) (c := 3) (m := 2) (vv := 1) hs (by omega) (by omega) (by omega) pk_us rfl rfl rfl (fun g3 E2 O2 => ?_))
  refine nm_r (e' := nI 1) rfl ⟨3, ?_⟩
  refine br_f (by decide) (br_f (by decide) (br_f (by decide) ?_))
  refine bg_choiceB (sd := sd) (b := 24 * sd) (u := u) (w := w) (v0 := bg_v 1 0 0 x) (v1 := bg_v 0 1 0 y) (v2 := bg_v 0 0 0 1) hs (by omega) pk_us
    (bg_Ec (bg_Ek (bg_Ek E0 O1 (by omega)) O2 (by omega)) (bg_4 rfl rfl rfl rfl)) (bg_Ec (bg_Ek E1 O2 (by omega)) (bg_4 rfl rfl rfl rfl)) (bg_Ec E2 (bg_4 rfl rfl rfl rfl)) ?_ ?_ ?_
    s0 s1 s2 hu hu9 hw hw9 (bg_zb (bg_vb (by omega) (by omega) (by omega) hx) (bg_vb (by omega) (by omega) (by omega) hy) hu9 hw9) (by rw [bg_dB]; exact Nat.gcd_pos_of_pos_left u hw)
    (bg_zb (bg_vb (by omega) (by omega) (by omega) (by omega)) (bg_vb (by omega) (by omega) (by omega) hy) (by omega) hw9) (by rw [bg_dB2]; omega)
    (fun b3 b4 b5 b6 b7 F0 F1 F2 F3 FO t0 t1 t2 t3 tO => ?_)
  · refine (pk_un (by omega)).trans ((pk_un (by omega)).trans (Eq.trans pk_us ?_))
    decide
  · refine (pk_un (by omega)).trans (Eq.trans pk_us ?_)
    decide
  · refine Eq.trans pk_us ?_
    decide
  refine nm_r (e' := nI 2) rfl ?_
  refine br_f (by decide) (br_t (by decide) (br_t rfl (nm_r (e' := nI 3) rfl ?_)))
  have G2 : bg_E b3 (24 * sd + 2) (bg_v (w / Nat.gcd w u) (u / Nat.gcd w u) 0 ((x * w + y * u) / Nat.gcd w u)) := by
    refine bg_Ec F2 (fun i hi => ?_)
    rw [bg_dB]
    refine co_4 (P := fun i => bg_z (bg_v 1 0 0 x) (bg_v 0 1 0 y) u w i / Nat.gcd w u = bg_v (w / Nat.gcd w u) (u / Nat.gcd w u) 0 ((x * w + y * u) / Nat.gcd w u) i) ?_ ?_ ?_ ?_ hi
    · show (1 * w + 0 * u) / Nat.gcd w u = w / Nat.gcd w u
      rw [Nat.zero_mul, Nat.one_mul, Nat.add_zero]
    · show (0 * w + 1 * u) / Nat.gcd w u = u / Nat.gcd w u
      rw [Nat.zero_mul, Nat.one_mul, Nat.zero_add]
    · show (0 * w + 0 * u) / Nat.gcd w u = 0
      rw [Nat.zero_mul, Nat.zero_mul]
      exact Nat.zero_div _
    · rfl
  have G3 : bg_E b3 (24 * sd + 3) (bg_v 0 1 0 (w + y)) := by
    refine bg_Ec F3 (fun i hi => ?_)
    rw [bg_dB2, Nat.div_one]
    refine co_4 (P := fun i => bg_z (bg_v 0 0 0 1) (bg_v 0 1 0 y) 1 w i = bg_v 0 1 0 (w + y) i) ?_ ?_ ?_ ?_ hi
    · show 0 * w + 0 * 1 = 0
      omega
    · show 0 * w + 1 * 1 = 1
      omega
    · show 0 * w + 0 * 1 = 0
      omega
    · show 1 * w + y * 1 = w + y
      omega
  refine br_t (by decide) (bg_drop (sd := sd) (b := 24 * sd) hs (by omega) pk_us F0 F1 G2 G3 (show ¬ lN (1 + 0 + 0) = 0 by decide) rfl (bg_q0 hw hw9 hu9) (show ¬ lN (0 + 1 + 0) = 0 by decide)
    (fun k3 k4 K0 K1 K2 KO n0 n1 n2 nO => ?_))
  refine H _ k3 k4 _ _ _ _ pk_us (fun j hj => ?_) K1 (fun j hj => ?_) ?_ ?_ ?_ (fun j hj => ?_)
  · rw [pk_un hj, pk_un hj, pk_un hj, pk_un hj, pk_un hj, pk_un hj]
  · rw [KO j (by omega), FO j (by omega), O2 j (by omega), O1 j (by omega), O0 j (by omega)]
  · rw [n0, t0, vp_nar_byte]
    decide
  · rw [n1, t2, vp_nar_byte]
    decide
  · rw [n2, t3, vp_nar_byte]
    decide
  · rw [nO j (by omega), tO j (by omega), pk_un (by omega), pk_un (by omega), pk_un (by omega)]
end
end
section
theorem bg_ten : ∀ n, n < 10 → (10 + nI n).toInt8.toInt32 = nI (10 + n) := by decide +kernel
theorem bg_dif : ∀ n, n < 10 → lN 10 - lN (10 + n) = -(lN n) ∧ lN (10 + n) - lN 10 = lN n := by decide +kernel
theorem bg_s0 {a8 : Nat → Int32} {x l : Nat} (h : a8 1 = nI l) (hl : l < 100) : bg_sl (bg_v 1 0 0 x) a8 1 3 = lN x - lN l := by
  show lN x - lN 1 * (a8 1).toInt64 - lN 0 * (a8 4).toInt64 - lN 0 * (a8 7).toInt64 = lN x - lN l
  rw [h, nI_l (show l < 2 ^ 31 by omega), show lN 0 = 0 from rfl, show lN 1 = 1 from rfl, Int64.zero_mul, Int64.zero_mul, Int64.one_mul, Int64.sub_zero, Int64.sub_zero]
theorem bg_s1 {a8 : Nat → Int32} {x l : Nat} (h : a8 4 = nI l) (hl : l < 100) : bg_sl (bg_v 0 1 0 x) a8 1 3 = lN x - lN l := by
  show lN x - lN 0 * (a8 1).toInt64 - lN 1 * (a8 4).toInt64 - lN 0 * (a8 7).toInt64 = lN x - lN l
  rw [h, nI_l (show l < 2 ^ 31 by omega), show lN 0 = 0 from rfl, show lN 1 = 1 from rfl, Int64.zero_mul, Int64.zero_mul, Int64.one_mul, Int64.sub_zero, Int64.sub_zero]
theorem bg_s2 {a8 : Nat → Int32} : bg_sl (bg_v 0 0 0 1) a8 1 3 = lN 1 := by
  show lN 1 - lN 0 * (a8 1).toInt64 - lN 0 * (a8 4).toInt64 - lN 0 * (a8 7).toInt64 = lN 1
  rw [show lN 0 = 0 from rfl, Int64.zero_mul, Int64.zero_mul, Int64.zero_mul, Int64.sub_zero, Int64.sub_zero, Int64.sub_zero]
/-- what the law has paid: side 0 p and q, side 1 r and s -/
def bg_P (a1 : Nat → Int32) (p q r s : Nat) : Prop := a1 0 = nI p ∧ a1 1 = nI 0 ∧ a1 3 = nI 0 ∧ a1 4 = nI q ∧ a1 9 = nI 0 ∧ a1 10 = nI r ∧ a1 12 = nI s ∧ a1 13 = nI 0
section
variable {post : Int32 → Prop} {f1 f2 f3 f4 f5 f6 f7 : Int32} {f8 f9 : Int64} {a1 a2 : Nat → Int32} {a3 : Nat → Int64} {a4 : Nat → Int32} {a5 : Nat → Int64} {a6 : Nat → Int32} {a7 : Nat → Int64} {a8 a9 a10 : Nat → Int32}
theorem bg_fitNo {X Y : Int32} (h : ¬ ((X ||| (Y >>> ((3 : Int32) &&& 31))) &&& 3 = 3 ∧ (Y ||| (X >>> ((3 : Int32) &&& 31))) &&& 3 = 3)) (hp : post 0) : wpX_fit post (f1, f2, f3, f4, f5, f6, f7, f8, f9, a1, a2, a3, a4, a5, a6, a7, a8, a9, a10) X Y 3 3 :=
  br_c (fun h1 => br_f (by decide) (br_f (fun h2 => h ⟨h1, h2⟩) hp)) (fun _ => br_t rfl hp)
theorem bg_fitYes {X Y : Int32} (h1 : (X ||| (Y >>> ((3 : Int32) &&& 31))) &&& 3 = 3) (h2 : (Y ||| (X >>> ((3 : Int32) &&& 31))) &&& 3 = 3) (hp : post 1) : wpX_fit post (f1, f2, f3, f4, f5, f6, f7, f8, f9, a1, a2, a3, a4, a5, a6, a7, a8, a9, a10) X Y 3 3 :=
  br_t h1 (br_f (by decide) (br_t h2 hp))
end
section
variable {post : St2 → Prop} {J : Int32 → Int32 → Int32 → Int32 → Int32 → Int32 → Int32 → Int32 → Int64 → Int64 → (Nat → Int32) → (Nat → Int32) → (Nat → Int64) → (Nat → Int32) → (Nat → Int64) → (Nat → Int32) → (Nat → Int64) → (Nat → Int32) → (Nat → Int32) → (Nat → Int32) → Prop} {f1 f2 f3 f4 f5 f6 f7 : Int32} {f8 f9 : Int64} {a1 a2 : Nat → Int32} {a3 : Nat → Int64} {a4 : Nat → Int32} {a5 : Nat → Int64} {a6 : Nat → Int32} {a7 : Nat → Int64} {a8 a9 a10 : Nat → Int32}
theorem bg_i24 (l : Nat) : (24 : Int32) + nI l = nI (24 + l) := nI_add 24 l
theorem bg_c24 (l : Nat) (h : 24 + l < 2 ^ 31) : ((24 : Int32) + nI l).toNatClampNeg = 24 + l := pk_cl _ (bg_i24 l) h
theorem bg_77end {k n : Nat} (h2 : a2 1 = nI 3) (H : J (nI (k + 1)) f1 f2 f3 f4 f5 f6 f7 f8 f9 a1 a2 a3 a4 a5 a6 a7 a8 a9 a10) : wX_list_77 post J 3 3 (nI k) (n + 1) (nI 3) f1 f2 f3 f4 f5 f6 f7 f8 f9 a1 a2 a3 a4 a5 a6 a7 a8 a9 a10 :=
  br_t (by rw [h2]; decide) (nm_r (nI_1 k) H)
theorem bg_77no {k l n : Nat} {X Y : Int32} (hk : k < 24) (hl : l < 3) (h2 : a2 1 = nI 3) (tx : a4 k = X) (ty : a4 (24 + l) = Y)
    (hf : ¬ ((X ||| (Y >>> ((3 : Int32) &&& 31))) &&& 3 = 3 ∧ (Y ||| (X >>> ((3 : Int32) &&& 31))) &&& 3 = 3))
    (H : wX_list_77 post J 3 3 (nI k) n (nI (l + 1)) f1 f2 f3 f4 f5 f6 f7 f8 f9 a1 a2 a3 a4 a5 a6 a7 a8 a9 a10) : wX_list_77 post J 3 3 (nI k) (n + 1) (nI l) f1 f2 f3 f4 f5 f6 f7 f8 f9 a1 a2 a3 a4 a5 a6 a7 a8 a9 a10 := by
  refine br_f (by rw [h2]; exact nI_ge hl (by decide)) ⟨pk_in k 48 (by omega), pk_in (24 + l) 48 (by omega) (bg_i24 l), ?_⟩
  rw [nI_clamp (show k < 2 ^ 31 by omega), bg_c24 l (by omega), tx, ty]
  exact bg_fitNo hf (br_t rfl (nm_r (nI_1 l) H))
theorem bg_77yes {k l n : Nat} {X Y : Int32} (hk : k < 24) (hl : l < 3) (h2 : a2 1 = nI 3) (tx : a4 k = X) (ty : a4 (24 + l) = Y)
    (hf1 : (X ||| (Y >>> ((3 : Int32) &&& 31))) &&& 3 = 3) (hf2 : (Y ||| (X >>> ((3 : Int32) &&& 31))) &&& 3 = 3)
    (H : wX_list_77 post J 3 3 (nI k) n (nI (l + 1)) f1 f2 f3 f4 f5 f6 1 f8 f9 a1 a2 a3 a4 a5 a6 a7 a8 (upd a9 0 (nI k).toInt8.toInt32) (upd a10 0 (nI l).toInt8.toInt32)) : wX_list_77 post J 3 3 (nI k) (n + 1) (nI l) f1 f2 f3 f4 f5 f6 0 f8 f9 a1 a2 a3 a4 a5 a6 a7 a8 a9 a10 := by
  refine br_f (by rw [h2]; exact nI_ge hl (by decide)) ⟨pk_in k 48 (by omega), pk_in (24 + l) 48 (by omega) (bg_i24 l), ?_⟩
  rw [nI_clamp (show k < 2 ^ 31 by omega), bg_c24 l (by omega), tx, ty]
  refine bg_fitYes hf1 hf2 (br_f (by decide) ?_)
  exact ⟨1, br_t (by decide) ⟨pk_in 0 64 (by omega), nm_r (e' := upd a9 0 (nI k).toInt8.toInt32) rfl ⟨pk_in 0 64 (by omega), nm_r (e' := upd a10 0 (nI l).toInt8.toInt32) rfl (nm_r (e' := (1 : Int32)) rfl (nm_r (nI_1 l) H))⟩⟩⟩
theorem bg_list {p q r s : Nat} (hP : bg_P a1 p q r s) (hp : 0 < p) (hp9 : p < 10) (hq : 0 < q) (hq9 : q < 10) (hr : 0 < r) (hr9 : r < 10) (hs : 0 < s) (hs9 : s < 10)
    (H : ∀ b2 b3 b4 b5 b6 b7 b8 b9 b10 c c', bg_E b3 1 (bg_v (s / Nat.gcd s r) (r / Nat.gcd s r) 0 c) → bg_E b3 25 (bg_v (q / Nat.gcd q p) (p / Nat.gcd q p) 0 c') → b9 0 = nI 1 → b10 0 = nI 1 →
      post (2, 2, nI 4, 3, 3, 1, 1, f8, f9, a1, b2, b3, b4, b5, b6, b7, b8, b9, b10)) :
    wpX_list post (2, 2, f3, f4, f5, 0, f7, f8, f9, a1, a2, a3, a4, a5, a6, a7, a8, a9, a10) := by
  obtain ⟨p00, p01, p10, p11, q00, q01, q10, q11⟩ := hP
  refine br_t rfl (nm_r (e' := (3 : Int32)) (by decide) (nm_r (e' := (3 : Int32)) (by decide) (bg_loss0 (fun b8 h8 => ?_))))
  have l0 : b8 0 = nI 10 := by
    refine (h8 0 (by omega) 0 (by omega)).trans ?_
    rw [show a1 (9 + 3 * 0 + 0) = nI 0 from q00]
    decide
  have l1 : b8 1 = nI (10 + r) := by
    refine (h8 0 (by omega) 1 (by omega)).trans ?_
    rw [show a1 (9 + 3 * 0 + 1) = nI r from q01]
    exact bg_ten r hr9
  have l3 : b8 3 = nI (10 + s) := by
    refine (h8 1 (by omega) 0 (by omega)).trans ?_
    rw [show a1 (9 + 3 * 1 + 0) = nI s from q10]
    exact bg_ten s hs9
  have l4 : b8 4 = nI 10 := by
    refine (h8 1 (by omega) 1 (by omega)).trans ?_
    rw [show a1 (9 + 3 * 1 + 1) = nI 0 from q11]
    decide
  refine bg_coneA (sd := 0) (u := s) (w := r) (x := 10) (y := 10 + s) (by omega) rfl (by omega) (by omega) l0 l3 ((bg_s0 l1 (by omega)).trans (bg_dif r hr9).1) ((bg_s1 l4 (by omega)).trans (bg_dif s hs9).2) bg_s2 hs hs9 hr hr9
    (fun b2 b3 b4 b5 b6 b7 c n2 o2 E1 O3 t0 t1 t2 tO => ?_)
  refine bg_loss1 (fun d8 h8' => ?_)
  have m0 : d8 0 = nI (10 + p) := by
    refine (h8' 0 (by omega) 0 (by omega)).trans ?_
    rw [show a1 (3 * 0 + 0) = nI p from p00]
    exact bg_ten p hp9
  have m1 : d8 1 = nI 10 := by
    refine (h8' 0 (by omega) 1 (by omega)).trans ?_
    rw [show a1 (3 * 1 + 0) = nI 0 from p10]
    decide
  have m3 : d8 3 = nI 10 := by
    refine (h8' 1 (by omega) 0 (by omega)).trans ?_
    rw [show a1 (3 * 0 + 1) = nI 0 from p01]
    decide
  have m4 : d8 4 = nI (10 + q) := by
    refine (h8' 1 (by omega) 1 (by omega)).trans ?_
    rw [show a1 (3 * 1 + 1) = nI q from p11]
    exact bg_ten q hq9
  refine bg_coneB (sd := 1) (u := p) (w := q) (x := 10 + p) (y := 10) (by omega) rfl (by omega) (by omega) m0 m3 ((bg_s0 m1 (by omega)).trans (bg_dif p hp9).2) ((bg_s1 m4 (by omega)).trans (bg_dif q hq9).1) bg_s2 hp hp9 hq hq9
    (fun d2 d3 d4 d5 d6 d7 c' n2' o2' E1' O3' t0' t1' t2' tO' => ?_)
  have c0 : d2 0 = nI 3 := (o2' 0 (by omega)).trans n2
  have c1 : d2 1 = nI 3 := n2'
  have x0 : d4 0 = 9 := (tO' 0 (by omega)).trans t0
  have x1 : d4 1 = 24 := (tO' 1 (by omega)).trans t1
  have x2 : d4 2 = 18 := (tO' 2 (by omega)).trans t2
  have y0 : d4 (24 + 0) = 10 := t0'
  have y1 : d4 (24 + 1) = 24 := t1'
  have y2 : d4 (24 + 2) = 17 := t2'
  refine ⟨4, br_f (by rw [c0]; decide) ⟨4, ?_⟩⟩
  refine bg_77no (k := 0) (l := 0) (n := 3) (by omega) (by omega) c1 x0 y0 (by decide) ?_
  refine bg_77no (k := 0) (l := 1) (n := 2) (by omega) (by omega) c1 x0 y1 (by decide) ?_
  refine bg_77no (k := 0) (l := 2) (n := 1) (by omega) (by omega) c1 x0 y2 (by decide) ?_
  refine bg_77end (k := 0) (n := 0) c1 (br_f (by rw [c0]; decide) ⟨4, ?_⟩)
  refine bg_77no (k := 1) (l := 0) (n := 3) (by omega) (by omega) c1 x1 y0 (by decide) ?_
  refine bg_77yes (k := 1) (l := 1) (n := 2) (by omega) (by omega) c1 x1 y1 (by decide) (by decide) ?_
  refine bg_77no (k := 1) (l := 2) (n := 1) (by omega) (by omega) c1 x1 y2 (by decide) ?_
  refine bg_77end (k := 1) (n := 0) c1 (br_f (by rw [c0]; decide) ⟨4, ?_⟩)
  refine bg_77no (k := 2) (l := 0) (n := 3) (by omega) (by omega) c1 x2 y0 (by decide) ?_
  refine bg_77no (k := 2) (l := 1) (n := 2) (by omega) (by omega) c1 x2 y1 (by decide) ?_
  refine bg_77no (k := 2) (l := 2) (n := 1) (by omega) (by omega) c1 x2 y2 (by decide) ?_
  refine bg_77end (k := 2) (n := 0) c1 (br_t (by rw [c0]; decide) ?_)
  refine H _ _ _ _ _ _ _ _ _ c c' (fun i hi => (O3' _ (by omega)).trans (E1 i hi)) E1' ?_ ?_
  · refine Eq.trans pk_us ?_
    decide
  · refine Eq.trans pk_us ?_
    decide
end
end
section
theorem bg_ip0 (k j : Nat) : (9 : Int32) * 0 + 3 * nI k + nI j = nI (3 * k + j) := by
  rw [show (9 : Int32) * 0 = nI 0 from rfl, show (3 : Int32) = nI 3 from rfl, pk_mul, nI_add, nI_add, Nat.zero_add]
theorem bg_ip1 (k j : Nat) : (9 : Int32) * 1 + 3 * nI k + nI j = nI (9 + 3 * k + j) := by
  rw [show (9 : Int32) * 1 = nI 9 from rfl, show (3 : Int32) = nI 3 from rfl, pk_mul, nI_add, nI_add]
section
variable {post : Int32 → Prop} {f1 f2 f3 f4 f5 f6 f7 : Int32} {f8 f9 : Int64} {a1 a2 : Nat → Int32} {a3 : Nat → Int64} {a4 : Nat → Int32} {a5 : Nat → Int64} {a6 : Nat → Int32} {a7 : Nat → Int64} {a8 a9 a10 : Nat → Int32}
theorem bg_pay0 {i j : Nat} (hi : i < 2) (hj : j < 2) (hp : post (a1 (3 * i + j))) : wpX_payment post (f1, f2, f3, f4, f5, f6, f7, f8, f9, a1, a2, a3, a4, a5, a6, a7, a8, a9, a10) 0 (nI i) (nI j) :=
  ⟨pk_in (3 * i + j) 18 (by omega) (bg_ip0 i j), by rw [pk_cl (3 * i + j) (bg_ip0 i j)]; exact hp⟩
theorem bg_pay1 {i j : Nat} (hi : i < 2) (hj : j < 2) (hp : post (a1 (9 + 3 * i + j))) : wpX_payment post (f1, f2, f3, f4, f5, f6, f7, f8, f9, a1, a2, a3, a4, a5, a6, a7, a8, a9, a10) 1 (nI i) (nI j) :=
  ⟨pk_in (9 + 3 * i + j) 18 (by omega) (bg_ip1 i j), by rw [pk_cl (9 + 3 * i + j) (bg_ip1 i j)]; exact hp⟩
theorem bg_row {i j : Nat} (hi : i < 2) (hj : j < 2) (ht : a1 (3 * 0 + j) ≤ a1 (3 * i + j) → a1 (3 * 1 + j) ≤ a1 (3 * i + j) → post 1) (h0 : ¬ a1 (3 * 0 + j) ≤ a1 (3 * i + j) → post 0)
    (h1 : ¬ a1 (3 * 1 + j) ≤ a1 (3 * i + j) → post 0) : wpX_isBestRow post (2, f2, f3, f4, f5, f6, f7, f8, f9, a1, a2, a3, a4, a5, a6, a7, a8, a9, a10) (nI i) (nI j) :=
  ⟨3, br_f (by decide) (bg_pay0 (i := 0) (by omega) hj (bg_pay0 hi hj (br_c (fun g0 => nm_r (e' := nI 1) rfl
    (br_f (by decide) (bg_pay0 (i := 1) (by omega) hj (bg_pay0 hi hj (br_c (fun g1 => nm_r (e' := nI 2) rfl (br_t (by decide) (ht g0 g1))) h1))))) h0)))⟩
theorem bg_col {i j : Nat} (hi : i < 2) (hj : j < 2) (ht : a1 (9 + 3 * i + 0) ≤ a1 (9 + 3 * i + j) → a1 (9 + 3 * i + 1) ≤ a1 (9 + 3 * i + j) → post 1) (h0 : ¬ a1 (9 + 3 * i + 0) ≤ a1 (9 + 3 * i + j) → post 0)
    (h1 : ¬ a1 (9 + 3 * i + 1) ≤ a1 (9 + 3 * i + j) → post 0) : wpX_isBestColumn post (f1, 2, f3, f4, f5, f6, f7, f8, f9, a1, a2, a3, a4, a5, a6, a7, a8, a9, a10) (nI i) (nI j) :=
  ⟨3, br_f (by decide) (bg_pay1 (j := 0) hi (by omega) (bg_pay1 hi hj (br_c (fun g0 => nm_r (e' := nI 1) rfl
    (br_f (by decide) (bg_pay1 (j := 1) hi (by omega) (bg_pay1 hi hj (br_c (fun g1 => nm_r (e' := nI 2) rfl (br_t (by decide) (ht g0 g1))) h1))))) h0)))⟩
theorem bg_pure {p q r s : Nat} (hP : bg_P a1 p q r s) (hp : 0 < p) (hp9 : p < 10) (hq : 0 < q) (hq9 : q < 10) (hr : 0 < r) (hr9 : r < 10) (hs : 0 < s) (hs9 : s < 10) (H : post 0) :
    wpX_pure post (2, 2, f3, f4, f5, f6, f7, f8, f9, a1, a2, a3, a4, a5, a6, a7, a8, a9, a10) := by
  obtain ⟨p00, p01, p10, p11, q00, q01, q10, q11⟩ := hP
  have nr : ¬ a1 (9 + 3 * 0 + 1) ≤ a1 (9 + 3 * 0 + 0) := by
    rw [show a1 (9 + 3 * 0 + 1) = nI r from q01, show a1 (9 + 3 * 0 + 0) = nI 0 from q00]
    exact nI_ge hr (by omega)
  have nq : ¬ a1 (3 * 1 + 1) ≤ a1 (3 * 0 + 1) := by
    rw [show a1 (3 * 1 + 1) = nI q from p11, show a1 (3 * 0 + 1) = nI 0 from p01]
    exact nI_ge hq (by omega)
  have np : ¬ a1 (3 * 0 + 0) ≤ a1 (3 * 1 + 0) := by
    rw [show a1 (3 * 0 + 0) = nI p from p00, show a1 (3 * 1 + 0) = nI 0 from p10]
    exact nI_ge hp (by omega)
  have ns : ¬ a1 (9 + 3 * 1 + 0) ≤ a1 (9 + 3 * 1 + 1) := by
    rw [show a1 (9 + 3 * 1 + 0) = nI s from q10, show a1 (9 + 3 * 1 + 1) = nI 0 from q11]
    exact nI_ge hs (by omega)
  have z00 : ∀ ps : Int32 → Prop, ps 0 → wpX_isBestColumn ps (2, 2, f3, f4, f5, f6, f7, f8, f9, a1, a2, a3, a4, a5, a6, a7, a8, a9, a10) (nI 0) (nI 0) := fun ps h => bg_col (i := 0) (j := 0) (by omega) (by omega) (fun _ g => absurd g nr) (fun _ => h) (fun _ => h)
  have z01 : ∀ ps : Int32 → Prop, ps 0 → wpX_isBestRow ps (2, 2, f3, f4, f5, f6, f7, f8, f9, a1, a2, a3, a4, a5, a6, a7, a8, a9, a10) (nI 0) (nI 1) := fun ps h => bg_row (i := 0) (j := 1) (by omega) (by omega) (fun _ g => absurd g nq) (fun _ => h) (fun _ => h)
  have z10 : ∀ ps : Int32 → Prop, ps 0 → wpX_isBestRow ps (2, 2, f3, f4, f5, f6, f7, f8, f9, a1, a2, a3, a4, a5, a6, a7, a8, a9, a10) (nI 1) (nI 0) := fun ps h => bg_row (i := 1) (j := 0) (by omega) (by omega) (fun g _ => absurd g np) (fun _ => h) (fun _ => h)
  have z11 : ∀ ps : Int32 → Prop, ps 0 → wpX_isBestColumn ps (2, 2, f3, f4, f5, f6, f7, f8, f9, a1, a2, a3, a4, a5, a6, a7, a8, a9, a10) (nI 1) (nI 1) := fun ps h => bg_col (i := 1) (j := 1) (by omega) (by omega) (fun g _ => absurd g ns) (fun _ => h) (fun _ => h)
  refine ⟨3, br_f (by decide) ⟨3, ?_⟩⟩
  have last : wX_pure_4 post 2 2 f3 f4 f5 f6 f7 f8 f9 a1 a2 a3 a4 a5 a6 a7 a8 a9 a10 1 0 (nI 2) := br_t (by decide) H
  have second : wX_pure_4 post 2 2 f3 f4 f5 f6 f7 f8 f9 a1 a2 a3 a4 a5 a6 a7 a8 a9 a10 2 0 (nI 1) := by
    refine br_f (by decide) ⟨3, br_f (by decide) (z10 _ (br_t rfl (nm_r (e' := nI 1) rfl (br_f (by decide) ?_))))⟩
    have aft : wX_pure_14 post (wX_pure_4 post 2 2 f3 f4 f5 f6 f7 f8 f9 a1 a2 a3 a4 a5 a6 a7 a8 a9 a10 1) (nI 1) 2 2 f3 f4 f5 f6 f7 f8 f9 a1 a2 a3 a4 a5 a6 a7 a8 a9 a10 1 0 (nI 2) := br_t (by decide) (nm_r (e' := nI 2) rfl last)
    have no : ∀ ps : Int32 → Prop, ps 0 → ps 1 → wpX_isBestRow ps (2, 2, f3, f4, f5, f6, f7, f8, f9, a1, a2, a3, a4, a5, a6, a7, a8, a9, a10) (nI 1) (nI 1) := fun ps h h' => bg_row (i := 1) (j := 1) (by omega) (by omega) (fun _ _ => h') (fun _ => h) (fun _ => h)
    exact no _ (br_t rfl (nm_r (e' := nI 2) rfl aft)) (br_f (by decide) (z11 _ (br_t rfl (nm_r (e' := nI 2) rfl aft))))
  have aft1 : wX_pure_14 post (wX_pure_4 post 2 2 f3 f4 f5 f6 f7 f8 f9 a1 a2 a3 a4 a5 a6 a7 a8 a9 a10 2) 0 2 2 f3 f4 f5 f6 f7 f8 f9 a1 a2 a3 a4 a5 a6 a7 a8 a9 a10 2 0 (nI 1) :=
    br_f (by decide) (z01 _ (br_t rfl (nm_r (e' := nI 2) rfl (br_t (by decide) (nm_r (e' := nI 1) rfl second)))))
  have no : ∀ ps : Int32 → Prop, ps 0 → ps 1 → wpX_isBestRow ps (2, 2, f3, f4, f5, f6, f7, f8, f9, a1, a2, a3, a4, a5, a6, a7, a8, a9, a10) (nI 0) (nI 0) := fun ps h h' => bg_row (i := 0) (j := 0) (by omega) (by omega) (fun _ _ => h') (fun _ => h) (fun _ => h)
  exact br_f (by decide) (no _ (br_t rfl (nm_r (e' := nI 1) rfl aft1)) (br_f (by decide) (z00 _ (br_t rfl (nm_r (e' := nI 1) rfl aft1)))))
end
section
variable {post : Int64 → Prop} {f1 f2 f3 f4 f5 f6 f7 : Int32} {f8 f9 : Int64} {a1 a2 : Nat → Int32} {a3 : Nat → Int64} {a4 : Nat → Int32} {a5 : Nat → Int64} {a6 : Nat → Int32} {a7 : Nat → Int64} {a8 a9 a10 : Nat → Int32}
theorem bg_mix {e : Nat} {v : Nat → Nat} (he : e < 48) (hv : bg_E a3 e v) (h0 : v 0 < 2 ^ 62) (h1 : v 1 < 2 ^ 62) (h2 : v 2 < 2 ^ 62) (hg : Nat.gcd (v 0) (v 1) < 2 ^ 62)
    (hp : post (lN (Nat.gcd (Nat.gcd (v 0) (v 1)) (v 2)))) : wpX_mixDivisor post (f1, f2, f3, f4, f5, f6, f7, f8, f9, a1, a2, a3, a4, a5, a6, a7, a8, a9, a10) (nI e) := by
  have i0 : (4 : Int32) * nI e = nI (4 * e) := pk_mul 4 e
  have i1 : (4 : Int32) * nI e + 1 = nI (4 * e + 1) := bg_i4 e 1
  have i2 : (4 : Int32) * nI e + 2 = nI (4 * e + 2) := bg_i4 e 2
  refine ⟨pk_in (4 * e) 192 (by omega) i0, pk_in (4 * e + 1) 192 (by omega) i1, ?_⟩
  rw [pk_cl (4 * e) i0, pk_cl (4 * e + 1) i1, show a3 (4 * e) = lN (v 0) from hv 0 (by omega), hv 1 (by omega)]
  refine bg_gcd (by omega) (by omega) ⟨pk_in (4 * e + 2) 192 (by omega) i2, ?_⟩
  rw [pk_cl (4 * e + 2) i2, hv 2 (by omega)]
  exact bg_gcd (by omega) (by omega) hp
end
section
variable {post : Int32 → St2 → Prop} {f1 f2 f3 f4 f5 f6 f7 : Int32} {f8 f9 : Int64} {a1 a2 : Nat → Int32} {a3 : Nat → Int64} {a4 : Nat → Int32} {a5 : Nat → Int64} {a6 : Nat → Int32} {a7 : Nat → Int64} {a8 a9 a10 : Nat → Int32}
theorem bg_part {i : Nat} {x2 : Int32} {v : Nat → Nat} (hi : i < 2) (hx : x2 = nI i) (h10 : a10 0 = nI 1) (hv : bg_E a3 25 v) (h0 : v 0 < 2 ^ 30) (h1 : v 1 < 2 ^ 30) (h2 : v 2 = 0) (hg : Nat.gcd (v 0) (v 1) = 1)
    (hp : post (nI (v i)) (f1, 2, f3, f4, f5, 1, 1, f8, f9, a1, a2, a3, a4, a5, a6, a7, a8, a9, a10)) : wpX_part post (f1, 2, f3, f4, f5, 1, 1, f8, f9, a1, a2, a3, a4, a5, a6, a7, a8, a9, a10) 0 1 x2 := by
  subst hx
  refine br_f (by decide) (br_t rfl (br_f (by decide) (br_f (by decide) (br_f (by decide) (br_t (by decide) (br_f (nI_pos (by omega)) (br_f (by decide) (br_t (nI_lt (b := 2) hi (by omega)) (br_f (by decide) ⟨pk_in 0 64 (by omega), ?_⟩)))))))))
  have e1 : (24 : Int32) + a10 (0 : Int32).toNatClampNeg = nI 25 := by
    rw [show a10 (0 : Int32).toNatClampNeg = nI 1 from h10]
    decide
  rw [e1]
  refine bg_mix (by omega) hv (by omega) (by omega) (by omega) (by omega) ?_
  rw [h2, hg, Nat.gcd_zero_right]
  refine ⟨pk_in (4 * 25 + i) 192 (by omega) (bg_i4 25 i), by decide, ?_⟩
  rw [bg_c4 25 i (by omega), hv i (by omega), pk_lDiv (b := 1) ?_ (by omega) (by omega), Nat.div_one, lN_i]
  · exact hp
  · obtain rfl | rfl : i = 0 ∨ i = 1 := by omega
    · omega
    · omega
end
section
variable {post : St2 → Prop} {J : Int32 → Int64 → Prop} {f1 f2 f3 f4 f5 f6 f7 : Int32} {f8 f9 : Int64} {a1 a2 : Nat → Int32} {a3 : Nat → Int64} {a4 : Nat → Int32} {a5 : Nat → Int64} {a6 : Nat → Int32} {a7 : Nat → Int64} {a8 a9 a10 : Nat → Int32}
theorem bg_38 {i j n t P : Nat} {x y : Nat → Nat} (hi : i < 2) (hj : j < 2) (hx : bg_E a3 1 x) (hy : bg_E a3 25 y) (hP : a1 (3 * i + j) = nI P) (hP9 : P < 10)
    (H : wX_findGets_38 post J 0 (nI 1) (nI 25) (nI i) f1 2 f3 f4 f5 f6 f7 f9 a1 a2 a3 a4 a5 a6 a7 a8 a9 a10 n (nI (j + 1)) (lN (t + x i * y j * P))) :
    wX_findGets_38 post J 0 (nI 1) (nI 25) (nI i) f1 2 f3 f4 f5 f6 f7 f9 a1 a2 a3 a4 a5 a6 a7 a8 a9 a10 (n + 1) (nI j) (lN t) := by
  refine br_f (nI_ge (b := 2) hj (by decide)) ⟨pk_in (4 * 1 + i) 192 (by omega) (bg_i4 1 i), pk_in (4 * 25 + j) 192 (by omega) (bg_i4 25 j), bg_pay0 hi hj (nm_r (e' := lN (t + x i * y j * P)) ?_ (nm_r (nI_1 j) H))⟩
  rw [bg_c4 1 i (by omega), bg_c4 25 j (by omega), hx i (by omega), hy j (by omega), hP, nI_l (by omega), lN_mul, lN_mul, lN_add]
theorem bg_38end {i n t : Nat} (H : J (nI (i + 1)) (lN t)) : wX_findGets_38 post J 0 (nI 1) (nI 25) (nI i) f1 2 f3 f4 f5 f6 f7 f9 a1 a2 a3 a4 a5 a6 a7 a8 a9 a10 (n + 1) (nI 2) (lN t) :=
  br_t (by decide) (nm_r (nI_1 i) H)
theorem bg_gets {p q r s : Nat} {x y : Nat → Nat} (hP : bg_P a1 p q r s) (hp9 : p < 10) (hq9 : q < 10) (hx : bg_E a3 1 x) (hy : bg_E a3 25 y) (h9 : a9 0 = nI 1) (h10 : a10 0 = nI 1)
    {t b : Nat} (ht : t = x 0 * y 0 * p + x 1 * y 1 * q) (hb : b = (x 0 + x 1 + x 2) * (y 0 + y 1 + y 2)) (ht2 : t < 2 ^ 62) (hb2 : b < 2 ^ 62) (hb0 : 0 < b)
    (H : post (2, 2, f3, f4, f5, f6, f7, lN (t / Nat.gcd t b), lN (b / Nat.gcd t b), a1, a2, a3, a4, a5, a6, a7, a8, a9, a10)) : wpX_findGets post (2, 2, f3, f4, f5, f6, f7, f8, f9, a1, a2, a3, a4, a5, a6, a7, a8, a9, a10) 0 0 := by
  obtain ⟨p00, p01, p10, p11, q00, q01, q10, q11⟩ := hP
  have e9 : a9 (0 : Int32).toNatClampNeg = nI 1 := h9
  have e10 : (24 : Int32) + a10 (0 : Int32).toNatClampNeg = nI 25 := by
    rw [show a10 (0 : Int32).toNatClampNeg = nI 1 from h10]
    decide
  refine ⟨pk_in 0 64 (by omega), nm_r e9 ⟨pk_in 0 64 (by omega), nm_r e10 ⟨3, ?_⟩⟩⟩
  refine br_f (by decide) ⟨3, ?_⟩
  refine bg_38 (i := 0) (j := 0) (n := 2) (t := 0) (P := p) (by omega) (by omega) hx hy p00 hp9 ?_
  refine bg_38 (i := 0) (j := 1) (n := 1) (P := 0) (by omega) (by omega) hx hy p01 (by omega) ?_
  refine bg_38end (i := 0) (n := 0) ?_
  refine br_f (by decide) ⟨3, ?_⟩
  refine bg_38 (i := 1) (j := 0) (n := 2) (P := 0) (by omega) (by omega) hx hy p10 (by omega) ?_
  refine bg_38 (i := 1) (j := 1) (n := 1) (P := q) (by omega) (by omega) hx hy p11 hq9 ?_
  refine bg_38end (i := 1) (n := 0) ?_
  have et : 0 + x 0 * y 0 * p + x 0 * y 1 * 0 + x 1 * y 0 * 0 + x 1 * y 1 * q = t := by
    rw [ht]
    simp only [Nat.mul_zero, Nat.add_zero, Nat.zero_add]
  rw [et]
  refine br_t (by decide) (bg_sum (by omega) hx (bg_sum (by omega) hy (nm_r (e' := lN b) (by rw [lN_mul, hb]) ?_)))
  have hg0 : 0 < Nat.gcd t b := Nat.gcd_pos_of_pos_right t hb0
  have hg1 : Nat.gcd t b ≤ b := Nat.gcd_le_right t hb0
  have hne : ¬ lN (Nat.gcd t b) = 0 := fun z => absurd ((pk_lEQ (b := 0) (by omega) (by omega)).mp (z.trans (rfl : (0 : Int64) = lN 0))) (by omega)
  exact bg_gcd (by omega) (by omega) ⟨hne, nm_r (pk_lDiv (by omega) hg0 (by omega)) ⟨hne, nm_r (pk_lDiv (by omega) hg0 (by omega)) H⟩⟩
end
end
section
theorem bg_num {x0 x1 p q g y0 y1 : Nat} (hp : p = g * y1) (hq : q = g * y0) {t b : Nat} (ht : t = x0 * y0 * p + x1 * y1 * q) (hb : b = (x0 + x1 + 0) * (y0 + y1 + 0)) (hb0 : 0 < b) :
    t / Nat.gcd t b * (p + q) = p * q * (b / Nat.gcd t b) := by
  have key : t * (p + q) = p * q * b := by
    subst hp hq ht hb
    simp only [Nat.add_zero]
    grind
  have hg0 : 0 < Nat.gcd t b := Nat.gcd_pos_of_pos_right t hb0
  obtain ⟨t', et⟩ := Nat.gcd_dvd_left t b
  obtain ⟨b', eb⟩ := Nat.gcd_dvd_right t b
  generalize Nat.gcd t b = h at *
  subst et eb
  rw [Nat.mul_div_cancel_left _ hg0, Nat.mul_div_cancel_left _ hg0]
  apply Nat.eq_of_mul_eq_mul_left hg0
  rw [← Nat.mul_assoc, key]
  grind
theorem bg_pos (x : Int32) : ∃ n, 0 < n ∧ n < 10 ∧ 1 + ((x &&& 255) - (x &&& 255) / 9 * 9) = nI n := by
  obtain ⟨j, hj, e⟩ := pk_andE x (m := 255) 8 (by decide)
  have hm : j % 9 < 9 := Nat.mod_lt j (by omega)
  refine ⟨1 + j % 9, by omega, by omega, ?_⟩
  rw [e]
  have h : nI j - nI j / 9 * 9 = nI (j % 9) := pk_rem (a := j) (d := 9) (by omega) (by omega) (by omega)
  rw [h]
  exact nI_add 1 (j % 9)
theorem bg_small : ∀ n, n < 10 → ¬ nI n < (-9) ∧ nI n ≤ 9 ∧ (nI n).toInt8.toInt32 = nI n := by decide +kernel
theorem bg_lawOf (w0 w1 w2 w3 : Int32) : wpL_lawOf (fun r _ => r = 1) 11 560 () w0 w1 w2 w3 := by
  obtain ⟨p, hp, hp9, ep⟩ := bg_pos w0
  obtain ⟨q, hq, hq9, eq⟩ := bg_pos w1
  obtain ⟨r, hr, hr9, er⟩ := bg_pos w2
  obtain ⟨s, hs, hs9, es⟩ := bg_pos w3
  refine ⟨by decide, ?_⟩
  rw [ep]
  refine ⟨by decide, ?_⟩
  rw [eq]
  refine ⟨by decide, ?_⟩
  rw [er]
  refine ⟨by decide, ?_⟩
  rw [es]
  obtain ⟨p1, p2, p3⟩ := bg_small p hp9
  obtain ⟨q1, q2, q3⟩ := bg_small q hq9
  obtain ⟨r1, r2, r3⟩ := bg_small r hr9
  obtain ⟨s1, s2, s3⟩ := bg_small s hs9
  refine ⟨by omega, by omega, 10, 541, by omega, by omega, ?_⟩
  refine ⟨by omega, by omega, by omega, by omega, by omega, by omega, by omega, by omega, by omega, by omega, by omega, by omega, by omega, by omega, by omega, by omega, by omega, by omega, by omega, by omega,
    br_t (by decide) (br_t (by decide) (br_t (by decide) (br_t (by decide) ?_)))⟩
  refine bg_pay (Or.inl rfl) (by decide) (by decide) (by decide) p1 p2 (pk_in 0 18 (by omega)) (br_f (by decide) ?_)
  refine bg_pay (Or.inl rfl) (by decide) (by decide) (by decide) q1 q2 (pk_in 4 18 (by omega)) (br_f (by decide) ?_)
  refine bg_pay (Or.inr rfl) (by decide) (by decide) (by decide) r1 r2 (pk_in 10 18 (by omega)) (br_f (by decide) ?_)
  refine bg_pay (Or.inr rfl) (by decide) (by decide) (by decide) s1 s2 (pk_in 12 18 (by omega)) (br_f (by decide) ?_)
  rw [p3, q3, r3, s3]
  generalize hA : upd (upd (upd (upd (fun _ => 0) ((9 : Int32) * 0 + 0).toNatClampNeg (nI p)) ((9 : Int32) * 0 + 4).toNatClampNeg (nI q)) ((9 : Int32) * 1 + 1).toNatClampNeg (nI r)) ((9 : Int32) * 1 + 3).toNatClampNeg (nI s) = a1
  have hP : bg_P a1 p q r s := by
    subst hA
    exact ⟨rfl, rfl, rfl, rfl, rfl, rfl, rfl, rfl⟩
  have hgp : 0 < Nat.gcd q p := Nat.gcd_pos_of_pos_left p hq
  have hgr : 0 < Nat.gcd s r := Nat.gcd_pos_of_pos_left r hs
  have hx0 : s / Nat.gcd s r ≤ s := Nat.div_le_self _ _
  have hx1 : r / Nat.gcd s r ≤ r := Nat.div_le_self _ _
  have hx2 : 0 < s / Nat.gcd s r := Nat.div_pos (Nat.gcd_le_left r hs) hgr
  have hy0 : q / Nat.gcd q p ≤ q := Nat.div_le_self _ _
  have hy1 : p / Nat.gcd q p ≤ p := Nat.div_le_self _ _
  have hy2 : 0 < q / Nat.gcd q p := Nat.div_pos (Nat.gcd_le_left p hq) hgp
  have eqq : q = Nat.gcd q p * (q / Nat.gcd q p) := (Nat.mul_div_cancel' (Nat.gcd_dvd_left q p)).symm
  have epp : p = Nat.gcd q p * (p / Nat.gcd q p) := (Nat.mul_div_cancel' (Nat.gcd_dvd_right q p)).symm
  have hco : Nat.gcd (q / Nat.gcd q p) (p / Nat.gcd q p) = 1 := by
    rw [Nat.gcd_div (Nat.gcd_dvd_left q p) (Nat.gcd_dvd_right q p)]
    exact Nat.div_self hgp
  refine bg_list hP hp hp9 hq hq9 hr hr9 hs hs9 (fun b2 b3 b4 b5 b6 b7 b8 b9 b10 c c' E1 E25 h9 h10 => ?_)
  refine br_t rfl (bg_pure hP hp hp9 hq hq9 hr hr9 hs hs9 (br_t rfl ?_))
  refine bg_part (i := 0) (by omega) rfl h10 E25 (show q / Nat.gcd q p < 2 ^ 30 by omega) (show p / Nat.gcd q p < 2 ^ 30 by omega) rfl hco ?_
  refine bg_part (i := 1) (by omega) rfl h10 E25 (show q / Nat.gcd q p < 2 ^ 30 by omega) (show p / Nat.gcd q p < 2 ^ 30 by omega) rfl hco ?_
  have hpart : nI (q / Nat.gcd q p) * nI p = nI (p / Nat.gcd q p) * nI q := by
    rw [pk_mul, pk_mul]
    refine congrArg nI ?_
    generalize q / Nat.gcd q p = y0 at *
    generalize p / Nat.gcd q p = y1 at *
    generalize Nat.gcd q p = g at *
    subst eqq epp
    grind
  refine br_t hpart ?_
  generalize hx0e : s / Nat.gcd s r = x0 at *
  generalize hx1e : r / Nat.gcd s r = x1 at *
  generalize hy0e : q / Nat.gcd q p = y0 at *
  generalize hy1e : p / Nat.gcd q p = y1 at *
  have b1 : x0 * y0 ≤ 9 * 9 := Nat.mul_le_mul (by omega) (by omega)
  have b2' : x1 * y1 ≤ 9 * 9 := Nat.mul_le_mul (by omega) (by omega)
  have b3' : x0 * y0 * p ≤ 9 * 9 * 9 := Nat.mul_le_mul b1 (by omega)
  have b4' : x1 * y1 * q ≤ 9 * 9 * 9 := Nat.mul_le_mul b2' (by omega)
  have b5' : (x0 + x1 + 0) * (y0 + y1 + 0) ≤ 18 * 18 := Nat.mul_le_mul (by omega) (by omega)
  have b6' : 0 < (x0 + x1 + 0) * (y0 + y1 + 0) := Nat.mul_pos (by omega) (by omega)
  have fin := bg_num (x0 := x0) (x1 := x1) epp eqq (t := x0 * y0 * p + x1 * y1 * q) (b := (x0 + x1 + 0) * (y0 + y1 + 0)) rfl rfl b6'
  refine br_t rfl (br_f (by decide) (br_f (by decide) (br_f (by decide) (br_t (by decide) (bg_gets hP hp9 hq9 E1 E25 h9 h10 (t := x0 * y0 * p + x1 * y1 * q) (b := (x0 + x1 + 0) * (y0 + y1 + 0)) rfl rfl (by omega) (by omega) b6' ?_)))))
  refine br_t rfl (br_f (by decide) (br_f (by decide) (br_f (by decide) (br_t (by decide) (bg_gets hP hp9 hq9 E1 E25 h9 h10 (t := x0 * y0 * p + x1 * y1 * q) (b := (x0 + x1 + 0) * (y0 + y1 + 0)) rfl rfl (by omega) (by omega) b6' ?_)))))
  refine br_t ?_ rfl
  rw [lN_i, lN_i, nI_add, pk_mul, pk_mul, pk_mul]
  exact congrArg nI fin
theorem bg_cell {post : Int32 → Prop} {L : Nat} {xs : Nat → Int32} {x : Int32} (i : Nat) (hL : L ≤ 4) (hi : i < 4) (hx : x = nI i) (H : ∀ y, post y) : wpL_cellAt post L xs () x := by
  subst hx
  exact pk_le L i (fun _ => H _) (fun z => ⟨pk_in i L z, H _⟩)
theorem i_vc (xs : Nat → Int32) (L : Nat) (hL : L ≤ 4) : wpL_law (fun r => r = 1) L xs :=
  bg_cell 0 hL (by omega) rfl (fun y0 => bg_cell 1 hL (by omega) rfl (fun y1 => bg_cell 2 hL (by omega) rfl (fun y2 => bg_cell 3 hL (by omega) rfl (fun y3 => ⟨11, 560, by omega, by omega, bg_lawOf y0 y1 y2 y3⟩))))
end
