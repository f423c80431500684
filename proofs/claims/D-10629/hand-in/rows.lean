section
/-! the picture: n points, at most one line (place 0) with ends lo < hi; without a line lo = hi = 9 -/
def cn_G (n : Nat) (pr : Int32) (A B : Nat → Int32) (lo hi : Nat) : Prop :=
  1 ≤ n ∧ n ≤ 8 ∧ ((pr = 0 ∧ lo = 9 ∧ hi = 9) ∨ (pr = 1 ∧ lo < hi ∧ hi < n ∧ ((A 0 = nI lo ∧ B 0 = nI hi) ∨ (A 0 = nI hi ∧ B 0 = nI lo))))
theorem cn_b0 : ∀ k, k < 16 → ((0 : Int32) >>> (nI k &&& 31)) &&& 1 = 0 := by decide +kernel
theorem cn_b1 : ∀ k, k < 16 → k ≠ 0 → ((1 : Int32) >>> (nI k &&& 31)) &&& 1 = 0 := by decide +kernel
theorem cn_b10 : ¬ ((1 : Int32) >>> (nI 0 &&& 31)) &&& 1 = 0 := by decide +kernel
theorem cn_by : ∀ k, k < 17 → (nI k).toInt8.toInt32 = nI k := by decide +kernel
theorem cn_bm : (-1 : Int32).toInt8.toInt32 = -1 := by decide +kernel
theorem cn_az (x : Int32) : x + 0 = x := by grind
theorem cn_m1 : (nI 1 : Int32) + (-1) = nI 0 := by decide +kernel
theorem cn_neg : ¬ (0 : Int32) ≤ -1 := by decide +kernel
theorem cn_neg' : (-1 : Int32) < 0 := by decide +kernel
section
variable {n lo hi : Nat} {pr : Int32} {A B : Nat → Int32} {g b h w : Int32} {a3 a4 a5 a6 a7 a8 a9 a10 a11 a12 a13 a14 a15 a16 a17 a18 : Nat → Int32} {a19 : Nat → Int64} {a20 : Nat → Int32}
theorem cn_le8 (G : cn_G n pr A B lo hi) : 1 ≤ n ∧ n ≤ 8 := ⟨G.1, G.2.1⟩
theorem cn_pr (G : cn_G n pr A B lo hi) : pr = if hi < n then 1 else 0 := by
  obtain ⟨g1, g2, ⟨e1, e2, e3⟩ | ⟨e1, e2, e3, _⟩⟩ := G
  · rw [if_neg (by omega), e1]
  · rw [if_pos e3, e1]
theorem cn_lh (G : cn_G n pr A B lo hi) (hn : hi < n) : lo < hi := by
  obtain ⟨g1, g2, ⟨e1, e2, e3⟩ | ⟨e1, e2, e3, _⟩⟩ := G
  · omega
  · exact e2
theorem cn_no (G : cn_G n pr A B lo hi) (hn : ¬ hi < n) : lo = 9 ∧ hi = 9 := by
  obtain ⟨g1, g2, ⟨e1, e2, e3⟩ | ⟨e1, e2, e3, _⟩⟩ := G
  · exact ⟨e2, e3⟩
  · exact absurd e3 hn
theorem cn_ends (G : cn_G n pr A B lo hi) (hn : hi < n) : (A 0 = nI lo ∧ B 0 = nI hi) ∨ (A 0 = nI hi ∧ B 0 = nI lo) := by
  obtain ⟨g1, g2, ⟨e1, e2, e3⟩ | ⟨e1, e2, e3, e4⟩⟩ := G
  · omega
  · exact e4
theorem cn_has {post : Int32 → Prop} {k : Nat} (G : cn_G n pr A B lo hi) (hk : k < 16) (h1 : k = 0 → hi < n → post 1) (h0 : (k = 0 → ¬ hi < n) → post 0) : wpX_has post ((nI n), pr, g, b, h, w, A, B, a3, a4, a5, a6, a7, a8, a9, a10, a11, a12, a13, a14, a15, a16, a17, a18, a19, a20) (nI k) := by
  unfold wpX_has
  obtain ⟨g1, g2, ⟨e1, e2, e3⟩ | ⟨e1, e2, e3, _⟩⟩ := G
  · subst e1
    exact pk_lt k 0 (fun z => absurd z (by omega)) (fun _ => pk_le 16 k (fun z => absurd z (by omega)) (fun _ => br_t (cn_b0 k hk) (h0 (fun _ => by omega))))
  · subst e1
    refine pk_lt k 0 (fun z => absurd z (by omega)) (fun _ => pk_le 16 k (fun z => absurd z (by omega)) (fun _ => ?_))
    by_cases e : k = 0
    · subst e
      exact br_f cn_b10 (h1 rfl e3)
    · exact br_t (cn_b1 k hk e) (h0 (fun z => absurd z e))
theorem cn_touch {post : Int32 → Prop} {k : Nat} {p : Int32} (G : cn_G n pr A B lo hi) (hk : k < 16) (h1 : k = 0 → hi < n → (p = nI lo ∨ p = nI hi) → post 1) (h0 : (k = 0 → hi < n → ¬ (p = nI lo ∨ p = nI hi)) → post 0) : wpX_touches post ((nI n), pr, g, b, h, w, A, B, a3, a4, a5, a6, a7, a8, a9, a10, a11, a12, a13, a14, a15, a16, a17, a18, a19, a20) (nI k) p := by
  unfold wpX_touches
  refine cn_has G hk (fun e hn => ?_) (fun e => br_t rfl (h0 (fun z hn => absurd hn (e z))))
  subst e
  refine br_f (by decide) ⟨pk_in 0 16 hk, ?_⟩
  rw [nI_clamp (show 0 < 2 ^ 31 by decide)]
  rcases cn_ends G hn with ⟨ea, eb⟩ | ⟨ea, eb⟩
  · rw [ea, eb]
    exact br_c (fun z => h1 rfl hn (Or.inl z.symm)) (fun z => ⟨pk_in 0 16 hk, br_c (fun y => h1 rfl hn (Or.inr y.symm)) (fun y => h0 (fun _ _ t => t.elim (fun t => z t.symm) (fun t => y t.symm)))⟩)
  · rw [ea, eb]
    exact br_c (fun z => h1 rfl hn (Or.inr z.symm)) (fun z => ⟨pk_in 0 16 hk, br_c (fun y => h1 rfl hn (Or.inl y.symm)) (fun y => h0 (fun _ _ t => t.elim (fun t => y t.symm) (fun t => z t.symm)))⟩)
theorem cn_other {post : Int32 → Prop} {p : Int32} (G : cn_G n pr A B lo hi) (hn : hi < n) (hp : p = nI lo ∨ p = nI hi) (hl : p = nI lo → post (nI hi)) (hh : p = nI hi → post (nI lo)) : wpX_otherEnd post ((nI n), pr, g, b, h, w, A, B, a3, a4, a5, a6, a7, a8, a9, a10, a11, a12, a13, a14, a15, a16, a17, a18, a19, a20) (nI 0) p := by
  unfold wpX_otherEnd
  have hl8 := cn_lh G hn
  have h8 := (cn_le8 G).2
  have hne : ¬ (nI lo : Int32) = nI hi := fun z => absurd ((nI_eq (by omega) (by omega)).mp z) (by omega)
  refine ⟨pk_in 0 16 (by decide), ?_⟩
  rw [nI_clamp (show 0 < 2 ^ 31 by decide)]
  rcases cn_ends G hn with ⟨ea, eb⟩ | ⟨ea, eb⟩
  · rw [ea, eb]
    refine br_c (fun z => ⟨pk_in 0 16 (by decide), hl z.symm⟩) (fun z => ⟨pk_in 0 16 (by decide), hh (hp.elim (fun t => absurd t.symm z) id)⟩)
  · rw [ea, eb]
    refine br_c (fun z => ⟨pk_in 0 16 (by decide), hh z.symm⟩) (fun z => ⟨pk_in 0 16 (by decide), hl (hp.elim id (fun t => absurd t.symm z))⟩)
end
end
section
section
variable {n lo hi : Nat} {pr : Int32} {A B : Nat → Int32} {g b h w : Int32} {a3 a4 a5 a6 a7 a8 a9 a10 a11 a12 a13 a14 a15 a16 a17 a18 : Nat → Int32} {a19 : Nat → Int64} {a20 : Nat → Int32}
theorem cn_enter {post : St2 → Prop} {p m : Nat} {y z : Int32} (hp : p < 8) (hm : m < 8) (H : post ((nI n), pr, g, b, h, (nI (m + 1)), A, B, (upd a3 p (nI m)), (upd a4 m (nI p)), (upd a5 p y.toInt8.toInt32), (upd a6 p z.toInt8.toInt32), (upd a7 p (nI m)), (upd a8 p 0), a9, a10, a11, a12, a13, a14, a15, a16, a17, a18, a19, a20)) : wpX_enter post ((nI n), pr, g, b, h, (nI m), A, B, a3, a4, a5, a6, a7, a8, a9, a10, a11, a12, a13, a14, a15, a16, a17, a18, a19, a20) (nI p) y z := by
  unfold wpX_enter
  have cp : (nI p).toNatClampNeg = p := nI_clamp (by omega)
  have cm : (nI m).toNatClampNeg = m := nI_clamp (by omega)
  refine ⟨pk_in p 8 hp, nm_r (e' := upd a3 p (nI m)) (by rw [cp, cn_by m (by omega)]) ⟨pk_in m 8 hm, nm_r (e' := upd a4 m (nI p)) (by rw [cm, cn_by p (by omega)]) (nm_r (nI_1 m) ⟨pk_in p 8 hp, nm_r (e' := upd a5 p y.toInt8.toInt32) (by rw [cp]) ⟨pk_in p 8 hp, nm_r (e' := upd a6 p z.toInt8.toInt32) (by rw [cp]) ⟨pk_in p 8 hp, pk_in p 8 hp, nm_r (e' := upd a7 p (nI m)) (by rw [cp, pk_us, vp_nar_byte, cn_by m (by omega)]) ⟨pk_in p 8 hp, nm_r (e' := upd a8 p 0) (by rw [cp]) H⟩⟩⟩⟩)⟩⟩
theorem cn_uu {u : Nat} (G : cn_G n pr A B lo hi) (hn : hi < n) (hu : u < 8) (h : nI u = nI lo ∨ nI u = nI hi) : u = lo ∨ u = hi := by
  have hl8 := cn_lh G hn
  have h8 := (cn_le8 G).2
  rcases h with h | h
  · exact Or.inl ((nI_eq (by omega) (by omega)).mp h)
  · exact Or.inr ((nI_eq (by omega) (by omega)).mp h)
theorem cn_ga0 {post : Int32 → St2 → Prop} {k u : Nat} {d : Int32} (G : cn_G n pr A B lo hi) (hk : k < 16) (hu : u < 8) (hs : k = 0 → hi < n → (u = lo ∨ u = hi) → a6 u = nI 0) (hp : post 0 ((nI n), pr, g, b, h, w, A, B, a3, a4, a5, a6, a7, a8, a9, a10, a11, a12, a13, a14, a15, a16, a17, a18, a19, a20)) : wpX_goAlong post ((nI n), pr, g, b, h, w, A, B, a3, a4, a5, a6, a7, a8, a9, a10, a11, a12, a13, a14, a15, a16, a17, a18, a19, a20) (nI u) (nI k) d := by
  unfold wpX_goAlong
  refine cn_touch G hk (fun e hn hx => ?_) (fun _ => br_t rfl hp)
  refine br_f (by decide) ⟨pk_in u 8 hu, br_t ?_ hp⟩
  rw [nI_clamp (show u < 2 ^ 31 by omega), hs e hn (cn_uu G hn hu hx), e]
theorem cn_ga1 {post : Int32 → St2 → Prop} {m d : Nat} (G : cn_G n pr A B lo hi) (hn : hi < n) (hm : m < 8) (hd : d < 8) (h6 : a6 lo = -1) (h3 : a3 hi = -1)
    (H : post 1 ((nI n), pr, g, b, h, (nI (m + 1)), A, B, (upd a3 hi (nI m)), (upd a4 m (nI hi)), (upd a5 hi (nI lo)), (upd a6 hi (nI 0)), (upd a7 hi (nI m)), (upd a8 hi 0), (upd a9 d (nI hi)), a10, a11, a12, a13, a14, a15, a16, a17, a18, a19, a20)) : wpX_goAlong post ((nI n), pr, g, b, h, (nI m), A, B, a3, a4, a5, a6, a7, a8, a9, a10, a11, a12, a13, a14, a15, a16, a17, a18, a19, a20) (nI lo) (nI 0) (nI d) := by
  have hl := cn_lh G hn
  have h8 := (cn_le8 G).2
  have hne : ¬ (nI lo : Int32) = nI hi := fun z => absurd ((nI_eq (by omega) (by omega)).mp z) (by omega)
  unfold wpX_goAlong
  refine cn_touch G (by decide) (fun _ _ _ => ?_) (fun z => absurd (Or.inl rfl) (z rfl hn))
  refine br_f (by decide) ⟨pk_in lo 8 (by omega), br_f ?_ ?_⟩
  · rw [nI_clamp (show lo < 2 ^ 31 by omega), h6]
    decide
  refine cn_other G hn (Or.inl rfl) (fun _ => ?_) (fun z => absurd z hne)
  refine ⟨pk_in hi 8 (by omega), br_f ?_ ?_⟩
  · rw [nI_clamp (show hi < 2 ^ 31 by omega), h3]
    exact cn_neg
  refine cn_enter (by omega) hm ?_
  refine ⟨pk_in d 8 hd, nm_r (e' := upd a9 d (nI hi)) (by rw [nI_clamp (show d < 2 ^ 31 by omega), cn_by hi (by omega)]) ?_⟩
  rw [cn_by lo (by omega), cn_by 0 (by omega)]
  exact H
theorem cn_spin {post : St2 → Prop} {u d : Nat} (G : cn_G n pr A B lo hi) (hu : u < 8) (hd : d < 8) (F : Nat) (h9 : a9 d = nI u) :
    ∀ (j k : Nat) (a8 : Nat → Int32), k + j = 16 → (k = 0 → hi < n → (u = lo ∨ u = hi) → a6 u = nI 0) → a8 u = nI k → (∀ c8 : Nat → Int32, c8 u = nI 16 → (∀ q, q ≠ u → c8 q = a8 q) → wX_walk_17 post F (nI (d + 1)) (nI n) pr g b h w A B a3 a4 a5 a6 a7 c8 a9 a10 a11 a12 a13 a14 a15 a16 a17 a18 a19 a20) → wX_walk_17 post (F + j) (nI (d + 1)) (nI n) pr g b h w A B a3 a4 a5 a6 a7 a8 a9 a10 a11 a12 a13 a14 a15 a16 a17 a18 a19 a20 := by
  intro j
  induction j with
  | zero =>
    intro k a8 e hs h8 H
    exact H a8 (by rw [h8, show k = 16 by omega]) (fun _ _ => rfl)
  | succ j ih =>
    intro k a8 e hs h8 H
    have cu : (nI u).toNatClampNeg = u := nI_clamp (by omega)
    show wX_walk_17 post ((F + j) + 1) (nI (d + 1)) (nI n) pr g b h w A B a3 a4 a5 a6 a7 a8 a9 a10 a11 a12 a13 a14 a15 a16 a17 a18 a19 a20
    refine br_f (nI_nle (by omega) (by omega)) ⟨pk_in d 8 hd (nI_pred d), nm_r (e' := nI u) (by rw [nI_pred, nI_clamp (show d < 2 ^ 31 by omega), h9]) ⟨pk_in u 8 hu, nm_r (e' := nI k) (by rw [cu, h8]) (pk_eq k 16 (fun z => absurd z (by omega)) (fun _ => ⟨pk_in u 8 hu, pk_in u 8 hu, nm_r (e' := upd a8 u (nI (k + 1))) (by rw [cu, h8, nI_1, cn_by (k + 1) (by omega)]) ?_⟩))⟩⟩
    refine cn_ga0 (a8 := upd a8 u (nI (k + 1))) G (by omega) hu hs (nm_r (cn_az _) ?_)
    exact ih (k + 1) (upd a8 u (nI (k + 1))) (by omega) (fun z => absurd z (by omega)) pk_us (fun c8 h1 h2 => H c8 h1 (fun q hq => by rw [h2 q hq, pk_un hq]))
theorem cn_pop0 {post : St2 → Prop} {u : Nat} (F : Nat) (hu : u < 8) (h9 : a9 0 = nI u) (h8 : a8 u = nI 16) (H : post ((nI n), pr, g, b, h, w, A, B, a3, a4, a5, a6, a7, a8, a9, a10, a11, a12, a13, a14, a15, a16, a17, a18, a19, a20)) : wX_walk_17 post (F + 2) (nI 1) (nI n) pr g b h w A B a3 a4 a5 a6 a7 a8 a9 a10 a11 a12 a13 a14 a15 a16 a17 a18 a19 a20 := by
  have cu : (nI u).toNatClampNeg = u := nI_clamp (by omega)
  show wX_walk_17 post ((F + 1) + 1) (nI 1) (nI n) pr g b h w A B a3 a4 a5 a6 a7 a8 a9 a10 a11 a12 a13 a14 a15 a16 a17 a18 a19 a20
  refine br_f (nI_nle (by omega) (by omega)) ⟨pk_in 0 8 (by omega), nm_r (e' := nI u) h9 ⟨pk_in u 8 hu, nm_r (e' := nI 16) (by rw [cu, h8]) (br_t rfl (nm_r cn_m1 (br_t (by decide) ?_)))⟩⟩
  exact br_t (by decide) H
theorem cn_pop1 {post : St2 → Prop} {u v : Nat} (F : Nat) (hu : u < 8) (hv : v < 8) (h9 : a9 1 = nI u) (h0 : a9 0 = nI v) (h8 : a8 u = nI 16) (H : ∀ x, wX_walk_17 post F (nI 1) (nI n) pr g b h w A B a3 a4 a5 a6 (upd a7 v x) a8 a9 a10 a11 a12 a13 a14 a15 a16 a17 a18 a19 a20) : wX_walk_17 post (F + 1) (nI 2) (nI n) pr g b h w A B a3 a4 a5 a6 a7 a8 a9 a10 a11 a12 a13 a14 a15 a16 a17 a18 a19 a20 := by
  have cu : (nI u).toNatClampNeg = u := nI_clamp (by omega)
  have cv : (nI v).toNatClampNeg = v := nI_clamp (by omega)
  refine br_f (nI_nle (by omega) (by omega)) ⟨pk_in 1 8 (by omega), nm_r (e' := nI u) h9 ⟨pk_in u 8 hu, nm_r (e' := nI 16) (by rw [cu, h8]) (br_t rfl (nm_r (e' := nI 1) (by decide) (br_f (by decide) ⟨pk_in 0 8 (by omega), nm_r (e' := nI v) h0 ⟨pk_in u 8 hu, pk_in v 8 hv, ?_⟩⟩)))⟩⟩
  refine br_c (fun _ => ⟨pk_in v 8 hv, pk_in v 8 hv, ?_⟩) (fun _ => ⟨pk_in u 8 hu, pk_in v 8 hv, ?_⟩)
  · refine nm_e ?_
    rw [cv]
    exact H _
  · refine nm_e ?_
    rw [cv]
    exact H _
theorem cn_walk1 {post : St2 → Prop} {p m : Nat} (G : cn_G n pr A B lo hi) (hp : p < 8) (hm : m < 8) (hx : hi < n → ¬ (p = lo ∨ p = hi))
    (H : ∀ c4 c8 c9 : Nat → Int32, post ((nI n), pr, g, b, h, (nI (m + 1)), A, B, (upd a3 p (nI m)), c4, (upd a5 p (-1)), (upd a6 p (-1)), (upd a7 p (nI m)), c8, c9, a10, a11, a12, a13, a14, a15, a16, a17, a18, a19, a20)) : wpX_walk post ((nI n), pr, g, b, h, (nI m), A, B, a3, a4, a5, a6, a7, a8, a9, a10, a11, a12, a13, a14, a15, a16, a17, a18, a19, a20) (nI p) := by
  unfold wpX_walk
  refine nm_r (e' := upd a9 0 (nI p)) (by rw [cn_by p (by omega)]) ?_
  refine cn_enter hp hm ⟨2 + 16, ?_⟩
  rw [cn_bm]
  refine cn_spin (d := 0) G hp (by omega) 2 pk_us 16 0 (upd a8 p 0) (by omega) (fun _ hn z => absurd z (hx hn)) pk_us (fun c8 h1 _ => ?_)
  exact cn_pop0 0 hp pk_us h1 (H _ _ _)
theorem cn_walk2 {post : St2 → Prop} {m : Nat} (G : cn_G n pr A B lo hi) (hn : hi < n) (hm : m < 7) (h3 : a3 hi = -1)
    (H : ∀ c4 c7 c8 c9 : Nat → Int32, c7 hi = nI (m + 1) → post ((nI n), pr, g, b, h, (nI (m + 2)), A, B, (upd (upd a3 lo (nI m)) hi (nI (m + 1))), c4, (upd (upd a5 lo (-1)) hi (nI lo)), (upd (upd a6 lo (-1)) hi (nI 0)), c7, c8, c9, a10, a11, a12, a13, a14, a15, a16, a17, a18, a19, a20)) : wpX_walk post ((nI n), pr, g, b, h, (nI m), A, B, a3, a4, a5, a6, a7, a8, a9, a10, a11, a12, a13, a14, a15, a16, a17, a18, a19, a20) (nI lo) := by
  have hl := cn_lh G hn
  have h8 := (cn_le8 G).2
  have hne : hi ≠ lo := by omega
  have cl : (nI lo).toNatClampNeg = lo := nI_clamp (by omega)
  unfold wpX_walk
  refine nm_r (e' := upd a9 0 (nI lo)) (by rw [cn_by lo (by omega)]) ?_
  refine cn_enter (by omega) (by omega) ⟨(18 + 16) + 1, ?_⟩
  rw [cn_bm]
  refine br_f (by decide) ⟨pk_in 0 8 (by omega), nm_r (e' := nI lo) pk_us ⟨pk_in lo 8 (by omega), nm_r (e' := nI 0) (by rw [cl, pk_us]; rfl) (br_f (by decide) ⟨pk_in lo 8 (by omega), pk_in lo 8 (by omega), nm_r (e' := upd (upd a8 lo 0) lo (nI 1)) (by rw [cl, pk_us]; rfl) ?_⟩)⟩⟩
  refine cn_ga1 (d := 1) G hn (by omega) (by omega) pk_us (by rw [pk_un hne, h3]) (nm_r (e' := nI 2) (by decide) ?_)
  refine cn_spin (d := 1) G (by omega) (by omega) 18 pk_us 16 0 _ (by omega) (fun _ _ _ => pk_us) pk_us (fun c8 h1 h2 => ?_)
  refine cn_pop1 (u := hi) (v := lo) 17 (by omega) (by omega) pk_us (by rw [pk_un (by omega), pk_us]) h1 (fun x => ?_)
  refine cn_spin (d := 0) (u := lo) G (by omega) (by omega) 2 (by rw [pk_un (by omega), pk_us]) 15 1 c8 (by omega) (fun z => absurd z (by omega)) (by rw [h2 lo (by omega), pk_un (by omega), pk_us]) (fun d8 k1 k2 => ?_)
  refine cn_pop0 0 (by omega) (by rw [pk_un (by omega), pk_us]) k1 ?_
  exact H _ _ _ _ (by rw [pk_un hne, pk_us])
end
end
section
/-- how many points were come to, how many groups, before the walk's start at i -/
def cn_w (lo hi i : Nat) : Nat := if lo < i ∧ i ≤ hi then i + 1 else i
def cn_c (hi i : Nat) : Nat := if hi < i then i - 1 else i
def cn_N (n lo hi i : Nat) (a3 a5 a6 a7 : Nat → Int32) : Prop :=
  (∀ q, q < n → (q < i ∨ (q = hi ∧ lo < i)) → ∃ x, x < 9 ∧ a3 q = nI x) ∧
  (∀ q, q < n → ¬ (q < i ∨ (q = hi ∧ lo < i)) → a3 q = -1) ∧
  (∀ q, q < n → q < i → q ≠ hi → a5 q = -1) ∧
  (hi < n → lo < i → a5 hi = nI lo ∧ a6 hi = nI 0 ∧ a7 hi = a3 hi ∧ a3 lo ≤ a3 hi)
theorem cn_N0 {n lo hi : Nat} {a3 a5 a6 a7 : Nat → Int32} (h : ∀ q, q < n → a3 q = -1) : cn_N n lo hi 0 a3 a5 a6 a7 :=
  ⟨fun q _ z => absurd z (by omega), fun q hq _ => h q hq, fun q _ z => absurd z (by omega), fun _ z => absurd z (by omega)⟩
section
variable {n lo hi : Nat} {pr : Int32} {A B : Nat → Int32} {g b h w : Int32} {a3 a4 a5 a6 a7 a8 a9 a10 a11 a12 a13 a14 a15 a16 a17 a18 : Nat → Int32} {a19 : Nat → Int64} {a20 : Nat → Int32}
theorem cn_Na {i : Nat} (N : cn_N n lo hi i a3 a5 a6 a7) (hi1 : i = hi) (hl : lo < i) : cn_N n lo hi (i + 1) a3 a5 a6 a7 := by
  obtain ⟨n1, n2, n3, n4⟩ := N
  refine ⟨fun q hq z => n1 q hq ?_, fun q hq z => n2 q hq ?_, fun q hq z y => n3 q hq ?_ y, fun hn _ => n4 hn hl⟩
  · omega
  · omega
  · omega
theorem cn_Nb {i m : Nat} (N : cn_N n lo hi i a3 a5 a6 a7) (hm : m < 9) (h1 : i ≠ hi) (h2 : i ≠ lo) : cn_N n lo hi (i + 1) (upd a3 i (nI m)) (upd a5 i (-1)) (upd a6 i (-1)) (upd a7 i (nI m)) := by
  obtain ⟨n1, n2, n3, n4⟩ := N
  refine ⟨fun q hq z => ?_, fun q hq z => ?_, fun q hq z y => ?_, fun hn z => ?_⟩
  · by_cases e : q = i
    · rw [e, pk_us]
      exact ⟨m, hm, rfl⟩
    · rw [pk_un e]
      exact n1 q hq (by omega)
  · rw [pk_un (by omega)]
    exact n2 q hq (by omega)
  · by_cases e : q = i
    · rw [e, pk_us]
    · rw [pk_un e]
      exact n3 q hq (by omega) y
  · have := n4 hn (by omega)
    rw [pk_un (by omega), pk_un (by omega), pk_un (by omega), pk_un (by omega), pk_un (by omega)]
    exact this
theorem cn_Nc {m : Nat} {c7 : Nat → Int32} (N : cn_N n lo hi lo a3 a5 a6 a7) (hm : m < 8) (hl : lo < hi) (h7 : c7 hi = nI (m + 1)) : cn_N n lo hi (lo + 1) (upd (upd a3 lo (nI m)) hi (nI (m + 1))) (upd (upd a5 lo (-1)) hi (nI lo)) (upd (upd a6 lo (-1)) hi (nI 0)) c7 := by
  obtain ⟨n1, n2, n3, n4⟩ := N
  refine ⟨fun q hq z => ?_, fun q hq z => ?_, fun q hq z y => ?_, fun hn z => ?_⟩
  · by_cases e : q = hi
    · rw [e, pk_us]
      exact ⟨m + 1, by omega, rfl⟩
    · rw [pk_un e]
      by_cases e2 : q = lo
      · rw [e2, pk_us]
        exact ⟨m, by omega, rfl⟩
      · rw [pk_un e2]
        exact n1 q hq (by omega)
  · rw [pk_un (by omega), pk_un (by omega)]
    exact n2 q hq (by omega)
  · rw [pk_un y]
    by_cases e : q = lo
    · rw [e, pk_us]
    · rw [pk_un e]
      exact n3 q hq (by omega) y
  · refine ⟨pk_us, pk_us, ?_, ?_⟩
    · rw [pk_us, h7]
    · rw [pk_us, pk_un (by omega), pk_us]
      exact nI_le (by omega) (by omega)
theorem cn_wa {post : St2 → Prop} (G : cn_G n pr A B lo hi)
    (H : ∀ c3 c4 c5 c6 c7 c8 c9 : Nat → Int32, cn_N n lo hi n c3 c5 c6 c7 → post ((nI n), pr, (nI (cn_c hi n)), b, h, (nI (cn_w lo hi n)), A, B, c3, c4, c5, c6, c7, c8, c9, a10, a11, a12, a13, a14, a15, a16, a17, a18, a19, a20)) :
    ∀ (j i : Nat) (a3 a4 a5 a6 a7 a8 a9 : Nat → Int32), i + j = n → cn_N n lo hi i a3 a5 a6 a7 → wX_walkAll_35 post (j + 1) (nI i) (nI n) pr (nI (cn_c hi i)) b h (nI (cn_w lo hi i)) A B a3 a4 a5 a6 a7 a8 a9 a10 a11 a12 a13 a14 a15 a16 a17 a18 a19 a20 := by
  have h8 := (cn_le8 G).2
  intro j
  induction j with
  | zero =>
    intro i a3 a4 a5 a6 a7 a8 a9 e N
    have e' : i = n := by omega
    subst e'
    exact pk_le i i (fun _ => H _ _ _ _ _ _ _ N) (fun z => absurd z (by omega))
  | succ j ih =>
    intro i a3 a4 a5 a6 a7 a8 a9 e N
    have ci : (nI i).toNatClampNeg = i := nI_clamp (by omega)
    refine pk_le n i (fun z => absurd z (by omega)) (fun _ => ⟨pk_in i 8 (by omega), ?_⟩)
    rw [ci]
    by_cases v : i = hi ∧ lo < i
    · obtain ⟨x, hx, ex⟩ := N.1 i (by omega) (Or.inr v)
      refine br_t (by rw [ex]; exact nI_pos' (by omega)) (nm_r (nI_1 i) ?_)
      have ec : cn_c hi (i + 1) = cn_c hi i := by unfold cn_c; split <;> split <;> omega
      have ew : cn_w lo hi (i + 1) = cn_w lo hi i := by unfold cn_w; split <;> split <;> omega
      have t := ih (i + 1) a3 a4 a5 a6 a7 a8 a9 (by omega) (cn_Na N v.1 v.2)
      rw [ec, ew] at t
      exact t
    · have en : a3 i = -1 := N.2.1 i (by omega) (by omega)
      refine br_f (by rw [en]; exact cn_neg) ?_
      by_cases hn : hi < n
      · have hl := cn_lh G hn
        by_cases el : i = lo
        · subst el
          have e3 : a3 hi = -1 := N.2.1 hi hn (by omega)
          have ew0 : cn_w i hi i = i := by unfold cn_w; split <;> omega
          have ew1 : cn_w i hi (i + 1) = i + 2 := by unfold cn_w; split <;> omega
          have ec0 : cn_c hi i = i := by unfold cn_c; split <;> omega
          have ec1 : cn_c hi (i + 1) = i + 1 := by unfold cn_c; split <;> omega
          rw [ew0]
          refine cn_walk2 G hn (by omega) e3 (fun c4 c7 c8 c9 h7 => nm_r (e' := nI (cn_c hi (i + 1))) (by rw [ec0, ec1, nI_1]) (nm_r (nI_1 i) ?_))
          have t := ih (i + 1) _ c4 _ _ c7 c8 c9 (by omega) (cn_Nc (m := i) N (by omega) hl h7)
          rw [ew1] at t
          exact t
        · have ew : cn_w lo hi (i + 1) = cn_w lo hi i + 1 := by unfold cn_w; split <;> split <;> omega
          have ec : cn_c hi (i + 1) = cn_c hi i + 1 := by unfold cn_c; split <;> split <;> omega
          have hw : cn_w lo hi i < 8 := by unfold cn_w; split <;> omega
          refine cn_walk1 G (by omega) hw (fun _ => by omega) (fun c4 c8 c9 => nm_r (e' := nI (cn_c hi (i + 1))) (by rw [ec, nI_1]) (nm_r (nI_1 i) ?_))
          have t := ih (i + 1) _ c4 _ _ _ c8 c9 (by omega) (cn_Nb (m := cn_w lo hi i) N (by omega) (by omega) el)
          rw [ew] at t
          exact t
      · obtain ⟨e9, e9'⟩ := cn_no G hn
        have ew : cn_w lo hi (i + 1) = cn_w lo hi i + 1 := by unfold cn_w; split <;> split <;> omega
        have ec : cn_c hi (i + 1) = cn_c hi i + 1 := by unfold cn_c; split <;> split <;> omega
        have hw : cn_w lo hi i < 8 := by unfold cn_w; split <;> omega
        refine cn_walk1 G (by omega) hw (fun z => absurd z hn) (fun c4 c8 c9 => nm_r (e' := nI (cn_c hi (i + 1))) (by rw [ec, nI_1]) (nm_r (nI_1 i) ?_))
        have t := ih (i + 1) _ c4 _ _ _ c8 c9 (by omega) (cn_Nb (m := cn_w lo hi i) N (by omega) (by omega) (by omega))
        rw [ew] at t
        exact t
theorem cn_walkAll {post : St2 → Prop} (G : cn_G n pr A B lo hi)
    (H : ∀ c3 c4 c5 c6 c7 c8 c9 : Nat → Int32, cn_N n lo hi n c3 c5 c6 c7 → post ((nI n), pr, (nI (cn_c hi n)), b, h, (nI (cn_w lo hi n)), A, B, c3, c4, c5, c6, c7, c8, c9, a10, a11, a12, a13, a14, a15, a16, a17, a18, a19, a20)) : wpX_walkAll post ((nI n), pr, g, b, h, w, A, B, a3, a4, a5, a6, a7, a8, a9, a10, a11, a12, a13, a14, a15, a16, a17, a18, a19, a20) := by
  have h8 := (cn_le8 G).2
  unfold wpX_walkAll
  refine pk_loop (fun m i s => wX_walkAll_12 post (nI n) pr 0 b h 0 m (nI i) A B s a4 a5 a6 a7 a8 a9 a10 a11 a12 a13 a14 a15 a16 a17 a18 a19 a20) (fun i s => ∀ q, q < i → s q = -1) n 0 a3 (by omega) (fun q z => absurd z (by omega)) (fun m s hs => ?_) (fun m i s hlt hs hw => ?_)
  · refine pk_le n n (fun _ => ⟨n + 1, ?_⟩) (fun z => absurd z (by omega))
    have ec : cn_c hi 0 = 0 := by unfold cn_c; split <;> omega
    have ew : cn_w lo hi 0 = 0 := by unfold cn_w; split <;> omega
    have t := cn_wa (b := b) (h := h) (a10 := a10) (a11 := a11) (a12 := a12) (a13 := a13) (a14 := a14) (a15 := a15) (a16 := a16) (a17 := a17) (a18 := a18) (a19 := a19) (a20 := a20) G H n 0 s a4 a5 a6 a7 a8 a9 (by omega) (cn_N0 hs)
    rw [ec, ew] at t
    exact t
  · refine pk_le n i (fun z => absurd z (by omega)) (fun _ => ⟨pk_in i 8 (by omega), nm_r (e' := upd s i (-1)) (by rw [nI_clamp (show i < 2 ^ 31 by omega)]) (nm_r (nI_1 i) (hw _ (fun q hq => ?_)))⟩)
    by_cases e : q = i
    · rw [e, pk_us]
    · rw [pk_un e]
      exact hs q (by omega)
end
end
section
section
variable {n lo hi : Nat} {pr : Int32} {A B : Nat → Int32} {g b h w : Int32} {a3 a4 a5 a6 a7 a8 a9 a10 a11 a12 a13 a14 a15 a16 a17 a18 : Nat → Int32} {a19 : Nat → Int64} {a20 : Nat → Int32}
theorem cn_kids {post : Int32 → Prop} {p : Int32} (h8 : n ≤ 8) (H : ∀ r, post r) : wpX_childrenOf post ((nI n), pr, g, b, h, w, A, B, a3, a4, a5, a6, a7, a8, a9, a10, a11, a12, a13, a14, a15, a16, a17, a18, a19, a20) p := by
  unfold wpX_childrenOf
  exact pk_loop (fun m i (s : Int32) => wX_childrenOf_4 post p (nI n) pr g b h w A B a3 a4 a5 a6 a7 a8 a9 a10 a11 a12 a13 a14 a15 a16 a17 a18 a19 a20 m s (nI i)) (fun _ _ => True) n 0 0 (by omega) trivial
    (fun m s _ => pk_le n n (fun _ => H s) (fun z => absurd z (by omega)))
    (fun m i s hlt _ hw => pk_le n i (fun z => absurd z (by omega)) (fun _ => ⟨pk_in i 8 (by omega), br_c (fun _ => nm_e (nm_r (nI_1 i) (hw _ trivial))) (fun _ => nm_e (nm_r (nI_1 i) (hw _ trivial)))⟩))
theorem cn_low2 {post : St2 → Prop} (h8 : n ≤ 8) (h0 : Int32) (H : ∀ h, post ((nI n), pr, g, b, h, w, A, B, a3, a4, a5, a6, a7, a8, a9, a10, a11, a12, a13, a14, a15, a16, a17, a18, a19, a20)) : ∃ fu, wX_solveByLowest_119 post (nI n) pr g b w A B a3 a4 a5 a6 a7 a8 a9 a10 a11 a12 a13 a14 a15 a16 a17 a18 a19 a20 fu 0 h0 :=
  pk_loop (fun m i (s : Int32) => wX_solveByLowest_119 post (nI n) pr g b w A B a3 a4 a5 a6 a7 a8 a9 a10 a11 a12 a13 a14 a15 a16 a17 a18 a19 a20 m (nI i) s) (fun _ _ => True) n 0 h0 (by omega) trivial
    (fun m s _ => pk_le n n (fun _ => H s) (fun z => absurd z (by omega)))
    (fun m i s hlt _ hw => pk_le n i (fun z => absurd z (by omega)) (fun _ => ⟨pk_in i 8 (by omega), br_c (fun _ => nm_e (nm_r (nI_1 i) (hw _ trivial))) (fun _ => cn_kids h8 (fun r => br_c (fun _ => nm_e (nm_r (nI_1 i) (hw _ trivial))) (fun _ => nm_e (nm_r (nI_1 i) (hw _ trivial)))))⟩))
theorem cn_low1 {post : St2 → Prop} (G : cn_G n pr A B lo hi) (N : cn_N n lo hi n a3 a5 a6 a7) (H : ∀ h, post ((nI n), pr, g, pr, h, w, A, B, a3, a4, a5, a6, a7, a8, a9, a10, a11, a12, a13, a14, a15, a16, a17, a18, a19, a20)) :
    ∀ (j i : Nat) (h : Int32), i + j = n → wX_solveByLowest_16 post (nI n) pr g w A B a3 a4 a5 a6 a7 a8 a9 a10 a11 a12 a13 a14 a15 a16 a17 a18 a19 a20 (j + 1) (nI i) (if hi < i then 1 else 0) h := by
  have h8 := (cn_le8 G).2
  intro j
  induction j with
  | zero =>
    intro i h e
    have e' : i = n := by omega
    subst e'
    rw [← cn_pr G]
    exact pk_le i i (fun _ => cn_low2 h8 h H) (fun z => absurd z (by omega))
  | succ j ih =>
    intro i h e
    have ci : (nI i).toNatClampNeg = i := nI_clamp (by omega)
    refine pk_le n i (fun z => absurd z (by omega)) (fun _ => ⟨pk_in i 8 (by omega), ?_⟩)
    by_cases ei : i = hi
    · subst ei
      have hl := cn_lh G (by omega)
      obtain ⟨e5, e6, e7, _⟩ := N.2.2.2 (by omega) (by omega)
      refine nm_r (e' := nI lo) (by rw [ci, e5]) (br_f (nI_pos (by omega)) ⟨pk_in i 8 (by omega), pk_in i 8 (by omega), br_t (by rw [ci, e7]) ⟨pk_in i 8 (by omega), ?_⟩⟩)
      rw [ci, e6]
      unfold wX_solveByLowest_67
      refine nm_r (e' := if i < i + 1 then 1 else 0) (by rw [if_neg (by omega), if_pos (by omega)]; decide) ⟨pk_in lo 8 (by omega), br_t ?_ (nm_e (nm_r (nI_1 i) (ih (i + 1) _ (by omega))))⟩
      rw [nI_clamp (show lo < 2 ^ 31 by omega), N.2.2.1 lo (by omega) (by omega) (by omega)]
      exact cn_neg'
    · have t := ih (i + 1) h (by omega)
      have ec : (if hi < i + 1 then (1 : Int32) else 0) = if hi < i then 1 else 0 := by
        by_cases z : hi < i
        · rw [if_pos z, if_pos (by omega)]
        · rw [if_neg z, if_neg (by omega)]
      rw [ec] at t
      exact nm_r (e' := -1) (by rw [ci, N.2.2.1 i (by omega) (by omega) ei]) (br_t cn_neg' (nm_r (nI_1 i) t))
theorem cn_lowest {post : St2 → Prop} (G : cn_G n pr A B lo hi) (H : ∀ (h w : Int32) (a3 a4 a5 a6 a7 a8 a9 a10 a11 a12 : Nat → Int32), post ((nI n), pr, (nI (cn_c hi n)), pr, h, w, A, B, a3, a4, a5, a6, a7, a8, a9, a10, a11, a12, a13, a14, a15, a16, a17, a18, a19, a20)) : wpX_solveByLowest post ((nI n), pr, g, b, h, w, A, B, a3, a4, a5, a6, a7, a8, a9, a10, a11, a12, a13, a14, a15, a16, a17, a18, a19, a20) := by
  unfold wpX_solveByLowest
  refine cn_walkAll G (fun c3 c4 c5 c6 c7 c8 c9 N => ⟨n + 1, ?_⟩)
  have t := cn_low1 (post := post) (g := nI (cn_c hi n)) (w := nI (cn_w lo hi n)) (a4 := c4) (a8 := c8) (a9 := c9) (a10 := a10) (a11 := a11) (a12 := a12) (a13 := a13) (a14 := a14) (a15 := a15) (a16 := a16) (a17 := a17) (a18 := a18) (a19 := a19) (a20 := a20) G N (fun h => H _ _ _ _ _ _ _ _ _ _ _ _) n 0 0 (by omega)
  rw [if_neg (by omega)] at t
  exact t
/-! engine 1 -/
theorem cn_linesAt {post : Int32 → Prop} {p : Int32} (G : cn_G n pr A B lo hi) (H : ∀ r, post r) : wpX_linesAt post ((nI n), pr, g, b, h, w, A, B, a3, a4, a5, a6, a7, a8, a9, a10, a11, a12, a13, a14, a15, a16, a17, a18, a19, a20) p := by
  unfold wpX_linesAt
  exact pk_loop (fun m i (s : Int32) => wX_linesAt_4 post p (nI n) pr g b h w A B a3 a4 a5 a6 a7 a8 a9 a10 a11 a12 a13 a14 a15 a16 a17 a18 a19 a20 m s (nI i)) (fun _ _ => True) 16 0 0 (by omega) trivial
    (fun m s _ => pk_le 16 16 (fun _ => H s) (fun z => absurd z (by omega)))
    (fun m i s hlt _ hw => pk_le 16 i (fun z => absurd z (by omega)) (fun _ => cn_touch G hlt (fun _ _ _ => br_f (by decide) (nm_e (nm_r (nI_1 i) (hw _ trivial)))) (fun _ => br_t rfl (nm_e (nm_r (nI_1 i) (hw _ trivial))))))
theorem cn_lead {post : Int32 → Prop} {k : Nat} {u : Int32} (G : cn_G n pr A B lo hi) (N : cn_N n lo hi n a3 a5 a6 a7) (hk : k < 16) (H : post 0) : wpX_leadsBackTo post ((nI n), pr, g, b, h, w, A, B, a3, a4, a5, a6, a7, a8, a9, a10, a11, a12, a13, a14, a15, a16, a17, a18, a19, a20) (nI k) u := by
  unfold wpX_leadsBackTo
  refine cn_touch G hk (fun e hn hx => br_f (by decide) ?_) (fun _ => br_t rfl H)
  subst e
  have h8 := (cn_le8 G).2
  have hl := cn_lh G hn
  have ch : (nI hi).toNatClampNeg = hi := nI_clamp (by omega)
  have cl : (nI lo).toNatClampNeg = lo := nI_clamp (by omega)
  obtain ⟨e5, e6, e7, e3⟩ := N.2.2.2 hn (by omega)
  refine cn_other G hn hx (fun hu => ?_) (fun hu => ?_)
  · subst hu
    exact ⟨pk_in lo 8 (by omega), pk_in hi 8 (by omega), br_c (fun _ => H) (fun _ => ⟨pk_in hi 8 (by omega), br_t (by rw [ch, e6]) H⟩)⟩
  · subst hu
    exact ⟨pk_in hi 8 (by omega), pk_in lo 8 (by omega), br_t (by rw [ch, cl]; exact e3) H⟩
theorem cn_ch161 {post : St2 → Prop} (G : cn_G n pr A B lo hi) (h0 : Int32) (H : ∀ h, post ((nI n), pr, g, b, h, w, A, B, a3, a4, a5, a6, a7, a8, a9, a10, a11, a12, a13, a14, a15, a16, a17, a18, a19, a20)) : ∃ fu, wX_solveByChains_161 post (nI n) pr g b w A B a3 a4 a5 a6 a7 a8 a9 a10 a11 a12 a13 a14 a15 a16 a17 a18 a19 a20 fu 0 h0 :=
  pk_loop (fun m i (s : Int32) => wX_solveByChains_161 post (nI n) pr g b w A B a3 a4 a5 a6 a7 a8 a9 a10 a11 a12 a13 a14 a15 a16 a17 a18 a19 a20 m (nI i) s) (fun _ _ => True) n 0 h0 (by omega) trivial
    (fun m s _ => pk_le n n (fun _ => H s) (fun z => absurd z (by omega)) rfl rfl (by have := (cn_le8 G).2; omega) (by have := (cn_le8 G).2; omega))
    (fun m i s hlt _ hw => pk_le n i (fun z => absurd z (by omega)) (fun _ => cn_linesAt G (fun r => br_c (fun _ => nm_e (nm_r (nI_1 i) (hw _ trivial))) (fun _ => br_c (fun _ => nm_e (nm_r (nI_1 i) (hw _ trivial))) (fun _ => nm_e (nm_r (nI_1 i) (hw _ trivial)))))) rfl rfl (by have := (cn_le8 G).2; omega) (by have := (cn_le8 G).2; omega))
theorem cn_ch81 {post : St2 → Prop} {J : Int32 → Int32 → Int32 → Int32 → Int32 → Int32 → Int32 → Int32 → (Nat → Int32) → (Nat → Int32) → (Nat → Int32) → (Nat → Int32) → (Nat → Int32) → (Nat → Int32) → (Nat → Int32) → (Nat → Int32) → (Nat → Int32) → (Nat → Int32) → (Nat → Int32) → (Nat → Int32) → (Nat → Int32) → (Nat → Int32) → (Nat → Int32) → (Nat → Int32) → (Nat → Int32) → (Nat → Int32) → (Nat → Int64) → (Nat → Int32) → Prop}
    {x2 x3 : Int32} (G : cn_G n pr A B lo hi) (N : cn_N n lo hi n a3 a5 a6 a7) (H : J 0 (x2 + 1) (nI n) pr g b h w A B a3 a4 a5 a6 a7 a8 a9 a10 a11 a12 a13 a14 a15 a16 a17 a18 a19 a20) : ∃ fu, wX_solveByChains_81 post J x2 x3 fu 0 0 (nI n) pr g b h w A B a3 a4 a5 a6 a7 a8 a9 a10 a11 a12 a13 a14 a15 a16 a17 a18 a19 a20 :=
  pk_loop (σ := Unit) (fun m i _ => wX_solveByChains_81 post J x2 x3 m 0 (nI i) (nI n) pr g b h w A B a3 a4 a5 a6 a7 a8 a9 a10 a11 a12 a13 a14 a15 a16 a17 a18 a19 a20) (fun _ _ => True) 16 0 () (by omega) trivial
    (fun m _ _ => pk_le 16 16 (fun _ => nm_e H) (fun z => absurd z (by omega)))
    (fun m i _ hlt _ hw => pk_le 16 i (fun z => absurd z (by omega)) (fun _ => cn_lead G N hlt (br_t rfl (nm_r (nI_1 i) (hw () trivial)))))
theorem cn_ch44 {post : St2 → Prop} (G : cn_G n pr A B lo hi) (N : cn_N n lo hi n a3 a5 a6 a7) (H : ∀ h, post ((nI n), pr, g, b, h, w, A, B, a3, a4, a5, a6, a7, a8, a9, a10, a11, a12, a13, a14, a15, a16, a17, a18, a19, a20)) : ∃ fu, wX_solveByChains_44 post fu 0 0 (nI n) pr g b h w A B a3 a4 a5 a6 a7 a8 a9 a10 a11 a12 a13 a14 a15 a16 a17 a18 a19 a20 := by
  have h8 := (cn_le8 G).2
  refine pk_loop (σ := Unit) (fun m i _ => wX_solveByChains_44 post m 0 (nI i) (nI n) pr g b h w A B a3 a4 a5 a6 a7 a8 a9 a10 a11 a12 a13 a14 a15 a16 a17 a18 a19 a20) (fun _ _ => True) n 0 () (by omega) trivial (fun m _ _ => ?_) (fun m i _ hlt _ hw => ?_)
  · exact pk_le n n (fun _ => cn_ch161 G h H) (fun z => absurd z (by omega))
  · refine pk_le n i (fun z => absurd z (by omega)) (fun _ => ⟨pk_in i 8 (by omega), nm_e (br_t rfl (cn_ch81 G N ?_))⟩)
    rw [nI_1]
    exact hw () trivial
theorem cn_chains {post : St2 → Prop} (G : cn_G n pr A B lo hi) (H : ∀ (h w : Int32) (a3 a4 a5 a6 a7 a8 a9 a10 a11 a12 : Nat → Int32), post ((nI n), pr, (nI (cn_c hi n)), pr, h, w, A, B, a3, a4, a5, a6, a7, a8, a9, a10, a11, a12, a13, a14, a15, a16, a17, a18, a19, a20)) : wpX_solveByChains post ((nI n), pr, g, b, h, w, A, B, a3, a4, a5, a6, a7, a8, a9, a10, a11, a12, a13, a14, a15, a16, a17, a18, a19, a20) := by
  have h8 := (cn_le8 G).2
  unfold wpX_solveByChains
  refine cn_walkAll G (fun c3 c4 c5 c6 c7 c8 c9 N => ?_)
  refine pk_loop (fun m i s => wX_solveByChains_19 post (nI n) pr (nI (cn_c hi n)) pr 0 (nI (cn_w lo hi n)) m (nI i) A B c3 c4 c5 c6 c7 c8 c9 s a11 a12 a13 a14 a15 a16 a17 a18 a19 a20) (fun _ _ => True) n 0 a10 (by omega) trivial (fun m s _ => ?_) (fun m i s hlt _ hw => ?_)
  · exact pk_le n n (fun _ => cn_ch44 G N (fun h => H _ _ _ _ _ _ _ _ _ _ _ _)) (fun z => absurd z (by omega))
  · exact pk_le n i (fun z => absurd z (by omega)) (fun _ => ⟨pk_in i 8 (by omega), nm_e (nm_r (nI_1 i) (hw _ trivial))⟩)
end
end
section
section
variable {n lo hi : Nat} {pr : Int32} {A B : Nat → Int32} {g b h w : Int32} {a3 a4 a5 a6 a7 a8 a9 a10 a11 a12 a13 a14 a15 a16 a17 a18 : Nat → Int32} {a19 : Nat → Int64} {a20 : Nat → Int32}
theorem cn_rootP {post : Int32 → Prop} {p : Nat} (hp : p < 8) (h11 : a11 p = nI p) (H : post (nI p)) : wpX_rootOfPoint post ((nI n), pr, g, b, h, w, A, B, a3, a4, a5, a6, a7, a8, a9, a10, a11, a12, a13, a14, a15, a16, a17, a18, a19, a20) (nI p) := by
  unfold wpX_rootOfPoint
  exact ⟨1, pk_in p 8 hp, br_t (by rw [nI_clamp (show p < 2 ^ 31 by omega), h11]) H⟩
theorem cn_rootL {post : Int32 → Prop} {p : Nat} (hp : p < 16) (h12 : a12 p = nI p) (H : post (nI p)) : wpX_rootOfLine post ((nI n), pr, g, b, h, w, A, B, a3, a4, a5, a6, a7, a8, a9, a10, a11, a12, a13, a14, a15, a16, a17, a18, a19, a20) (nI p) := by
  unfold wpX_rootOfLine
  exact ⟨1, pk_in p 16 hp, br_t (by rw [nI_clamp (show p < 2 ^ 31 by omega), h12]) H⟩
theorem cn_blocks {post : Int32 → Prop} {p : Int32} (G : cn_G n pr A B lo hi) (h12 : ∀ k, k < 16 → a12 k = nI k) (H : ∀ r, post r) : wpX_blocksAt post ((nI n), pr, g, b, h, w, A, B, a3, a4, a5, a6, a7, a8, a9, a10, a11, a12, a13, a14, a15, a16, a17, a18, a19, a20) p := by
  unfold wpX_blocksAt
  refine pk_loop (fun m i (s : Int32 × Int32) => wX_blocksAt_7 post p (nI n) pr g b h w A B a3 a4 a5 a6 a7 a8 a9 a10 a11 a12 a13 a14 a15 a16 a17 a18 a19 a20 m s.1 s.2 (nI i)) (fun _ _ => True) 16 0 (0, 0) (by omega) trivial (fun m s _ => ?_) (fun m i s hlt _ hw => ?_)
  · exact pk_le 16 16 (fun _ => H s.2) (fun z => absurd z (by omega))
  · refine pk_le 16 i (fun z => absurd z (by omega)) (fun _ => cn_touch G hlt (fun _ _ _ => br_f (by decide) (cn_rootL hlt (h12 i hlt) ?_)) (fun _ => br_t rfl (nm_r (nI_1 i) (hw _ trivial))))
    exact br_c (fun _ => nm_e (nm_e (nm_r (nI_1 i) (hw (_, _) trivial)))) (fun _ => nm_e (nm_e (nm_r (nI_1 i) (hw (_, _) trivial))))
theorem cn_cv166 {post : St2 → Prop} (G : cn_G n pr A B lo hi) (h12 : ∀ k, k < 16 → a12 k = nI k) (h0 : Int32) (H : ∀ h, post ((nI n), pr, g, b, h, w, A, B, a3, a4, a5, a6, a7, a8, a9, a10, a11, a12, a13, a14, a15, a16, a17, a18, a19, a20)) : ∃ fu, wX_solveByCovers_166 post (nI n) pr g b w A B a3 a4 a5 a6 a7 a8 a9 a10 a11 a12 a13 a14 a15 a16 a17 a18 a19 a20 fu 0 h0 := by
  have h8 := (cn_le8 G).2
  exact pk_loop (fun m i (s : Int32) => wX_solveByCovers_166 post (nI n) pr g b w A B a3 a4 a5 a6 a7 a8 a9 a10 a11 a12 a13 a14 a15 a16 a17 a18 a19 a20 m (nI i) s) (fun _ _ => True) n 0 h0 (by omega) trivial
    (fun m s _ => pk_le n n (fun _ => H s) (fun z => absurd z (by omega)))
    (fun m i s hlt _ hw => pk_le n i (fun z => absurd z (by omega)) (fun _ => cn_blocks G h12 (fun r => br_c (fun _ => nm_e (nm_r (nI_1 i) (hw _ trivial))) (fun _ => nm_e (nm_r (nI_1 i) (hw _ trivial))))))
theorem cn_cv125 {post : St2 → Prop} (G : cn_G n pr A B lo hi) (h12 : ∀ k, k < 16 → a12 k = nI k) (H : ∀ h, post ((nI n), pr, g, b, h, w, A, B, a3, a4, a5, a6, a7, a8, a9, a10, a11, a12, a13, a14, a15, a16, a17, a18, a19, a20)) : ∃ fu, wX_solveByCovers_125 post pr fu 0 (nI n) pr g b h w A B a3 a4 a5 a6 a7 a8 a9 a10 a11 a12 a13 a14 a15 a16 a17 a18 a19 a20 := by
  have h8 := (cn_le8 G).2
  refine pk_loop (σ := Unit) (fun m i _ => wX_solveByCovers_125 post pr m (nI i) (nI n) pr g b h w A B a3 a4 a5 a6 a7 a8 a9 a10 a11 a12 a13 a14 a15 a16 a17 a18 a19 a20) (fun _ _ => True) 16 0 () (by omega) trivial (fun m _ _ => ?_) (fun m i _ hlt _ hw => ?_)
  · exact pk_le 16 16 (fun _ => cn_cv166 G h12 0 H) (fun z => absurd z (by omega))
  · refine pk_le 16 i (fun z => absurd z (by omega)) (fun _ => cn_has G hlt (fun e hn => br_f (by decide) (br_f ?_ (nm_r (nI_1 i) (hw () trivial)))) (fun _ => br_t rfl (nm_r (nI_1 i) (hw () trivial))))
    rw [e, cn_pr G, if_pos hn]
    exact cn_b10
theorem cn_cv36 {post : St2 → Prop} (G : cn_G n pr A B lo hi) (H : ∀ (h w : Int32) (a11 a12 : Nat → Int32), post ((nI n), pr, (nI (cn_c hi n)), pr, h, w, A, B, a3, a4, a5, a6, a7, a8, a9, a10, a11, a12, a13, a14, a15, a16, a17, a18, a19, a20)) :
    ∀ (j k : Nat) (a11 a12 : Nat → Int32), k + j = 16 → (∀ q, q < k → a12 q = nI q) → (k = 0 → ∀ q, q < n → a11 q = nI q) →
    wX_solveByCovers_36 post (nI n) pr b h w (j + 1) (if 0 < k then pr else 0) (nI k) (nI (if 0 < k then cn_c hi n else n)) A B a3 a4 a5 a6 a7 a8 a9 a10 a11 a12 a13 a14 a15 a16 a17 a18 a19 a20 := by
  have h8 := (cn_le8 G).2
  intro j
  induction j with
  | zero =>
    intro k a11 a12 e h12 h11
    have e' : k = 16 := by omega
    subst e'
    exact pk_le 16 16 (fun _ => cn_cv125 G h12 (fun h => H _ _ _ _)) (fun z => absurd z (by omega))
  | succ j ih =>
    intro k a11 a12 e h12 h11
    have ck : (nI k).toNatClampNeg = k := nI_clamp (by omega)
    have h12' : ∀ q, q < k + 1 → upd a12 k (nI k) q = nI q := by
      intro q hq
      by_cases z : q = k
      · rw [z, pk_us]
      · rw [pk_un z]
        exact h12 q (by omega)
    refine pk_le 16 k (fun z => absurd z (by omega)) (fun _ => ⟨pk_in k 16 (by omega), nm_r (e' := upd a12 k (nI k)) (by rw [ck, cn_by k (by omega)]) ?_⟩)
    refine cn_has G (by omega) (fun e0 hn => br_f (by decide) ⟨pk_in k 16 (by omega), ?_⟩) (fun e0 => br_t rfl (nm_r (nI_1 k) ?_))
    · subst e0
      have hl := cn_lh G hn
      have hne : ¬ (nI lo : Int32) = nI hi := fun z => absurd ((nI_eq (by omega) (by omega)).mp z) (by omega)
      have t := fun c11 => ih 1 c11 (upd a12 0 (nI 0)) (by omega) h12' (fun z => absurd z (by omega))
      rw [if_pos (by omega), if_pos (by omega)] at t
      have et : (0 : Int32) ||| ((1 : Int32) <<< (nI 0 &&& 31)) = pr := by
        rw [cn_pr G, if_pos hn]
        decide
      have ec : nI n - 1 = nI (cn_c hi n) := by
        have e1 : cn_c hi n = n - 1 := by unfold cn_c; rw [if_pos hn]
        have e2 : n = (n - 1) + 1 := by omega
        rw [e1]
        conv => lhs; rw [e2]
        exact nI_pred (n - 1)
      rw [ck, if_neg (by omega), if_neg (by omega)]
      rcases cn_ends G hn with ⟨ea, eb⟩ | ⟨ea, eb⟩
      · rw [ea, eb]
        refine cn_rootP (by omega) (h11 rfl lo (by omega)) ⟨pk_in 0 16 (by omega), cn_rootP (by omega) (h11 rfl hi (by omega)) (br_f hne ⟨pk_in lo 8 (by omega), nm_e (nm_r et (nm_r ec (nm_r (e' := nI 1) (by decide) (t _))))⟩)⟩
      · rw [ea, eb]
        refine cn_rootP (by omega) (h11 rfl hi (by omega)) ⟨pk_in 0 16 (by omega), cn_rootP (by omega) (h11 rfl lo (by omega)) (br_f (fun z => hne z.symm) ⟨pk_in hi 8 (by omega), nm_e (nm_r et (nm_r ec (nm_r (e' := nI 1) (by decide) (t _))))⟩)⟩
    · have t := ih (k + 1) a11 (upd a12 k (nI k)) (by omega) h12' (fun z => absurd z (by omega))
      rw [if_pos (by omega), if_pos (by omega)] at t
      by_cases z : 0 < k
      · rw [if_pos z, if_pos z]
        exact t
      · have hn := e0 (by omega)
        have e9 := cn_no G hn
        have ep : pr = 0 := by rw [cn_pr G, if_neg hn]
        have ec : cn_c hi n = n := by unfold cn_c; rw [if_neg (by omega)]
        rw [if_neg z, if_neg z]
        rw [ec] at t
        subst ep
        exact t
theorem cn_covers {post : St2 → Prop} (G : cn_G n pr A B lo hi) (H : ∀ (h w : Int32) (a3 a4 a5 a6 a7 a8 a9 a10 a11 a12 : Nat → Int32), post ((nI n), pr, (nI (cn_c hi n)), pr, h, w, A, B, a3, a4, a5, a6, a7, a8, a9, a10, a11, a12, a13, a14, a15, a16, a17, a18, a19, a20)) : wpX_solveByCovers post ((nI n), pr, g, b, h, w, A, B, a3, a4, a5, a6, a7, a8, a9, a10, a11, a12, a13, a14, a15, a16, a17, a18, a19, a20) := by
  have h8 := (cn_le8 G).2
  unfold wpX_solveByCovers
  refine pk_loop (fun m i s => wX_solveByCovers_12 post 0 (nI n) pr (nI n) b h w m (nI i) A B a3 a4 a5 a6 a7 a8 a9 a10 s a12 a13 a14 a15 a16 a17 a18 a19 a20) (fun i s => ∀ q, q < i → s q = nI q) n 0 a11 (by omega) (fun q z => absurd z (by omega)) (fun m s hs => ?_) (fun m i s hlt hs hw => ?_)
  · refine pk_le n n (fun _ => ⟨16 + 1, ?_⟩) (fun z => absurd z (by omega))
    exact cn_cv36 G (fun h w c11 c12 => H _ _ _ _ _ _ _ _ _ _ _ _) 16 0 s a12 (by omega) (fun q z => absurd z (by omega)) (fun _ => hs)
  · refine pk_le n i (fun z => absurd z (by omega)) (fun _ => ⟨pk_in i 8 (by omega), nm_r (e' := upd s i (nI i)) (by rw [nI_clamp (show i < 2 ^ 31 by omega), cn_by i (by omega)]) (nm_r (nI_1 i) (hw _ (fun q hq => ?_)))⟩)
    by_cases e : q = i
    · rw [e, pk_us]
    · rw [pk_un e]
      exact hs q (by omega)
theorem cn_solve {post : St2 → Prop} {x : Int32} (G : cn_G n pr A B lo hi) (H : ∀ (h w : Int32) (a3 a4 a5 a6 a7 a8 a9 a10 a11 a12 : Nat → Int32), post ((nI n), pr, (nI (cn_c hi n)), pr, h, w, A, B, a3, a4, a5, a6, a7, a8, a9, a10, a11, a12, a13, a14, a15, a16, a17, a18, a19, a20)) : wpX_solve post ((nI n), pr, g, b, h, w, A, B, a3, a4, a5, a6, a7, a8, a9, a10, a11, a12, a13, a14, a15, a16, a17, a18, a19, a20) x := by
  unfold wpX_solve
  exact br_c (fun _ => cn_lowest G H) (fun _ => br_c (fun _ => cn_chains G H) (fun _ => cn_covers G H))
end
end
section
theorem cn_32 (x : Int32) : 3 ≤ x ↔ 2 < x := by
  rw [Int32.le_iff_toInt_le, Int32.lt_iff_toInt_lt, show (3 : Int32).toInt = 3 by decide, show (2 : Int32).toInt = 2 by decide]
  omega
theorem cn_engine {post : Int32 → Prop} {u : St0} {x : Int32} (H0 : (x < 0 ∨ 2 < x) → post 0) (H1 : ¬ (x < 0 ∨ 2 < x) → post 1) : wpX_isEngine post u x := by
  unfold wpX_isEngine
  exact br_c (fun z => H0 (Or.inl z)) (fun z => br_c (fun y => H0 (Or.inr ((cn_32 x).mp y))) (fun y => H1 (fun t => t.elim z (fun t => y ((cn_32 x).mpr t)))))
section
variable {n lo hi : Nat} {pr : Int32} {A B : Nat → Int32} {g b h w : Int32} {a3 a4 a5 a6 a7 a8 a9 a10 a11 a12 a13 a14 a15 a16 a17 a18 : Nat → Int32} {a19 : Nat → Int64} {a20 : Nat → Int32}
theorem cn_point {post : Int32 → Prop} {x : Int32} (H0 : (x < 0 ∨ nI n ≤ x) → post 0) (H1 : ¬ (x < 0 ∨ nI n ≤ x) → post 1) : wpX_isPoint post ((nI n), pr, g, b, h, w, A, B, a3, a4, a5, a6, a7, a8, a9, a10, a11, a12, a13, a14, a15, a16, a17, a18, a19, a20) x := by
  unfold wpX_isPoint
  exact br_c (fun z => H0 (Or.inl z)) (fun z => br_c (fun y => H0 (Or.inr y)) (fun y => H1 (fun t => t.elim z y)))
theorem cn_groups {post : Int32 → St2 → Prop} {x : Int32} (G : cn_G n pr A B lo hi) (H : ∀ (g b h w : Int32) (a3 a4 a5 a6 a7 a8 a9 a10 a11 a12 : Nat → Int32), post (if x < 0 ∨ 2 < x then -1 else nI (cn_c hi n)) ((nI n), pr, g, b, h, w, A, B, a3, a4, a5, a6, a7, a8, a9, a10, a11, a12, a13, a14, a15, a16, a17, a18, a19, a20)) : wpX_groups post ((nI n), pr, g, b, h, w, A, B, a3, a4, a5, a6, a7, a8, a9, a10, a11, a12, a13, a14, a15, a16, a17, a18, a19, a20) x := by
  unfold wpX_groups
  refine cn_engine (fun z => br_t rfl ?_) (fun z => br_f (by decide) (cn_solve G (fun h w a3 a4 a5 a6 a7 a8 a9 a10 a11 a12 => ?_)))
  · rw [if_pos z] at H
    exact H _ _ _ _ _ _ _ _ _ _ _ _ _ _
  · rw [if_neg z] at H
    exact H _ _ _ _ _ _ _ _ _ _ _ _ _ _
theorem cn_bridges {post : Int32 → St2 → Prop} {x : Int32} (G : cn_G n pr A B lo hi) (H : ∀ (g b h w : Int32) (a3 a4 a5 a6 a7 a8 a9 a10 a11 a12 : Nat → Int32), post (if x < 0 ∨ 2 < x then -1 else pr) ((nI n), pr, g, b, h, w, A, B, a3, a4, a5, a6, a7, a8, a9, a10, a11, a12, a13, a14, a15, a16, a17, a18, a19, a20)) : wpX_bridges post ((nI n), pr, g, b, h, w, A, B, a3, a4, a5, a6, a7, a8, a9, a10, a11, a12, a13, a14, a15, a16, a17, a18, a19, a20) x := by
  unfold wpX_bridges
  refine cn_engine (fun z => br_t rfl ?_) (fun z => br_f (by decide) (cn_solve G (fun h w a3 a4 a5 a6 a7 a8 a9 a10 a11 a12 => ?_)))
  · rw [if_pos z] at H
    exact H _ _ _ _ _ _ _ _ _ _ _ _ _ _
  · rw [if_neg z] at H
    exact H _ _ _ _ _ _ _ _ _ _ _ _ _ _
theorem cn_spread {post : Int32 → Prop} {x : Int32} (G : cn_G n pr A B lo hi) (H : post ((1 : Int32) <<< (x &&& 31))) : wpX_spread post ((nI n), pr, g, b, h, w, A, B, a3, a4, a5, a6, a7, a8, a9, a10, a11, a12, a13, a14, a15, a16, a17, a18, a19, a20) x 0 := by
  have h8 := (cn_le8 G).2
  unfold wpX_spread
  refine nm_e ?_
  refine pk_loop (σ := Unit) (fun m i _ => wX_spread_7 post 0 (nI n) pr g b h w A B a3 a4 a5 a6 a7 a8 a9 a10 a11 a12 a13 a14 a15 a16 a17 a18 a19 a20 m ((1 : Int32) <<< (x &&& 31)) (nI i)) (fun _ _ => True) n 0 () (by omega) trivial (fun m _ _ => pk_le n n (fun _ => H) (fun z => absurd z (by omega))) (fun m i _ hlt _ hw => pk_le n i (fun z => absurd z (by omega)) (fun _ => ?_))
  refine pk_loop (σ := Unit) (fun r k _ => wX_spread_19 post (wX_spread_7 post 0 (nI n) pr g b h w A B a3 a4 a5 a6 a7 a8 a9 a10 a11 a12 a13 a14 a15 a16 a17 a18 a19 a20 m) 0 (nI i) (nI n) pr g b h w A B a3 a4 a5 a6 a7 a8 a9 a10 a11 a12 a13 a14 a15 a16 a17 a18 a19 a20 r ((1 : Int32) <<< (x &&& 31)) (nI k)) (fun _ _ => True) 16 0 () (by omega) trivial (fun r _ _ => pk_le 16 16 (fun _ => nm_r (nI_1 i) (hw () trivial)) (fun z => absurd z (by omega))) (fun r k _ hk _ hv => ?_)
  exact pk_le 16 k (fun z => absurd z (by omega)) (fun _ => ⟨pk_in k 16 hk, pk_in k 16 hk, nm_e (br_t (cn_b0 k hk) (nm_r Int32.or_zero (nm_r (nI_1 k) (hv () trivial))))⟩)
theorem cn_island {post : Int32 → St2 → Prop} {x : Int32} (G : cn_G n pr A B lo hi) (H : ∀ (g b h w : Int32) (a3 a4 a5 a6 a7 a8 a9 a10 a11 a12 : Nat → Int32), post (if x < 0 ∨ nI n ≤ x then -1 else (1 : Int32) <<< (x &&& 31)) ((nI n), pr, g, b, h, w, A, B, a3, a4, a5, a6, a7, a8, a9, a10, a11, a12, a13, a14, a15, a16, a17, a18, a19, a20)) : wpX_island post ((nI n), pr, g, b, h, w, A, B, a3, a4, a5, a6, a7, a8, a9, a10, a11, a12, a13, a14, a15, a16, a17, a18, a19, a20) x := by
  unfold wpX_island
  refine cn_point (fun z => br_t rfl ?_) (fun z => br_f (by decide) (cn_solve G (fun h w a3 a4 a5 a6 a7 a8 a9 a10 a11 a12 => ?_)))
  · rw [if_pos z] at H
    exact H _ _ _ _ _ _ _ _ _ _ _ _ _ _
  · rw [if_neg z] at H
    have e : pr &&& (pr ^^^ (-1)) = 0 := by
      rw [cn_pr G]
      split <;> decide
    dsimp only
    rw [e]
    exact cn_spread G (H _ _ _ _ _ _ _ _ _ _ _ _ _ _)
theorem cn_add {post : Int32 → St2 → Prop} {x y : Int32} (h1 : 1 ≤ n) (h8 : n ≤ 8) (H0 : (x < 0 ∨ nI n ≤ x ∨ y < 0 ∨ nI n ≤ y ∨ x = y) → post (-1) ((nI n), 0, g, b, h, w, A, B, a3, a4, a5, a6, a7, a8, a9, a10, a11, a12, a13, a14, a15, a16, a17, a18, a19, a20))
    (H1 : ∀ a c : Nat, a < n → c < n → a ≠ c → x = nI a → y = nI c → post 0 ((nI n), 1, g, b, h, w, (upd A 0 (nI a)), (upd B 0 (nI c)), a3, a4, a5, a6, a7, a8, a9, a10, a11, a12, a13, a14, a15, a16, a17, a18, a19, a20)) : wpX_add post ((nI n), 0, g, b, h, w, A, B, a3, a4, a5, a6, a7, a8, a9, a10, a11, a12, a13, a14, a15, a16, a17, a18, a19, a20) x y := by
  unfold wpX_add
  refine cn_point (fun z => br_t rfl (H0 (z.elim Or.inl (fun t => Or.inr (Or.inl t))))) (fun z => br_f (by decide) ?_)
  refine cn_point (fun z => br_t rfl (H0 (Or.inr (Or.inr (z.elim Or.inl (fun t => Or.inr (Or.inl t))))))) (fun z' => br_f (by decide) ?_)
  refine br_c (fun e => H0 (Or.inr (Or.inr (Or.inr (Or.inr e))))) (fun e => ?_)
  obtain ⟨a, ha, ea⟩ : ∃ a : Nat, a < n ∧ x = nI a := by
    rcases pk_ix x (n := n) (by omega) with t | t | t
    · exact absurd (Or.inl t) z
    · exact absurd (Or.inr t) z
    · exact t
  obtain ⟨c, hc, ec⟩ : ∃ c : Nat, c < n ∧ y = nI c := by
    rcases pk_ix y (n := n) (by omega) with t | t | t
    · exact absurd (Or.inl t) z'
    · exact absurd (Or.inr t) z'
    · exact t
  have hac : a ≠ c := fun t => e (by rw [ea, ec, t])
  have G : cn_G n 0 A B 9 9 := ⟨h1, h8, Or.inl ⟨rfl, rfl, rfl⟩⟩
  have t := H1 a c ha hc hac ea ec
  subst ea ec
  refine ⟨1, pk_le 16 0 (fun z => absurd z (by omega)) (fun _ => cn_has (k := 0) G (by omega) (fun _ z => absurd z (by omega)) (fun _ => br_t rfl (nm_r (e' := 1) (by decide) ⟨pk_in 0 16 (by omega), nm_r (e' := upd A 0 (nI a)) (by rw [cn_by a (by omega)]; rfl) ⟨pk_in 0 16 (by omega), nm_r (e' := upd B 0 (nI c)) (by rw [cn_by c (by omega)]; rfl) t⟩⟩)))⟩
end
end
section
/-- the distances from p (not hi) after m rounds' lines -/
def cn_D (n lo hi p m : Nat) (s : Nat → Int32) : Prop := ∀ q, q < n → s q = if q = p then 0 else if q = hi ∧ p = lo ∧ 0 < m then 1 else 1000
theorem cn_Dm {n lo hi p m m' : Nat} {s : Nat → Int32} (D : cn_D n lo hi p m s) (h : ¬ hi < n ∨ (0 < m ∧ 0 < m')) : cn_D n lo hi p m' s := by
  intro q hq
  rw [D q hq]
  by_cases e : q = p
  · rw [if_pos e, if_pos e]
  · rw [if_neg e, if_neg e]
    rcases h with h | ⟨h, h'⟩
    · rw [if_neg (by omega), if_neg (by omega)]
    · by_cases z : q = hi ∧ p = lo
      · rw [if_pos ⟨z.1, z.2, h⟩, if_pos ⟨z.1, z.2, h'⟩]
      · rw [if_neg (by omega), if_neg (by omega)]
theorem cn_Df {n lo hi p m : Nat} {s s' : Nat → Int32} (D : cn_D n lo hi p m s) (hh : p ≠ hi) (ho : ∀ q, q ≠ lo → q ≠ hi → s' q = s q) (hl : s' lo = if p = lo then 0 else 1000) (hx : s' hi = if p = lo then 1 else 1000) : cn_D n lo hi p (m + 1) s' := by
  intro q hq
  by_cases e1 : q = lo
  · subst e1
    rw [hl]
    by_cases e : p = q
    · rw [if_pos e, if_pos e.symm]
    · rw [if_neg e, if_neg (fun z => e z.symm), if_neg (fun z => e z.2.1)]
  · by_cases e2 : q = hi
    · subst e2
      rw [hx, if_neg (show ¬ q = p from fun z => hh z.symm)]
      by_cases e : p = lo
      · rw [if_pos e, if_pos ⟨rfl, e, by omega⟩]
      · rw [if_neg e, if_neg (fun z => e z.2.1)]
    · rw [ho q e1 e2, D q hq]
      by_cases e : q = p
      · rw [if_pos e, if_pos e]
      · rw [if_neg e, if_neg e, if_neg (fun z => e2 z.1), if_neg (fun z => e2 z.1)]
theorem cn_Dr {n lo hi p m a c : Nat} {s : Nat → Int32} {x y z : Int32} (D : cn_D n lo hi p m s) (hh : p ≠ hi) (hn : hi < n) (hl : lo < hi) (hac : (a = lo ∧ c = hi) ∨ (a = hi ∧ c = lo)) (ex : s a = x) (ey : s c = y) (ez : z = if x ≤ y + 1 then x else y + 1) :
    cn_D n lo hi p (m + 1) (upd (upd s a z) c (if y ≤ z + 1 then y else z + 1)) := by
  have dl := D lo (by omega)
  have dh := D hi hn
  rw [if_neg (fun t => hh t.symm)] at dh
  have hne : lo ≠ hi := by omega
  have ho : ∀ q, q ≠ lo → q ≠ hi → (upd (upd s a z) c (if y ≤ z + 1 then y else z + 1)) q = s q := by
    intro q q1 q2
    rw [pk_un (by omega), pk_un (by omega)]
  refine cn_Df D hh ho ?_ ?_
  all_goals
    by_cases e : p = lo
    · rw [if_pos e]
      rw [if_pos e.symm] at dl
      by_cases hm : 0 < m
      · rw [if_pos ⟨rfl, e, hm⟩] at dh
        rcases hac with ⟨rfl, rfl⟩ | ⟨rfl, rfl⟩
        · have e0 : x = 0 := by rw [← ex, dl]
          have e1 : y = 1 := by rw [← ey, dh]
          subst e0 e1
          have e2 : z = 0 := by rw [ez]; decide
          subst e2
          first
            | (rw [pk_un hne, pk_us])
            | (rw [pk_us]; decide)
        · have e0 : x = 1 := by rw [← ex, dh]
          have e1 : y = 0 := by rw [← ey, dl]
          subst e0 e1
          have e2 : z = 1 := by rw [ez]; decide
          subst e2
          first
            | (rw [pk_un (fun t => hne t.symm), pk_us])
            | (rw [pk_us]; decide)
      · rw [if_neg (fun t => hm t.2.2)] at dh
        rcases hac with ⟨rfl, rfl⟩ | ⟨rfl, rfl⟩
        · have e0 : x = 0 := by rw [← ex, dl]
          have e1 : y = 1000 := by rw [← ey, dh]
          subst e0 e1
          have e2 : z = 0 := by rw [ez]; decide
          subst e2
          first
            | (rw [pk_un hne, pk_us])
            | (rw [pk_us]; decide)
        · have e0 : x = 1000 := by rw [← ex, dh]
          have e1 : y = 0 := by rw [← ey, dl]
          subst e0 e1
          have e2 : z = 1 := by rw [ez]; decide
          subst e2
          first
            | (rw [pk_un (fun t => hne t.symm), pk_us])
            | (rw [pk_us]; decide)
    · rw [if_neg e]
      rw [if_neg (fun t => e t.symm), if_neg (fun t => e t.2.1)] at dl
      rw [if_neg (fun t => e t.2.1)] at dh
      have e0 : x = 1000 := by rcases hac with ⟨rfl, rfl⟩ | ⟨rfl, rfl⟩ <;> (rw [← ex]; assumption)
      have e1 : y = 1000 := by rcases hac with ⟨rfl, rfl⟩ | ⟨rfl, rfl⟩ <;> (rw [← ey]; assumption)
      subst e0 e1
      have e2 : z = 1000 := by rw [ez]; decide
      subst e2
      rcases hac with ⟨rfl, rfl⟩ | ⟨rfl, rfl⟩
      · first
          | (rw [pk_un hne, pk_us])
          | (rw [pk_us]; decide)
      · first
          | (rw [pk_un (fun t => hne t.symm), pk_us])
          | (rw [pk_us]; decide)
section
variable {n lo hi : Nat} {pr : Int32} {A B : Nat → Int32} {g b h w : Int32} {a3 a4 a5 a6 a7 a8 a9 a10 a11 a12 a13 a14 a15 a16 a17 a18 : Nat → Int32} {a19 : Nat → Int64} {a20 : Nat → Int32}
theorem cn_131 {post : St2 → Prop} {J J' : Int32 → (Nat → Int32) → (Nat → Int32) → (Nat → Int32) → (Nat → Int32) → (Nat → Int32) → (Nat → Int32) → (Nat → Int32) → (Nat → Int32) → (Nat → Int32) → (Nat → Int32) → (Nat → Int32) → (Nat → Int32) → (Nat → Int32) → (Nat → Int32) → (Nat → Int32) → (Nat → Int32) → (Nat → Int32) → (Nat → Int32) → (Nat → Int64) → (Nat → Int32) → Prop}
    {x2 x3 z y : Int32} {k a c : Nat} (ha : a < 8) (hc : c < 8) (hac : c ≠ a) (hy : a20 c = y) (H : J' (nI (k + 1)) A B a3 a4 a5 a6 a7 a8 a9 a10 a11 a12 a13 a14 a15 a16 a17 a18 a19 (upd (upd a20 a z) c (if y ≤ z + 1 then y else z + 1))) : wX_measure_131 post J J' x2 x3 (nI k) (nI a) (nI c) z (nI a) (nI n) pr g b h w A B a3 a4 a5 a6 a7 a8 a9 a10 a11 a12 a13 a14 a15 a16 a17 a18 a19 a20 := by
  have ca : (nI a).toNatClampNeg = a := nI_clamp (by omega)
  have cc : (nI c).toNatClampNeg = c := nI_clamp (by omega)
  unfold wX_measure_131
  refine ⟨pk_in a 8 ha, nm_r (e' := upd a20 a z) (by rw [ca]) ⟨pk_in a 8 ha, pk_in c 8 hc, ?_⟩⟩
  rw [ca, cc, pk_us, pk_un hac, hy]
  by_cases t : y ≤ z + 1
  · rw [if_pos t] at H
    exact br_t t ⟨pk_in c 8 hc, pk_in c 8 hc, nm_e (nm_r (nI_1 k) H)⟩
  · rw [if_neg t] at H
    exact br_f t ⟨pk_in a 8 ha, pk_in c 8 hc, nm_e (nm_r (nI_1 k) H)⟩
theorem cn_m47 {post : St2 → Prop} {J : Int32 → (Nat → Int32) → (Nat → Int32) → (Nat → Int32) → (Nat → Int32) → (Nat → Int32) → (Nat → Int32) → (Nat → Int32) → (Nat → Int32) → (Nat → Int32) → (Nat → Int32) → (Nat → Int32) → (Nat → Int32) → (Nat → Int32) → (Nat → Int32) → (Nat → Int32) → (Nat → Int32) → (Nat → Int32) → (Nat → Int32) → (Nat → Int64) → (Nat → Int32) → Prop}
    {r p : Nat} (G : cn_G n pr A B lo hi) (hh : p ≠ hi) (D : cn_D n lo hi p r a20) (H : ∀ s, cn_D n lo hi p (r + 1) s → J (nI (r + 1)) A B a3 a4 a5 a6 a7 a8 a9 a10 a11 a12 a13 a14 a15 a16 a17 a18 a19 s) : ∃ fu, wX_measure_47 post J (-1) (nI r) (nI n) pr g b h w fu 0 A B a3 a4 a5 a6 a7 a8 a9 a10 a11 a12 a13 a14 a15 a16 a17 a18 a19 a20 := by
  have h8 := (cn_le8 G).2
  refine pk_loop (fun m k s => wX_measure_47 post J (-1) (nI r) (nI n) pr g b h w m (nI k) A B a3 a4 a5 a6 a7 a8 a9 a10 a11 a12 a13 a14 a15 a16 a17 a18 a19 s) (fun k s => cn_D n lo hi p (r + k) s) 16 0 a20 (by omega) D (fun m s D' => ?_) (fun m k s hk D' hw => ?_)
  · exact pk_le 16 16 (fun _ => nm_r (nI_1 r) (H s (cn_Dm D' (Or.inr (by omega))))) (fun z => absurd z (by omega))
  · refine pk_le 16 k (fun z => absurd z (by omega)) (fun _ => cn_has G hk (fun e hn => br_f (by decide) (br_f ?_ ?_)) (fun e => br_t rfl (nm_r (nI_1 k) (hw s (cn_Dm D' ?_)))))
    · rw [e]
      decide
    · subst e
      have hl := cn_lh G hn
      have c0 : (nI 0).toNatClampNeg = 0 := nI_clamp (by omega)
      obtain ⟨a, c, hac, ea, eb⟩ : ∃ a c : Nat, ((a = lo ∧ c = hi) ∨ (a = hi ∧ c = lo)) ∧ A 0 = nI a ∧ B 0 = nI c := by
        rcases cn_ends G hn with ⟨ea, eb⟩ | ⟨ea, eb⟩
        · exact ⟨lo, hi, Or.inl ⟨rfl, rfl⟩, ea, eb⟩
        · exact ⟨hi, lo, Or.inr ⟨rfl, rfl⟩, ea, eb⟩
      have ha : a < 8 := by omega
      have hc : c < 8 := by omega
      have ca : (nI a).toNatClampNeg = a := nI_clamp (by omega)
      have cc : (nI c).toNatClampNeg = c := nI_clamp (by omega)
      have fin : ∀ z : Int32, (z = if s a ≤ s c + 1 then s a else s c + 1) → wX_measure_131 post J (wX_measure_47 post J (-1) (nI r) (nI n) pr g b h w m) (-1) (nI r) (nI 0) (nI a) (nI c) z (nI a) (nI n) pr g b h w A B a3 a4 a5 a6 a7 a8 a9 a10 a11 a12 a13 a14 a15 a16 a17 a18 a19 s := fun z ez => cn_131 ha hc (by omega) rfl (hw _ (cn_Dr D' hh hn hl hac rfl rfl ez))
      refine ⟨pk_in 0 16 (by omega), nm_r (e' := nI a) (by rw [c0, ea]) ⟨pk_in 0 16 (by omega), nm_r (e' := nI c) (by rw [c0, eb]) ⟨pk_in c 8 hc, pk_in a 8 ha, ?_⟩⟩⟩
      rw [ca, cc]
      exact br_c (fun t => ⟨pk_in a 8 ha, fin _ (by rw [if_pos t])⟩) (fun t => ⟨pk_in c 8 hc, fin _ (by rw [if_neg t])⟩)
    · by_cases z : k = 0
      · exact Or.inl (e z)
      · exact Or.inr (by omega)
theorem cn_measure {post : St2 → Prop} {p : Nat} (G : cn_G n pr A B lo hi) (hp : p < n) (hh : p ≠ hi) (H : ∀ s, cn_D n lo hi p 1 s → post ((nI n), pr, g, b, h, w, A, B, a3, a4, a5, a6, a7, a8, a9, a10, a11, a12, a13, a14, a15, a16, a17, a18, a19, s)) : wpX_measure post ((nI n), pr, g, b, h, w, A, B, a3, a4, a5, a6, a7, a8, a9, a10, a11, a12, a13, a14, a15, a16, a17, a18, a19, a20) (nI p) (-1) := by
  have h8 := (cn_le8 G).2
  unfold wpX_measure
  refine pk_loop (fun m i s => wX_measure_2 post (nI p) (-1) (nI n) pr g b h w m (nI i) A B a3 a4 a5 a6 a7 a8 a9 a10 a11 a12 a13 a14 a15 a16 a17 a18 a19 s) (fun i s => ∀ q, q < i → s q = if q = p then 0 else 1000) n 0 a20 (by omega) (fun q z => absurd z (by omega)) (fun m s hs => ?_) (fun m i s hlt hs hw => ?_)
  · refine pk_le n n (fun _ => ?_) (fun z => absurd z (by omega))
    refine pk_loop (fun m i s => wX_measure_36 post (-1) (nI n) pr g b h w m (nI i) A B a3 a4 a5 a6 a7 a8 a9 a10 a11 a12 a13 a14 a15 a16 a17 a18 a19 s) (fun i s => cn_D n lo hi p i s) n 0 s (by omega) (fun q hq => ?_) (fun m s D => ?_) (fun m i s hlt D hw => ?_)
    · rw [hs q hq]
      by_cases e : q = p
      · rw [if_pos e, if_pos e]
      · rw [if_neg e, if_neg e, if_neg (by omega)]
    · exact pk_le n n (fun _ => H s (cn_Dm D (Or.inr (by omega)))) (fun z => absurd z (by omega))
    · exact pk_le n i (fun z => absurd z (by omega)) (fun _ => cn_m47 G hh D (fun s D' => hw s D'))
  · have ci : (nI i).toNatClampNeg = i := nI_clamp (by omega)
    refine pk_le n i (fun z => absurd z (by omega)) (fun _ => pk_eq i p (fun e => ⟨pk_in i 8 (by omega), nm_e (nm_r (nI_1 i) (hw _ (fun q hq => ?_)))⟩) (fun e => ⟨pk_in i 8 (by omega), nm_e (nm_r (nI_1 i) (hw _ (fun q hq => ?_)))⟩))
    · rw [ci]
      by_cases z : q = i
      · rw [z, pk_us, if_pos e]
      · rw [pk_un z]
        exact hs q (by omega)
    · rw [ci]
      by_cases z : q = i
      · rw [z, pk_us, if_neg e]
      · rw [pk_un z]
        exact hs q (by omega)
end
end
section
/-! the masks: seen before start i, on the side before start i -/
def cn_sn (lo hi i : Nat) : Int32 := (((1 : Int32) <<< (nI i &&& 31)) - 1) ||| (if lo < i then (1 : Int32) <<< (nI hi &&& 31) else 0)
def cn_sd (hi i : Nat) : Int32 := (((1 : Int32) <<< (nI i &&& 31)) - 1) &&& (((1 : Int32) <<< (nI hi &&& 31)) ^^^ (-1))
theorem cn_t1 : ∀ i, i < 8 → ∀ hi, hi < 10 → ∀ lo, lo < 10 → (i = hi ∧ lo < i) → ¬ ((cn_sn lo hi i >>> (nI i &&& 31)) &&& 1) = 0 := by decide +kernel
theorem cn_t2 : ∀ i, i < 8 → ∀ hi, hi < 10 → ∀ lo, lo < 10 → ¬ (i = hi ∧ lo < i) → ((cn_sn lo hi i >>> (nI i &&& 31)) &&& 1) = 0 := by decide +kernel
theorem cn_t3 : ∀ i, i < 8 → ∀ lo, lo < 10 → lo < i → cn_sn lo i (i + 1) = cn_sn lo i i ∧ cn_sd i (i + 1) = cn_sd i i := by decide +kernel
theorem cn_t4 : ∀ i, i < 8 → ∀ hi, hi < 10 → ∀ lo, lo < 10 → cn_sn lo hi i ||| (((1 : Int32) <<< (nI i &&& 31)) ||| (if i = lo then (1 : Int32) <<< (nI hi &&& 31) else 0)) = cn_sn lo hi (i + 1) := by decide +kernel
theorem cn_t5 : ∀ i, i < 8 → ∀ hi, hi < 10 → i ≠ hi → cn_sd hi i ||| ((1 : Int32) <<< (nI i &&& 31)) = cn_sd hi (i + 1) := by decide +kernel
theorem cn_t6 : ∀ n, n < 9 → ∀ hi, hi < n → ∀ lo, lo < hi → ¬ (cn_sd hi n >>> (nI lo &&& 31)) &&& 1 = (cn_sd hi n >>> (nI hi &&& 31)) &&& 1 := by decide +kernel
theorem cn_t7 : ∀ n, n < 9 → cn_sd 9 n = ((1 : Int32) <<< (nI n &&& 31)) - 1 := by decide +kernel
theorem cn_s0 (lo hi : Nat) : cn_sn lo hi 0 = 0 := by
  unfold cn_sn
  rw [if_neg (by omega)]
  decide
theorem cn_z0 : ∀ hi, hi < 10 → cn_sd hi 0 = 0 := by decide +kernel
/-- what one start adds to the mask of the seen, up to point q -/
def cn_M (lo hi p q : Nat) (P Q : Int32) : Int32 := (if p < q then P else 0) ||| (if p = lo ∧ hi < q then Q else 0)
theorem cn_M1 {lo hi p : Nat} {P Q : Int32} (h : p = lo → p < hi) : cn_M lo hi p p P Q ||| P = cn_M lo hi p (p + 1) P Q := by
  unfold cn_M
  rw [if_neg (by omega), if_neg (by omega), if_pos (by omega), if_neg (by omega), Int32.or_zero, Int32.or_zero, Int32.zero_or]
theorem cn_M2 {lo hi : Nat} {P Q : Int32} (h : lo < hi) : cn_M lo hi lo hi P Q ||| Q = cn_M lo hi lo (hi + 1) P Q := by
  unfold cn_M
  rw [if_pos h, if_neg (by omega), if_pos (by omega), if_pos ⟨rfl, by omega⟩, Int32.or_zero]
theorem cn_M3 {lo hi p q : Nat} {P Q : Int32} (h1 : q ≠ p) (h2 : ¬ (q = hi ∧ p = lo)) : cn_M lo hi p q P Q ||| 0 = cn_M lo hi p (q + 1) P Q := by
  unfold cn_M
  rw [Int32.or_zero]
  have e1 : (if p < q then P else 0) = if p < q + 1 then P else 0 := by
    by_cases z : p < q
    · rw [if_pos z, if_pos (by omega)]
    · rw [if_neg z, if_neg (by omega)]
  have e2 : (if p = lo ∧ hi < q then Q else 0) = if p = lo ∧ hi < q + 1 then Q else 0 := by
    by_cases z : p = lo ∧ hi < q
    · rw [if_pos z, if_pos (by omega)]
    · rw [if_neg z, if_neg (by omega)]
  rw [e1, e2]
def cn_E (p q : Nat) (P : Int32) : Int32 := if p < q then P else 0
theorem cn_E1 {p : Nat} {P : Int32} : cn_E p p P ||| P = cn_E p (p + 1) P := by
  unfold cn_E
  rw [if_neg (by omega), if_pos (by omega), Int32.zero_or]
theorem cn_E2 {p q : Nat} {P : Int32} (h : q ≠ p) : cn_E p q P ||| 0 = cn_E p (q + 1) P := by
  unfold cn_E
  rw [Int32.or_zero]
  by_cases z : p < q
  · rw [if_pos z, if_pos (by omega)]
  · rw [if_neg z, if_neg (by omega)]
theorem cn_or (s m z m' : Int32) (h : m ||| z = m') : s ||| m ||| z = s ||| m' := by
  rw [Int32.or_assoc, h]
section
variable {n lo hi : Nat} {pr : Int32} {A B : Nat → Int32} {g b h w : Int32} {a3 a4 a5 a6 a7 a8 a9 a10 a11 a12 a13 a14 a15 a16 a17 a18 : Nat → Int32} {a19 : Nat → Int64} {a20 : Nat → Int32}
theorem cn_sd31 {post : Int32 → St2 → Prop} {J : Int32 → Int32 → Int32 → Int32 → Int32 → Int32 → Int32 → Int32 → Int32 → (Nat → Int32) → (Nat → Int32) → (Nat → Int32) → (Nat → Int32) → (Nat → Int32) → (Nat → Int32) → (Nat → Int32) → (Nat → Int32) → (Nat → Int32) → (Nat → Int32) → (Nat → Int32) → (Nat → Int32) → (Nat → Int32) → (Nat → Int32) → (Nat → Int32) → (Nat → Int32) → (Nat → Int32) → (Nat → Int32) → (Nat → Int64) → (Nat → Int32) → Prop}
    {p : Nat} {s0 d0 : Int32} (G : cn_G n pr A B lo hi) (hp : p < n) (hh : p ≠ hi) (D : cn_D n lo hi p 1 a20)
    (H : J (s0 ||| cn_M lo hi p n ((1 : Int32) <<< (nI p &&& 31)) ((1 : Int32) <<< (nI hi &&& 31))) (d0 ||| cn_E p n ((1 : Int32) <<< (nI p &&& 31))) (nI (p + 1)) (nI n) pr g b h w A B a3 a4 a5 a6 a7 a8 a9 a10 a11 a12 a13 a14 a15 a16 a17 a18 a19 a20) : ∃ fu, wX_sides_31 post J (nI p) (nI n) pr g b h w A B a3 a4 a5 a6 a7 a8 a9 a10 a11 a12 a13 a14 a15 a16 a17 a18 a19 a20 fu s0 d0 0 := by
  have h8 := (cn_le8 G).2
  have hlp : p = lo → p < hi := fun e => by
    by_cases z : hi < n
    · have := cn_lh G z
      omega
    · omega
  have e0 : s0 ||| cn_M lo hi p 0 ((1 : Int32) <<< (nI p &&& 31)) ((1 : Int32) <<< (nI hi &&& 31)) = s0 := by
    unfold cn_M
    rw [if_neg (by omega), if_neg (by omega), Int32.or_zero, Int32.or_zero]
  have e1 : d0 ||| cn_E p 0 ((1 : Int32) <<< (nI p &&& 31)) = d0 := by
    unfold cn_E
    rw [if_neg (by omega), Int32.or_zero]
  have t := pk_loop (σ := Unit) (fun m q _ => wX_sides_31 post J (nI p) (nI n) pr g b h w A B a3 a4 a5 a6 a7 a8 a9 a10 a11 a12 a13 a14 a15 a16 a17 a18 a19 a20 m (s0 ||| cn_M lo hi p q ((1 : Int32) <<< (nI p &&& 31)) ((1 : Int32) <<< (nI hi &&& 31))) (d0 ||| cn_E p q ((1 : Int32) <<< (nI p &&& 31))) (nI q)) (fun _ _ => True) n 0 () (by omega) trivial
    (fun m _ _ => pk_le n n (fun _ => nm_r (nI_1 p) H) (fun z => absurd z (by omega)))
    (fun m q _ hq _ hw => ?_)
  · rw [e0, e1] at t
    exact t
  · have cq : (nI q).toNatClampNeg = q := nI_clamp (by omega)
    have hw' := hw () trivial
    have dq := D q hq
    refine pk_le n q (fun z => absurd z (by omega)) (fun _ => ⟨pk_in q 8 (by omega), ?_⟩)
    by_cases c1 : q = p
    · subst c1
      rw [if_pos rfl] at dq
      refine br_f (by rw [cq, dq]; decide) (nm_r (cn_or _ _ _ _ (cn_M1 hlp)) ⟨pk_in q 8 (by omega), br_f (by rw [cq, dq]; decide) ⟨pk_in q 8 (by omega), by decide, br_t (by rw [cq, dq]; decide) (nm_r (cn_or _ _ _ _ cn_E1) (nm_r (nI_1 q) hw'))⟩⟩)
    · rw [if_neg c1] at dq
      by_cases c2 : q = hi ∧ p = lo
      · obtain ⟨rfl, rfl⟩ := c2
        rw [if_pos ⟨rfl, rfl, by omega⟩] at dq
        refine br_f (by rw [cq, dq]; decide) (nm_r (cn_or _ _ _ _ (cn_M2 (hlp rfl))) ⟨pk_in q 8 (by omega), br_f (by rw [cq, dq]; decide) ⟨pk_in q 8 (by omega), by decide, br_f (by rw [cq, dq]; decide) (nm_r (cn_or _ _ _ _ (cn_E2 c1)) (nm_r (nI_1 q) hw'))⟩⟩)
      · rw [if_neg (fun z => c2 ⟨z.1, z.2.1⟩)] at dq
        refine br_t (by rw [cq, dq]; decide) (nm_r (cn_or _ _ _ _ (cn_M3 c1 c2)) ⟨pk_in q 8 (by omega), br_t (by rw [cq, dq]; decide) (nm_r (cn_or _ _ _ _ (cn_E2 c1)) (nm_r (nI_1 q) hw'))⟩)
theorem cn_sd114 {post : Int32 → St2 → Prop} (G : cn_G n pr A B lo hi) (H : post (cn_sd hi n) ((nI n), pr, g, b, h, w, A, B, a3, a4, a5, a6, a7, a8, a9, a10, a11, a12, a13, a14, a15, a16, a17, a18, a19, a20)) : ∃ fu, wX_sides_114 post (cn_sd hi n) (nI n) pr g b h w A B a3 a4 a5 a6 a7 a8 a9 a10 a11 a12 a13 a14 a15 a16 a17 a18 a19 a20 fu 0 := by
  have h8 := (cn_le8 G).2
  refine pk_loop (σ := Unit) (fun m k _ => wX_sides_114 post (cn_sd hi n) (nI n) pr g b h w A B a3 a4 a5 a6 a7 a8 a9 a10 a11 a12 a13 a14 a15 a16 a17 a18 a19 a20 m (nI k)) (fun _ _ => True) 16 0 () (by omega) trivial (fun m _ _ => pk_le 16 16 (fun _ => H) (fun z => absurd z (by omega))) (fun m k _ hk _ hw => ?_)
  refine pk_le 16 k (fun z => absurd z (by omega)) (fun _ => cn_has G hk (fun e hn => br_f (by decide) ⟨pk_in k 16 hk, pk_in k 16 hk, br_f ?_ (nm_r (nI_1 k) (hw () trivial))⟩) (fun _ => br_t rfl (nm_r (nI_1 k) (hw () trivial))))
  rw [e, nI_clamp (show 0 < 2 ^ 31 by decide)]
  have hl := cn_lh G hn
  have t := cn_t6 n (by omega) hi hn lo hl
  rcases cn_ends G hn with ⟨ea, eb⟩ | ⟨ea, eb⟩
  · rw [ea, eb]
    exact t
  · rw [ea, eb]
    exact fun z => t z.symm
theorem cn_sides {post : Int32 → St2 → Prop} (G : cn_G n pr A B lo hi) (H : ∀ a20, post (cn_sd hi n) ((nI n), pr, g, b, h, w, A, B, a3, a4, a5, a6, a7, a8, a9, a10, a11, a12, a13, a14, a15, a16, a17, a18, a19, a20)) : wpX_sides post ((nI n), pr, g, b, h, w, A, B, a3, a4, a5, a6, a7, a8, a9, a10, a11, a12, a13, a14, a15, a16, a17, a18, a19, a20) := by
  have h8 := (cn_le8 G).2
  have hhi : hi < 10 := by
    by_cases z : hi < n
    · omega
    · have := cn_no G z
      omega
  have hlo : lo < 10 := by
    by_cases z : hi < n
    · have := cn_lh G z
      omega
    · have := cn_no G z
      omega
  unfold wpX_sides
  have t := pk_loop (fun m i s => wX_sides_6 post m (cn_sn lo hi i) (cn_sd hi i) (nI i) (nI n) pr g b h w A B a3 a4 a5 a6 a7 a8 a9 a10 a11 a12 a13 a14 a15 a16 a17 a18 a19 s) (fun _ _ => True) n 0 a20 (by omega) trivial (fun m s _ => pk_le n n (fun _ => cn_sd114 G (H s)) (fun z => absurd z (by omega))) (fun m i s hlt _ hw => ?_)
  · rw [cn_s0, cn_z0 hi hhi] at t
    exact t
  · refine pk_le n i (fun z => absurd z (by omega)) (fun _ => ?_)
    by_cases c : i = hi ∧ lo < i
    · have t3 := cn_t3 i (by omega) lo hlo c.2
      have t := hw s trivial
      obtain ⟨rfl, c2⟩ := c
      rw [t3.1, t3.2] at t
      exact br_f (cn_t1 i (by omega) i hhi lo hlo ⟨rfl, c2⟩) (nm_r (nI_1 i) t)
    · have hne : i ≠ hi := by
        intro e
        by_cases z : hi < n
        · have := cn_lh G z
          omega
        · omega
      refine br_t (cn_t2 i (by omega) hi hhi lo hlo c) (cn_measure G hlt hne (fun s' D => cn_sd31 G hlt hne D ?_))
      have eM : cn_sn lo hi i ||| cn_M lo hi i n ((1 : Int32) <<< (nI i &&& 31)) ((1 : Int32) <<< (nI hi &&& 31)) = cn_sn lo hi (i + 1) := by
        rw [← cn_t4 i (by omega) hi hhi lo hlo]
        unfold cn_M
        rw [if_pos hlt]
        by_cases z : i = lo
        · have zn : hi < n := by
            by_cases y : hi < n
            · exact y
            · have := cn_no G y
              omega
          rw [if_pos z, if_pos ⟨z, zn⟩]
        · rw [if_neg z, if_neg (fun y => z y.1)]
      have eE : cn_sd hi i ||| cn_E i n ((1 : Int32) <<< (nI i &&& 31)) = cn_sd hi (i + 1) := by
        rw [← cn_t5 i (by omega) hi hhi hne]
        unfold cn_E
        rw [if_pos hlt]
      rw [eM, eE]
      exact hw s' trivial
end
end
section
section
variable {n lo hi : Nat} {pr : Int32} {A B : Nat → Int32} {post : Int32 → St0 → Prop} {mc ms kc ks : Nat} {x1 x2 x3 x4 x6 x7 x8 x9 x10 x11 x12 x14 x15 x16 z0 z1 : Int32}
theorem cn_276 (H : post 1 ()) (e : z1 = z0) : wL_lawOf_276 post mc ms z0 z1 kc ks := by
  unfold wL_lawOf_276
  exact br_t e H
theorem cn_244 (H : post 1 ()) (G : cn_G n pr A B lo hi) (e : z1 = z0) (e11 : x11 = cn_sd hi n) (e16 : hi < n → x16 = nI hi) : wL_lawOf_244 post mc ms x11 (nI n) pr x16 z0 z1 kc ks := by
  have h8 := (cn_le8 G).2
  have hp := cn_pr G
  unfold wL_lawOf_244
  refine br_t e (br_c (fun z => cn_276 H ?_) (fun z => cn_276 H ?_))
  · have hn : ¬ hi < n := fun y => by
      rw [if_pos y, z] at hp
      exact absurd hp (by decide)
    have e9 := (cn_no G hn).2
    rw [e11, e9]
    exact cn_t7 n (by omega)
  · have hn : hi < n := by
      by_cases y : hi < n
      · exact y
      · rw [if_neg y] at hp
        exact absurd hp z
    rw [e11, e16 hn]
    rfl
theorem cn_219 (H : post 1 ()) (G : cn_G n pr A B lo hi) (e : z1 = z0) (e10 : x10 = if x4 < 0 ∨ nI n ≤ x4 then -1 else (1 : Int32) <<< (x4 &&& 31)) (e11 : x11 = cn_sd hi n) (e16 : hi < n → x16 = nI hi) : wL_lawOf_219 post mc ms x4 x10 x11 (nI n) pr x16 z0 z1 kc ks := by
  unfold wL_lawOf_219 wL_lawOf_243
  refine br_t e (br_c (fun z => cn_244 H G ?_ e11 e16) (fun z => br_c (fun y => cn_244 H G ?_ e11 e16) (fun y => cn_244 H G ?_ e11 e16)))
  · rw [e10, if_pos (Or.inl z)]
  · rw [e10, if_pos (Or.inr y)]
  · rw [e10, if_neg (fun t => t.elim z y)]
theorem cn_195 (H : post 1 ()) (G : cn_G n pr A B lo hi) (e : z1 = z0) (e9 : x9 = if x15 = 0 then -1 else pr) (e10 : x10 = if x4 < 0 ∨ nI n ≤ x4 then -1 else (1 : Int32) <<< (x4 &&& 31)) (e11 : x11 = cn_sd hi n) (e16 : hi < n → x16 = nI hi) : wL_lawOf_195 post mc ms x4 x9 x10 x11 (nI n) pr x15 x16 z0 z1 kc ks := by
  have hp := cn_pr G
  unfold wL_lawOf_195
  refine br_t e (br_c (fun z => cn_219 H G ?_ e10 e11 e16) (fun z => br_c (fun y => cn_219 H G ?_ e10 e11 e16) (fun y => cn_219 H G ?_ e10 e11 e16)))
  · rw [e9, if_pos z]
  · rw [e9, if_neg z, y]
  · rw [e9, if_neg z]
    by_cases t : hi < n
    · rw [hp, if_pos t]
    · rw [if_neg t] at hp
      exact absurd hp y
theorem cn_167 (H : post 1 ()) (G : cn_G n pr A B lo hi) (e : z1 = z0) (e8 : x8 = if x15 = 0 then -1 else nI (cn_c hi n)) (e9 : x9 = if x15 = 0 then -1 else pr) (e10 : x10 = if x4 < 0 ∨ nI n ≤ x4 then -1 else (1 : Int32) <<< (x4 &&& 31)) (e11 : x11 = cn_sd hi n) (e16 : hi < n → x16 = nI hi) : wL_lawOf_167 post mc ms x4 x8 x9 x10 x11 (nI n) pr x15 x16 z0 z1 kc ks := by
  have hp := cn_pr G
  have h1 := (cn_le8 G).1
  unfold wL_lawOf_167
  refine br_t e (br_c (fun z => cn_195 H G ?_ e9 e10 e11 e16) (fun z => br_c (fun y => cn_195 H G ?_ e9 e10 e11 e16) (fun y => cn_195 H G ?_ e9 e10 e11 e16)))
  · rw [e8, if_pos z]
  · have hn : ¬ hi < n := fun t => by
      rw [if_pos t, y] at hp
      exact absurd hp (by decide)
    have e9 := cn_no G hn
    rw [e8, if_neg z, show cn_c hi n = n from by unfold cn_c; rw [if_neg hn]]
  · have hn : hi < n := by
      by_cases t : hi < n
      · exact t
      · rw [if_neg t] at hp
        exact absurd hp y
    have e1 : cn_c hi n = n - 1 := by unfold cn_c; rw [if_pos hn]
    rw [e8, if_neg z, e1]
    exact (pk_sub (a := n) (b := 1) (by omega)).symm
theorem cn_134 (H : post 1 ()) (G : cn_G n pr A B lo hi) (e6 : x6 = x12) (e7 : x7 = if hi < n then 0 else -1) (e8 : x8 = if x15 = 0 then -1 else nI (cn_c hi n)) (e9 : x9 = if x15 = 0 then -1 else pr) (e10 : x10 = if x4 < 0 ∨ nI n ≤ x4 then -1 else (1 : Int32) <<< (x4 &&& 31)) (e11 : x11 = cn_sd hi n)
    (em : hi < n → (x1 = nI lo ∧ x2 = nI hi) ∨ (x1 = nI hi ∧ x2 = nI lo)) : wL_lawOf_134 post mc ms x1 x2 x4 x6 x7 x8 x9 x10 x11 x12 (nI n) pr x15 kc ks := by
  have hp := cn_pr G
  have h8 := (cn_le8 G).2
  have k146 : ∀ x16 : Int32, (hi < n → x16 = nI hi) → wL_lawOf_146 post mc ms x4 x6 x7 x8 x9 x10 x11 x12 (nI n) pr x15 x16 kc ks := by
    intro x16 e16
    unfold wL_lawOf_146
    refine br_t e6 (br_c (fun y => cn_167 H G ?_ e8 e9 e10 e11 e16) (fun y => cn_167 H G ?_ e8 e9 e10 e11 e16))
    · have hn : ¬ hi < n := fun t => by
        rw [if_pos t, y] at hp
        exact absurd hp (by decide)
      rw [e7, if_neg hn]
    · have hn : hi < n := by
        by_cases t : hi < n
        · exact t
        · rw [if_neg t] at hp
          exact absurd hp y
      rw [e7, if_pos hn]
  unfold wL_lawOf_134
  refine br_c (fun y => k146 _ (fun hn => ?_)) (fun y => k146 _ (fun hn => ?_))
  · have hl := cn_lh G hn
    rcases em hn with ⟨m1, m2⟩ | ⟨m1, m2⟩
    · exact m2
    · rw [m1, m2] at y
      exact absurd y (nI_ge hl (by omega))
  · have hl := cn_lh G hn
    rcases em hn with ⟨m1, m2⟩ | ⟨m1, m2⟩
    · rw [m1, m2] at y
      exact absurd (nI_le (by omega) (by omega)) y
    · exact m1
theorem cn_118 (H : post 1 ()) (G : cn_G n pr A B lo hi) (e6 : x6 = x12) (e7 : x7 = if hi < n then 0 else -1) (e8 : x8 = if x3 < 0 ∨ 2 < x3 then -1 else nI (cn_c hi n)) (e9 : x9 = if x3 < 0 ∨ 2 < x3 then -1 else pr) (e10 : x10 = if x4 < 0 ∨ nI n ≤ x4 then -1 else (1 : Int32) <<< (x4 &&& 31)) (e11 : x11 = cn_sd hi n)
    (em : hi < n → (x1 = nI lo ∧ x2 = nI hi) ∨ (x1 = nI hi ∧ x2 = nI lo)) : wL_lawOf_118 post mc ms x1 x2 x3 x4 x6 x7 x8 x9 x10 x11 x12 (nI n) pr kc ks := by
  unfold wL_lawOf_118 wL_lawOf_133
  refine br_c (fun y => cn_134 H G e6 e7 ?_ ?_ e10 e11 em) (fun y => br_c (fun t => cn_134 H G e6 e7 ?_ ?_ e10 e11 em) (fun t => cn_134 H G e6 e7 ?_ ?_ e10 e11 em))
  · rw [e8, if_pos (Or.inl y), if_pos rfl]
  · rw [e9, if_pos (Or.inl y), if_pos rfl]
  · rw [e8, if_pos (Or.inr t), if_pos rfl]
  · rw [e9, if_pos (Or.inr t), if_pos rfl]
  · rw [e8, if_neg (fun v => v.elim y t), if_neg (by decide)]
  · rw [e9, if_neg (fun v => v.elim y t), if_neg (by decide)]
theorem cn_86 (H : post 1 ()) (G : cn_G n pr A B lo hi) (e6 : x6 = x12) (e7 : x7 = if hi < n then 0 else -1) (e8 : x8 = if x3 < 0 ∨ 2 < x3 then -1 else nI (cn_c hi n)) (e9 : x9 = if x3 < 0 ∨ 2 < x3 then -1 else pr) (e10 : x10 = if x4 < 0 ∨ nI n ≤ x4 then -1 else (1 : Int32) <<< (x4 &&& 31)) (e11 : x11 = cn_sd hi n)
    (em : hi < n → (x1 = nI lo ∧ x2 = nI hi) ∨ (x1 = nI hi ∧ x2 = nI lo)) (en : ¬ hi < n → (x1 < 0 ∨ nI n ≤ x1 ∨ x2 < 0 ∨ nI n ≤ x2 ∨ x1 = x2)) : wL_lawOf_86 post mc ms x1 x2 x3 x4 x6 x7 x8 x9 x10 x11 x12 (nI n) kc ks := by
  have hp := cn_pr G
  have h8 := (cn_le8 G).2
  have t := cn_118 (mc := mc) (ms := ms) (kc := kc) (ks := ks) H G e6 e7 e8 e9 e10 e11 em
  unfold wL_lawOf_86 wL_lawOf_117
  by_cases hn : hi < n
  · rw [if_pos hn] at hp
    have hl := cn_lh G hn
    rw [hp] at t
    have no : ¬ (x1 < 0 ∨ nI n ≤ x1 ∨ x2 < 0 ∨ nI n ≤ x2 ∨ x1 = x2) := by
      rcases em hn with ⟨m1, m2⟩ | ⟨m1, m2⟩
      · rw [m1, m2]
        rintro (v | v | v | v | v)
        · exact nI_pos (by omega) v
        · exact nI_ge (by omega) (by omega) v
        · exact nI_pos (by omega) v
        · exact nI_ge (by omega) (by omega) v
        · exact absurd ((nI_eq (by omega) (by omega)).mp v) (by omega)
      · rw [m1, m2]
        rintro (v | v | v | v | v)
        · exact nI_pos (by omega) v
        · exact nI_ge (by omega) (by omega) v
        · exact nI_pos (by omega) v
        · exact nI_ge (by omega) (by omega) v
        · exact absurd ((nI_eq (by omega) (by omega)).mp v) (by omega)
    exact br_f (fun v => no (Or.inl v)) (br_f (fun v => no (Or.inr (Or.inl v))) (br_f (fun v => no (Or.inr (Or.inr (Or.inl v)))) (br_f (fun v => no (Or.inr (Or.inr (Or.inr (Or.inl v))))) (br_f (fun v => no (Or.inr (Or.inr (Or.inr (Or.inr v))))) t))))
  · rw [if_neg hn] at hp
    rw [hp] at t
    refine br_c (fun _ => t) (fun v1 => br_c (fun _ => t) (fun v2 => br_c (fun _ => t) (fun v3 => br_c (fun _ => t) (fun v4 => br_c (fun _ => t) (fun v5 => ?_)))))
    rcases en hn with v | v | v | v | v
    · exact absurd v v1
    · exact absurd v v2
    · exact absurd v v3
    · exact absurd v v4
    · exact absurd v v5
end
end
section
theorem cn_G1 {n a c : Nat} {A B : Nat → Int32} (h8 : n ≤ 8) (ha : a < n) (hc : c < n) (hac : a ≠ c) : ∃ lo hi, cn_G n 1 (upd A 0 (nI a)) (upd B 0 (nI c)) lo hi ∧ hi < n ∧ ((nI a = nI lo ∧ nI c = nI hi) ∨ (nI a = nI hi ∧ nI c = nI lo)) := by
  rcases Nat.lt_or_gt_of_ne hac with z | z
  · exact ⟨a, c, ⟨by omega, h8, Or.inr ⟨rfl, z, hc, Or.inl ⟨pk_us, pk_us⟩⟩⟩, hc, Or.inl ⟨rfl, rfl⟩⟩
  · exact ⟨c, a, ⟨by omega, h8, Or.inr ⟨rfl, z, ha, Or.inr ⟨pk_us, pk_us⟩⟩⟩, ha, Or.inr ⟨rfl, rfl⟩⟩
theorem cn_n18 {x : Int32} (h1 : ¬ x < 1) (h8 : x ≤ 8) : ∃ n : Nat, 1 ≤ n ∧ n ≤ 8 ∧ x = nI n := by
  have h0 : ¬ x < 0 := by
    rw [Int32.lt_iff_toInt_lt, show (0 : Int32).toInt = 0 by decide]
    rw [Int32.lt_iff_toInt_lt, show (1 : Int32).toInt = 1 by decide] at h1
    omega
  obtain ⟨j, hj, e⟩ := nI_of2 (n := 8) (by decide) h0 h8
  refine ⟨j, ?_, hj, e⟩
  rcases Nat.eq_zero_or_pos j with z | z
  · rw [e, z] at h1
    exact absurd (by decide) h1
  · exact z
theorem cn_law (p0 p1 p2 p3 p4 : Int32) : wpL_lawOf (fun r _ => r = 1) 21 571 () p0 p1 p2 p3 p4 := by
  unfold wpL_lawOf
  refine ⟨by decide, by decide, 20, 545, by decide, by decide, ?_⟩
  unfold wpX_init
  refine ⟨by decide, by decide, by decide, by decide, by decide, by decide, by decide, by decide, by decide, by decide, by decide, by decide, by decide, by decide, by decide, by decide, by decide, by decide, by decide, by decide, by decide, by decide, by decide, by decide, by decide, by decide, by decide, by decide, by decide, by decide, by decide, by decide, by decide, by decide, by decide, by decide, by decide, by decide, by decide, by decide, ?_⟩
  refine br_c (fun z => ?_) (fun z => br_c (fun y => ?_) (fun y => ?_))
  · refine cn_add (n := 1) (by omega) (by omega) (fun no => ?_) (fun a c ha hc hac ea ec => ?_)
    · have G : cn_G 1 0 (fun _ => 0) (fun _ => 0) 9 9 := ⟨by omega, by omega, Or.inl ⟨rfl, rfl, rfl⟩⟩
      have n9 : ¬ 9 < 1 := by omega
      refine cn_groups G (fun g b h w a3 a4 a5 a6 a7 a8 a9 a10 a11 a12 => cn_bridges G (fun g b h w a3 a4 a5 a6 a7 a8 a9 a10 a11 a12 => cn_island G (fun g b h w a3 a4 a5 a6 a7 a8 a9 a10 a11 a12 => cn_sides G (fun a20 => ?_))))
      exact br_t z (br_t rfl (cn_86 rfl G rfl (by rw [if_neg n9]) rfl rfl rfl rfl (fun z => absurd z n9) (fun _ => no)))
    · obtain ⟨lo, hi, G, hn, em⟩ := cn_G1 (A := fun _ => 0) (B := fun _ => 0) (n := 1) (by omega) ha hc hac
      refine cn_groups G (fun g b h w a3 a4 a5 a6 a7 a8 a9 a10 a11 a12 => cn_bridges G (fun g b h w a3 a4 a5 a6 a7 a8 a9 a10 a11 a12 => cn_island G (fun g b h w a3 a4 a5 a6 a7 a8 a9 a10 a11 a12 => cn_sides G (fun a20 => ?_))))
      exact br_t z (br_t rfl (cn_86 rfl G rfl (by rw [if_pos hn]) rfl rfl rfl rfl (fun _ => by rw [ea, ec]; exact em) (fun z => absurd hn z)))
  · obtain ⟨n, n1, n8, rfl⟩ := cn_n18 z y
    have y' : ¬ 8 < nI n := fun t => Int32.not_le.mpr t y
    refine cn_add (n := n) (by omega) (by omega) (fun no => ?_) (fun a c ha hc hac ea ec => ?_)
    · have G : cn_G n 0 (fun _ => 0) (fun _ => 0) 9 9 := ⟨by omega, by omega, Or.inl ⟨rfl, rfl, rfl⟩⟩
      have n9 : ¬ 9 < n := by omega
      refine cn_groups G (fun g b h w a3 a4 a5 a6 a7 a8 a9 a10 a11 a12 => cn_bridges G (fun g b h w a3 a4 a5 a6 a7 a8 a9 a10 a11 a12 => cn_island G (fun g b h w a3 a4 a5 a6 a7 a8 a9 a10 a11 a12 => cn_sides G (fun a20 => ?_))))
      exact br_f z (br_f y' (br_f (by decide) (cn_86 rfl G rfl (by rw [if_neg n9]) rfl rfl rfl rfl (fun z => absurd z n9) (fun _ => no))))
    · obtain ⟨lo, hi, G, hn, em⟩ := cn_G1 (A := fun _ => 0) (B := fun _ => 0) (n := n) (by omega) ha hc hac
      refine cn_groups G (fun g b h w a3 a4 a5 a6 a7 a8 a9 a10 a11 a12 => cn_bridges G (fun g b h w a3 a4 a5 a6 a7 a8 a9 a10 a11 a12 => cn_island G (fun g b h w a3 a4 a5 a6 a7 a8 a9 a10 a11 a12 => cn_sides G (fun a20 => ?_))))
      exact br_f z (br_f y' (br_f (by decide) (cn_86 rfl G rfl (by rw [if_pos hn]) rfl rfl rfl rfl (fun _ => by rw [ea, ec]; exact em) (fun z => absurd hn z))))
  · have y' : 8 < p0 := Int32.not_le.mp y
    refine cn_add (n := 1) (by omega) (by omega) (fun no => ?_) (fun a c ha hc hac ea ec => ?_)
    · have G : cn_G 1 0 (fun _ => 0) (fun _ => 0) 9 9 := ⟨by omega, by omega, Or.inl ⟨rfl, rfl, rfl⟩⟩
      have n9 : ¬ 9 < 1 := by omega
      refine cn_groups G (fun g b h w a3 a4 a5 a6 a7 a8 a9 a10 a11 a12 => cn_bridges G (fun g b h w a3 a4 a5 a6 a7 a8 a9 a10 a11 a12 => cn_island G (fun g b h w a3 a4 a5 a6 a7 a8 a9 a10 a11 a12 => cn_sides G (fun a20 => ?_))))
      exact br_f z (br_t y' (br_t rfl (cn_86 rfl G rfl (by rw [if_neg n9]) rfl rfl rfl rfl (fun z => absurd z n9) (fun _ => no))))
    · obtain ⟨lo, hi, G, hn, em⟩ := cn_G1 (A := fun _ => 0) (B := fun _ => 0) (n := 1) (by omega) ha hc hac
      refine cn_groups G (fun g b h w a3 a4 a5 a6 a7 a8 a9 a10 a11 a12 => cn_bridges G (fun g b h w a3 a4 a5 a6 a7 a8 a9 a10 a11 a12 => cn_island G (fun g b h w a3 a4 a5 a6 a7 a8 a9 a10 a11 a12 => cn_sides G (fun a20 => ?_))))
      exact br_f z (br_t y' (br_t rfl (cn_86 rfl G rfl (by rw [if_pos hn]) rfl rfl rfl rfl (fun _ => by rw [ea, ec]; exact em) (fun z => absurd hn z))))
theorem cn_cell {post : Int32 → Prop} {L : Nat} {xs : Nat → Int32} {u : St0} (k : Nat) (hk : k < 5) (hL : L ≤ 5) (H : ∀ r, post r) : wpL_cellAt post L xs u (nI k) := by
  unfold wpL_cellAt
  exact pk_le L k (fun _ => H _) (fun z => ⟨pk_in k L z, H _⟩)
theorem i_vc (xs : Nat → Int32) (L : Nat) (hL : L ≤ 5) : wpL_law (fun r => r = 1) L xs := by
  unfold wpL_law
  exact cn_cell 0 (by omega) hL (fun r1 => cn_cell 1 (by omega) hL (fun r2 => cn_cell 2 (by omega) hL (fun r3 => cn_cell 3 (by omega) hL (fun r4 => cn_cell 4 (by omega) hL (fun r5 => ⟨21, 571, by omega, by omega, cn_law r1 r2 r3 r4 r5⟩)))))
end
