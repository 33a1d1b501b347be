section
theorem zl_ne {n : Nat} (h : n < 2 ^ 31) : ¬ nI n = (-1 : Int32) := by
  intro q
  have a := nI_toInt h
  rw [q] at a
  have b : (-1 : Int32).toInt = -1 := by decide
  omega
theorem zl_ix (t i : Nat) : (4 : Int32) * nI t + nI i = nI (4 * t + i) := by
  rw [show (4 : Int32) = nI 4 from rfl, pk_mul, nI_add]
theorem zl_ixc (t i : Nat) (h : 4 * t + i < 2 ^ 31) : ((4 : Int32) * nI t + nI i).toNatClampNeg = 4 * t + i := by
  rw [zl_ix, nI_clamp h]
theorem zl_eqf {a b : Nat} (ha : a < 2 ^ 31) (hb : b < 2 ^ 31) (h : a ≠ b) : ¬ nI a = nI b := fun z => h ((nI_eq ha hb).mp z)
theorem zl_out {c st g qn : Int32} {a1 a2 a3 a4 a5 a6 a7 a8 a9 a10 a11 : Nat → Int32} {post : Int32 → Prop} {x m : Nat} (h : x ≤ m) (hm : m < 2 ^ 31) (hp : post 0) : wpX_out post (c, st, g, qn, a1, a2, a3, a4, a5, a6, a7, a8, a9, a10, a11) (nI x) (nI m) :=
  pk_lt x 0 (fun z => absurd z (by omega)) (fun _ => pk_le x m (fun _ => hp) (fun z => absurd z (by omega)))
theorem zl_bp48 {c st g qn : Int32} {a1 a2 a3 a4 a5 a6 a7 a8 a9 a10 a11 : Nat → Int32} {post : Int32 → Prop} {k x y : Nat} {z : Int32} (hk : k ≤ 8) (hx : x ≤ 3) (hy : y ≤ 3) (hp : post 0) : wX_badPart_48 post (nI k) (nI x) (nI y) z c st g qn a1 a2 a3 a4 a5 a6 a7 a8 a9 a10 a11 := by
  refine pk_eq k 11 (fun z => absurd z (by omega)) (fun _ => ?_)
  refine zl_out (m := 3) hx (by decide) (br_t rfl ?_)
  exact br_c (fun _ => hp) (fun _ => zl_out (m := 3) hy (by decide) (br_t rfl hp))
theorem zl_badPart {c st g qn : Int32} {a1 a2 a3 a4 a5 a6 a7 a8 a9 a10 a11 : Nat → Int32} {post : Int32 → Prop} {k x y : Nat} (hk : k ≤ 8) (hx : x ≤ 3) (hy : y ≤ 3) (hp : post 0) : wpX_badPart post (c, st, g, qn, a1, a2, a3, a4, a5, a6, a7, a8, a9, a10, a11) (nI k) (nI x) (nI y) := by
  unfold wpX_badPart
  dsimp only
  refine zl_out (m := 11) (by omega) (by decide) (br_t rfl ?_)
  refine pk_eq k 9 (fun z => absurd z (by omega)) (fun _ => pk_eq k 10 (fun z => absurd z (by omega)) (fun _ => ?_))
  refine pk_lt k 3 (fun _ => zl_bp48 hk hx hy hp) (fun _ => pk_lt 6 k (fun _ => zl_bp48 hk hx hy hp) (fun _ => zl_bp48 hk hx hy hp))
theorem zl_point {st g qn : Int32} {a1 a2 a3 a4 a5 a6 a7 a8 a9 a10 a11 : Nat → Int32} {post : Int32 → St2 → Prop} {n k x y : Nat} (hn : n < 24) (hk : k ≤ 8) (hx : x ≤ 3) (hy : y ≤ 3)
    (hp : ∀ v, post v (nI (n + 1), 0, g, qn, upd a1 n (nI k), upd a2 n (nI x), upd a3 n (nI y), a4, a5, a6, a7, a8, a9, a10, a11)) :
    wpX_point post (nI n, st, g, qn, a1, a2, a3, a4, a5, a6, a7, a8, a9, a10, a11) (nI k) (nI x) (nI y) := by
  unfold wpX_point
  dsimp only
  refine zl_badPart hk hx hy (br_t rfl (pk_eq n 24 (fun z => absurd z (by omega)) (fun _ => ?_)))
  unfold wpX_write
  dsimp only
  refine ⟨pk_in n 24 hn, nm_r (e' := upd a1 n (nI k)) (by rw [nI_clamp (by omega)]) ⟨pk_in n 24 hn, nm_r (e' := upd a2 n (nI x)) (by rw [nI_clamp (by omega)]) ⟨pk_in n 24 hn, nm_r (e' := upd a3 n (nI y)) (by rw [nI_clamp (by omega)]) ?_⟩⟩⟩
  exact nm_r (nI_1 n) (hp _)
theorem zl_badPoint {st g qn : Int32} {a1 a2 a3 a4 a5 a6 a7 a8 a9 a10 a11 : Nat → Int32} {post : Int32 → Prop} {p : Nat} (h : p < 4) (hp : post 0) : wpX_badPoint post (nI 4, st, g, qn, a1, a2, a3, a4, a5, a6, a7, a8, a9, a10, a11) (nI p) :=
  pk_lt p 0 (fun z => absurd z (by omega)) (fun _ => pk_lt p 4 (fun _ => hp) (fun z => absurd z (by omega)))
theorem zl_badRef {c st g qn : Int32} {a1 a2 a3 a4 a5 a6 a7 a8 a9 a10 a11 : Nat → Int32} {post : Int32 → Prop} {p : Nat} (h : p < 4) (hp : post 0) : wpX_badReference post (c, st, g, qn, a1, a2, a3, a4, a5, a6, a7, a8, a9, a10, a11) (nI p) :=
  pk_lt p 0 (fun z => absurd z (by omega)) (fun _ => pk_lt p 4 (fun _ => hp) (fun z => absurd z (by omega)))
theorem zl_behind0 {st g qn : Int32} {a1 a2 a3 a4 a5 a6 a7 a8 a9 a10 a11 : Nat → Int32} {post : Int32 → Prop} {p k : Nat} (h4 : p < 4) (hk : a1 p = nI k) (k8 : k ≤ 8)
    (h1 : p < 3 → post (nI (p + 1))) (h2 : p = 3 → post (-1)) : wpX_behind post (nI 4, st, g, qn, a1, a2, a3, a4, a5, a6, a7, a8, a9, a10, a11) (nI p) (nI 0) := by
  unfold wpX_behind
  dsimp only
  refine ⟨pk_in p 24 (by omega), nm_r (e' := nI k) (by rw [nI_clamp (by omega)]; exact hk) (nm_r (nI_1 p) (pk_eq k 11 (fun z => absurd z (by omega)) (fun _ => pk_eq 0 1 (fun z => absurd z (by omega)) (fun _ => ?_))))⟩
  exact pk_eq k 9 (fun z => absurd z (by omega)) (fun _ => pk_eq 0 1 (fun z => absurd z (by omega)) (fun _ => pk_le 4 (p + 1) (fun z => h2 (by omega)) (fun z => h1 (by omega))))
theorem zl_behind1 {st g qn : Int32} {a1 a2 a3 a4 a5 a6 a7 a8 a9 a10 a11 : Nat → Int32} {post : Int32 → Prop} {p k : Nat} (h4 : p < 4) (hk : a1 p = nI k) (k8 : k ≤ 8)
    (h2 : post (-1)) : wpX_behind post (nI 4, st, g, qn, a1, a2, a3, a4, a5, a6, a7, a8, a9, a10, a11) (nI p) (nI 1) := by
  unfold wpX_behind
  dsimp only
  exact ⟨pk_in p 24 (by omega), nm_r (e' := nI k) (by rw [nI_clamp (by omega)]; exact hk) (nm_r (nI_1 p) (pk_eq k 11 (fun z => absurd z (by omega)) (fun _ => pk_eq 1 1 (fun _ => pk_eq k 10 (fun z => absurd z (by omega)) (fun _ => h2)) (fun z => absurd rfl z))))⟩
theorem zl_makesT {c st g qn : Int32} {a1 a2 a3 a4 a5 a6 a7 a8 a9 a10 a11 : Nat → Int32} {post : Int32 → Prop} {p k : Nat} (h4 : p < 4) (hk : a1 p = nI k) (k34 : k = 3 ∨ k = 4) (hp : post 1) : wpX_makesLoan post (c, st, g, qn, a1, a2, a3, a4, a5, a6, a7, a8, a9, a10, a11) (nI p) := by
  unfold wpX_makesLoan
  dsimp only
  rw [nI_clamp (show p < 2 ^ 31 by omega), hk]
  exact ⟨pk_in p 24 (by omega), pk_eq k 3 (fun _ => hp) (fun _ => ⟨pk_in p 24 (by omega), pk_eq k 4 (fun _ => hp) (fun _ => absurd k34 (by omega))⟩)⟩
theorem zl_makesF {c st g qn : Int32} {a1 a2 a3 a4 a5 a6 a7 a8 a9 a10 a11 : Nat → Int32} {post : Int32 → Prop} {p k : Nat} (h4 : p < 4) (hk : a1 p = nI k) (k8 : k ≤ 8) (k34 : ¬ (k = 3 ∨ k = 4)) (hp : post 0) : wpX_makesLoan post (c, st, g, qn, a1, a2, a3, a4, a5, a6, a7, a8, a9, a10, a11) (nI p) := by
  unfold wpX_makesLoan
  dsimp only
  rw [nI_clamp (show p < 2 ^ 31 by omega), hk]
  exact ⟨pk_in p 24 (by omega), pk_eq k 3 (fun _ => absurd k34 (by omega)) (fun _ => ⟨pk_in p 24 (by omega), pk_eq k 4 (fun _ => absurd k34 (by omega)) (fun _ => hp)⟩)⟩
theorem zl_owner {c st g qn : Int32} {a1 a2 a3 a4 a5 a6 a7 a8 a9 a10 a11 : Nat → Int32} {post : Int32 → Prop} {p k : Nat} (h4 : p < 4) (hk : a1 p = nI k) (k2 : k ≤ 2) (hp : post (a2 p)) : wpX_ownerOf post (c, st, g, qn, a1, a2, a3, a4, a5, a6, a7, a8, a9, a10, a11) (nI p) := by
  unfold wpX_ownerOf
  dsimp only
  rw [nI_clamp (show p < 2 ^ 31 by omega), hk]
  exact ⟨pk_in p 24 (by omega), pk_lt 2 k (fun z => absurd z (by omega)) (fun _ => ⟨pk_in p 24 (by omega), hp⟩)⟩
theorem zl_writes {c st g qn : Int32} {a1 a2 a3 a4 a5 a6 a7 a8 a9 a10 a11 : Nat → Int32} {post : Int32 → Prop} {p k : Nat} (h4 : p < 4) (hk : a1 p = nI k) (k2 : k ≤ 2) (h1 : k ≠ 1 → post 1) (h0 : k = 1 → post 0) : wpX_writes post (c, st, g, qn, a1, a2, a3, a4, a5, a6, a7, a8, a9, a10, a11) (nI p) := by
  unfold wpX_writes
  dsimp only
  rw [nI_clamp (show p < 2 ^ 31 by omega), hk]
  exact ⟨pk_in p 24 (by omega), pk_eq k 0 (fun z => h1 (by omega)) (fun _ => ⟨pk_in p 24 (by omega), pk_eq k 2 (fun z => h1 (by omega)) (fun _ => ⟨pk_in p 24 (by omega), pk_eq k 4 (fun z => absurd z (by omega)) (fun _ => h0 (by omega))⟩)⟩)⟩
theorem zl_disturbs {c st g qn : Int32} {a1 a2 a3 a4 a5 a6 a7 a8 a9 a10 a11 : Nat → Int32} {post : Int32 → Prop} {p b a k o q : Nat} (hp4 : p < 4) (hb4 : b < 4) (ha : a1 p = nI a) (a2' : a ≤ 2) (hk : a1 b = nI k) (k34 : k = 3 ∨ k = 4)
    (hq : a2 p = nI q) (q4 : q < 4) (ho : a3 b = nI o) (o4 : o < 4)
    (h1 : (q = o ∧ (a ≠ 1 ∨ k = 4)) → post 1) (h0 : ¬ (q = o ∧ (a ≠ 1 ∨ k = 4)) → post 0) : wpX_disturbs post (c, st, g, qn, a1, a2, a3, a4, a5, a6, a7, a8, a9, a10, a11) (nI p) (nI b) := by
  unfold wpX_disturbs
  dsimp only
  refine zl_makesT hb4 hk k34 (br_f (by decide) ?_)
  refine zl_owner hp4 ha a2' (br_f (by rw [hq]; exact zl_ne (by omega)) ?_)
  refine zl_owner hp4 ha a2' ⟨pk_in b 24 (by omega), ?_⟩
  rw [nI_clamp (show b < 2 ^ 31 by omega), hq, ho]
  refine pk_eq q o (fun e => ?_) (fun e => br_t rfl (h0 (fun z => e z.1)))
  refine br_f (by decide) (zl_writes hp4 ha a2' (fun z => br_f (by decide) (h1 ⟨e, .inl z⟩)) (fun z => br_t rfl ⟨pk_in b 24 (by omega), ?_⟩))
  rw [nI_clamp (show b < 2 ^ 31 by omega), hk]
  exact pk_eq k 4 (fun y => h1 ⟨e, .inr y⟩) (fun y => h0 (fun w => by omega))
end
section
theorem zl_j116 {c st g qn : Int32} {a1 a2 a3 a4 a5 a6 a7 a8 a9 a10 a11 : Nat → Int32} {post : St2 → Prop} {t : Nat} {x z : Int32} (ht : t < 24) (hz : z = 0 ∨ z = 1)
    (H : ∀ g' a6', post (c, st, g', qn, a1, a2, a3, upd a4 t 1, a5, a6', a7, a8, a9, a10, a11)) : wX_joinInto_116 post (nI t) x z c st g qn a1 a2 a3 a4 a5 a6 a7 a8 a9 a10 a11 := by
  unfold wX_joinInto_116
  refine ⟨?_, ?_, pk_in t 24 ht, nm_e ⟨pk_in t 24 ht, nm_r (e' := upd a4 t 1) (by rw [nI_clamp (by omega)]) (H _ _)⟩⟩
  · rcases hz with e | e <;> rw [e] <;> rfl
  · rcases hz with e | e <;> rw [e] <;> rfl
theorem zl_join {c st g qn : Int32} {a1 a2 a3 a4 a5 a6 a7 a8 a9 a10 a11 : Nat → Int32} {post : St2 → Prop} {t : Nat} {e : Int32} (ht : t < 24)
    (H : ∀ g' a5' a6', (∀ j, a5' j = if 4 * t ≤ j ∧ j < 4 * t + 4 then a5 j ||| a9 (j - 4 * t) else a5 j) → post (c, st, g', qn, a1, a2, a3, upd a4 t 1, a5', a6', a7, a8, a9, a10, a11)) :
    wpX_joinInto post (c, st, g, qn, a1, a2, a3, a4, a5, a6, a7, a8, a9, a10, a11) (nI t) e := by
  refine pk_loop (fun n i (s : Int32 × (Nat → Int32)) => wX_joinInto_2 post (nI t) e c st qn n (nI i) s.1 a1 a2 a3 a4 s.2 a6 a7 a8 a9 a10 a11)
    (fun i s => ∀ j, s.2 j = if 4 * t ≤ j ∧ j < 4 * t + i then a5 j ||| a9 (j - 4 * t) else a5 j) 4 0 (g, a5) (by omega) ?_ ?_ ?_
  · intro j
    show a5 j = _
    rw [if_neg (by omega)]
  · intro n s h
    have K : ∀ z : Int32, (z = 0 ∨ z = 1) → wX_joinInto_116 post (nI t) (a6 (nI t).toNatClampNeg ||| e) z c st s.1 qn a1 a2 a3 a4 s.2 a6 a7 a8 a9 a10 a11 := fun z hz => zl_j116 ht hz (fun g' a6' => H g' s.2 a6' h)
    refine pk_le 4 4 (fun _ => ⟨pk_in t 24 ht, nm_e ?_⟩) (fun z => absurd z (by omega))
    exact br_c (fun _ => ⟨pk_in t 24 ht, br_c (fun _ => ⟨pk_in t 24 ht, br_c (fun _ => K 1 (.inr rfl)) (fun _ => K 0 (.inl rfl))⟩) (fun _ => K 1 (.inr rfl))⟩) (fun _ => K 1 (.inr rfl))
  · intro n i s hi h hw
    have K : ∀ z : Int32, (z = 0 ∨ z = 1) → wX_joinInto_54 post (wX_joinInto_2 post (nI t) e c st qn n) (nI t) e (nI i) (s.2 (4 * t + i) ||| a9 i) z c st s.1 qn a1 a2 a3 a4 s.2 a6 a7 a8 a9 a10 a11 := by
      intro z hz
      unfold wX_joinInto_54
      refine ⟨?_, ?_, pk_in (4 * t + i) 96 (by omega) (zl_ix t i), nm_r (e' := upd s.2 (4 * t + i) (s.2 (4 * t + i) ||| a9 i)) (by rw [zl_ixc t i (by omega)]) (nm_r (nI_1 i) (hw (z, upd s.2 (4 * t + i) (s.2 (4 * t + i) ||| a9 i)) ?_))⟩
      · rcases hz with e | e <;> rw [e] <;> rfl
      · rcases hz with e | e <;> rw [e] <;> rfl
      · intro j
        show upd s.2 (4 * t + i) (s.2 (4 * t + i) ||| a9 i) j = _
        by_cases ej : j = 4 * t + i
        · rw [ej, pk_us, if_pos (by omega), h (4 * t + i), if_neg (by omega), show 4 * t + i - 4 * t = i by omega]
        · rw [pk_un ej, h j]
          by_cases e2 : 4 * t ≤ j ∧ j < 4 * t + i
          · rw [if_pos e2, if_pos (by omega)]
          · rw [if_neg e2, if_neg (by omega)]
    refine pk_le 4 i (fun z => absurd z (by omega)) (fun _ => ⟨pk_in (4 * t + i) 96 (by omega) (zl_ix t i), pk_in i 4 hi, nm_r (e' := s.2 (4 * t + i) ||| a9 i) (by rw [zl_ixc t i (by omega), nI_clamp (by omega)]) ?_⟩)
    exact br_c (fun _ => ⟨pk_in (4 * t + i) 96 (by omega) (zl_ix t i), br_c (fun _ => K 0 (.inl rfl)) (fun _ => K 1 (.inr rfl))⟩) (fun _ => K 1 (.inr rfl))
theorem zl_fill {f s : Nat → Int32} {i k : Nat} {x : Int32} (hk : k = i) (h : ∀ j, j < i → s j = f j) (hx : x = f i) : ∀ j, j < i + 1 → upd s k x j = f j := by
  intro j hj
  rw [hk]
  by_cases e : j = i
  · rw [e, pk_us, hx]
  · rw [pk_un e]
    exact h j (by omega)
theorem zl_pass {c st g qn : Int32} {a1 a2 a3 a4 a5 a6 a7 a8 a9 a10 a11 : Nat → Int32} {post : St2 → Prop} {p : Nat} (hp4 : p < 4)
    (H : ∀ n b, (∀ j, j < 4 → b j = a5 (4 * p + j)) → wX_passPoint_2 post (nI p) c st g qn (n + 1) (nI 4) a1 a2 a3 a4 a5 a6 a7 a8 b a10 a11) : wpX_passPoint post (c, st, g, qn, a1, a2, a3, a4, a5, a6, a7, a8, a9, a10, a11) (nI p) := by
  refine pk_loop (fun n i (s : Nat → Int32) => wX_passPoint_2 post (nI p) c st g qn n (nI i) a1 a2 a3 a4 a5 a6 a7 a8 s a10 a11) (fun i s => ∀ j, j < i → s j = a5 (4 * p + j)) 4 0 a9 (by omega) (fun j hj => absurd hj (by omega)) H ?_
  intro n i s hi h hw
  refine pk_le 4 i (fun z => absurd z (by omega)) (fun _ => ⟨pk_in (4 * p + i) 96 (by omega) (zl_ix p i), pk_in i 4 hi, nm_e (nm_r (nI_1 i) (hw _ ?_))⟩)
  exact zl_fill (f := fun j => a5 (4 * p + j)) (nI_clamp (by omega)) h (by rw [zl_ixc p i (by omega)])
theorem zl_passLoan {c st g qn : Int32} {a1 a2 a3 a4 a5 a6 a7 a8 a9 a10 a11 : Nat → Int32} {post : St2 → Prop} {p k x : Nat} (hp4 : p < 4) (hk : a1 p = nI k) (k34 : k = 3 ∨ k = 4) (hx : a2 p = nI x) (x4 : x < 4)
    (H : ∀ b, (∀ j, j < 4 → b j = if j = x then (1 : Int32) <<< (nI p &&& 31) else a5 (4 * p + j)) → post (c, st, g, qn, a1, a2, a3, a4, a5, a6, a7, a8, b, a10, a11)) : wpX_passPoint post (c, st, g, qn, a1, a2, a3, a4, a5, a6, a7, a8, a9, a10, a11) (nI p) := by
  refine zl_pass hp4 (fun n b hb => ?_)
  have K : wX_passPoint_53 post (nI p) (nI x) c st g qn a1 a2 a3 a4 a5 a6 a7 a8 b a10 a11 := by
    refine ⟨pk_in x 4 x4, nm_r (e' := upd b x ((1 : Int32) <<< (nI p &&& 31))) (by rw [nI_clamp (by omega)]) (H _ (fun j hj => ?_))⟩
    by_cases e : j = x
    · rw [e, pk_us, if_pos rfl]
    · rw [pk_un e, if_neg e, hb j hj]
  refine pk_le 4 4 (fun _ => ⟨pk_in p 24 (by omega), nm_r (e' := nI k) (by rw [nI_clamp (by omega)]; exact hk) ⟨pk_in p 24 (by omega), nm_r (e' := nI x) (by rw [nI_clamp (by omega)]; exact hx) ?_⟩⟩) (fun z => absurd z (by omega))
  exact pk_eq k 3 (fun _ => K) (fun _ => pk_eq k 4 (fun _ => K) (fun _ => absurd k34 (by omega)))
theorem zl_passOther {c st g qn : Int32} {a1 a2 a3 a4 a5 a6 a7 a8 a9 a10 a11 : Nat → Int32} {post : St2 → Prop} {p k : Nat} (hp4 : p < 4) (hk : a1 p = nI k) (k34 : k ≤ 2 ∨ k = 7)
    (H : ∀ b, (∀ j, j < 4 → b j = a5 (4 * p + j)) → post (c, st, g, qn, a1, a2, a3, a4, a5, a6, a7, a8, b, a10, a11)) : wpX_passPoint post (c, st, g, qn, a1, a2, a3, a4, a5, a6, a7, a8, a9, a10, a11) (nI p) := by
  refine zl_pass hp4 (fun n b hb => ?_)
  refine pk_le 4 4 (fun _ => ⟨pk_in p 24 (by omega), nm_r (e' := nI k) (by rw [nI_clamp (by omega)]; exact hk) ⟨pk_in p 24 (by omega), nm_e ?_⟩⟩) (fun z => absurd z (by omega))
  exact pk_eq k 3 (fun z => absurd z (by omega)) (fun _ => pk_eq k 4 (fun z => absurd z (by omega)) (fun _ => pk_eq k 5 (fun z => absurd z (by omega)) (fun _ => pk_eq k 6 (fun z => absurd z (by omega)) (fun _ => pk_eq k 8 (fun z => absurd z (by omega)) (fun _ => H b hb)))))
theorem zl_empty {c st g qn : Int32} {a1 a2 a3 a4 a5 a6 a7 a8 a9 a10 a11 : Nat → Int32} {post : Int32 → Prop} {p : Nat} (hp4 : p < 4) (H : ∀ e, post e) : wpX_emptyAfter post (c, st, g, qn, a1, a2, a3, a4, a5, a6, a7, a8, a9, a10, a11) (nI p) :=
  ⟨pk_in p 24 (by omega), nm_e ⟨pk_in p 24 (by omega), br_c (fun _ => ⟨pk_in p 24 (by omega), H _⟩) (fun _ => ⟨pk_in p 24 (by omega), br_c (fun _ => ⟨pk_in p 24 (by omega), H _⟩) (fun _ => ⟨pk_in p 24 (by omega), H _⟩)⟩)⟩⟩
theorem zl_spread {st g qn : Int32} {a1 a2 a3 a4 a5 a6 a7 a8 a9 a10 a11 : Nat → Int32} {post : St2 → Prop} {p k : Nat} {G : Nat → Int32} (h3 : p < 3) (hk : a1 p = nI k) (k8 : k ≤ 8)
    (hpass : ∀ ψ : St2 → Prop, (∀ b, (∀ j, j < 4 → b j = G j) → ψ (nI 4, st, g, qn, a1, a2, a3, a4, a5, a6, a7, a8, b, a10, a11)) → wpX_passPoint ψ (nI 4, st, g, qn, a1, a2, a3, a4, a5, a6, a7, a8, a9, a10, a11) (nI p))
    (H : ∀ g' a5' a6' b, (∀ j, a5' j = if 4 * (p + 1) ≤ j ∧ j < 4 * (p + 1) + 4 then a5 j ||| G (j - 4 * (p + 1)) else a5 j) → post (nI 4, st, g', qn, a1, a2, a3, upd a4 (p + 1) 1, a5', a6', a7, a8, b, a10, a11)) :
    wpX_spreadFrom post (nI 4, st, g, qn, a1, a2, a3, a4, a5, a6, a7, a8, a9, a10, a11) (nI p) := by
  unfold wpX_spreadFrom
  dsimp only
  refine hpass _ (fun b hb => zl_empty (by omega) (fun e => ⟨3, ?_⟩))
  refine pk_le 2 0 (fun z => absurd z (by omega)) (fun _ => zl_behind0 (by omega) hk k8 (fun _ => br_f (zl_ne (by omega)) ?_) (fun z => absurd z (by omega)))
  refine zl_join (by omega) (fun g' a5' a6' h5 => nm_r (nI_1 0) ?_)
  refine pk_le 2 1 (fun z => absurd z (by omega)) (fun _ => zl_behind1 (by omega) hk k8 (br_t rfl (nm_r (nI_1 1) ?_)))
  refine pk_le 2 2 (fun _ => H g' a5' a6' b (fun j => ?_)) (fun z => absurd z (by omega))
  have h5' : ∀ j, a5' j = if 4 * (p + 1) ≤ j ∧ j < 4 * (p + 1) + 4 then a5 j ||| b (j - 4 * (p + 1)) else a5 j := h5
  rw [h5' j]
  by_cases e : 4 * (p + 1) ≤ j ∧ j < 4 * (p + 1) + 4
  · rw [if_pos e, if_pos e, hb _ (by omega)]
  · rw [if_neg e, if_neg e]
theorem zl_spread3 {st g qn : Int32} {a1 a2 a3 a4 a5 a6 a7 a8 a9 a10 a11 : Nat → Int32} {post : St2 → Prop} {k : Nat} (hk : a1 3 = nI k) (k8 : k ≤ 8)
    (hpass : ∀ ψ : St2 → Prop, (∀ b, ψ (nI 4, st, g, qn, a1, a2, a3, a4, a5, a6, a7, a8, b, a10, a11)) → wpX_passPoint ψ (nI 4, st, g, qn, a1, a2, a3, a4, a5, a6, a7, a8, a9, a10, a11) (nI 3))
    (H : ∀ b, post (nI 4, st, g, qn, a1, a2, a3, a4, a5, a6, a7, a8, b, a10, a11)) :
    wpX_spreadFrom post (nI 4, st, g, qn, a1, a2, a3, a4, a5, a6, a7, a8, a9, a10, a11) (nI 3) := by
  unfold wpX_spreadFrom
  dsimp only
  refine hpass _ (fun b => zl_empty (by omega) (fun e => ⟨3, ?_⟩))
  refine pk_le 2 0 (fun z => absurd z (by omega)) (fun _ => zl_behind0 (by omega) hk k8 (fun z => absurd z (by omega)) (fun _ => br_t rfl (nm_r (nI_1 0) ?_)))
  refine pk_le 2 1 (fun z => absurd z (by omega)) (fun _ => zl_behind1 (by omega) hk k8 (br_t rfl (nm_r (nI_1 1) ?_)))
  exact pk_le 2 2 (fun _ => H b) (fun z => absurd z (by omega))
end
section
/-- what reference m may hold before point j, in the end -/
def zl_F (r j m : Nat) : Int32 := if 2 ≤ j ∧ m = r then 2 else 16777216
/-- the four points of the law's program -/
def zl_P (k a o q r s : Nat) (a1 a2 a3 : Nat → Int32) : Prop :=
  (a1 0 = nI 0 ∧ a1 1 = nI k ∧ a1 2 = nI a ∧ a1 3 = nI 7) ∧ (a2 1 = nI r ∧ a2 2 = nI q ∧ a2 3 = nI s) ∧ a3 1 = nI o ∧ (k = 3 ∨ k = 4) ∧ a ≤ 2 ∧ o < 4 ∧ q < 4 ∧ r < 4 ∧ s < 4
/-- rows up to i are final, all are below the final ones -/
def zl_I (r i : Nat) (a4 a5 : Nat → Int32) : Prop :=
  (∀ j, j < 4 → j ≤ i → ¬ a4 j = 0) ∧ (∀ j m, j < 4 → m < 4 → j ≤ i → a5 (4 * j + m) = zl_F r j m) ∧ (∀ j m, j < 4 → m < 4 → a5 (4 * j + m) ||| zl_F r j m = zl_F r j m)
theorem zl_kd {k a o q r s : Nat} {a1 a2 a3 : Nat → Int32} (P : zl_P k a o q r s a1 a2 a3) (i : Nat) (hi : i < 4) : ∃ x, a1 i = nI x ∧ x ≤ 8 ∧ (x ≤ 4 ∨ x = 7) := by
  obtain ⟨⟨h0, h1, h2, h3⟩, _, _, hk, ha, _⟩ := P
  rcases (show i = 0 ∨ i = 1 ∨ i = 2 ∨ i = 3 by omega) with e | e | e | e
  · exact ⟨0, by rw [e]; exact h0, by omega, by omega⟩
  · exact ⟨k, by rw [e]; exact h1, by omega, by omega⟩
  · exact ⟨a, by rw [e]; exact h2, by omega, by omega⟩
  · exact ⟨7, by rw [e]; exact h3, by omega, by omega⟩
theorem zl_passF {c st g qn : Int32} {a1 a2 a3 a4 a5 a6 a7 a8 a9 a10 a11 : Nat → Int32} {k a o q r s i : Nat} (P : zl_P k a o q r s a1 a2 a3) (hi : i < 4) (hF : ∀ m, m < 4 → a5 (4 * i + m) = zl_F r i m)
    (ψ : St2 → Prop) (H : ∀ b, (∀ j, j < 4 → b j = zl_F r (i + 1) j) → ψ (c, st, g, qn, a1, a2, a3, a4, a5, a6, a7, a8, b, a10, a11)) : wpX_passPoint ψ (c, st, g, qn, a1, a2, a3, a4, a5, a6, a7, a8, a9, a10, a11) (nI i) := by
  obtain ⟨⟨h0, h1, h2, h3⟩, ⟨b1, b2, b3⟩, _, hk, ha, ho, hq, hr, hs⟩ := P
  rcases (show i = 0 ∨ i = 1 ∨ i = 2 ∨ i = 3 by omega) with e | e | e | e
  · subst e
    refine zl_passOther (by omega) h0 (by omega) (fun b hb => H b (fun j hj => ?_))
    rw [hb j hj, hF j hj]
    unfold zl_F
    rw [if_neg (by omega), if_neg (by omega)]
  · subst e
    refine zl_passLoan (by omega) h1 hk b1 hr (fun b hb => H b (fun j hj => ?_))
    rw [hb j hj, hF j hj]
    unfold zl_F
    by_cases ej : j = r
    · rw [if_pos ej, if_pos (by omega)]
      rfl
    · rw [if_neg ej, if_neg (by omega), if_neg (by omega)]
  · subst e
    refine zl_passOther (by omega) h2 (by omega) (fun b hb => H b (fun j hj => ?_))
    rw [hb j hj, hF j hj]
    unfold zl_F
    by_cases ej : j = r
    · rw [if_pos (by omega), if_pos (by omega)]
    · rw [if_neg (by omega), if_neg (by omega)]
  · subst e
    refine zl_passOther (by omega) h3 (by omega) (fun b hb => H b (fun j hj => ?_))
    rw [hb j hj, hF j hj]
    unfold zl_F
    by_cases ej : j = r
    · rw [if_pos (by omega), if_pos (by omega)]
    · rw [if_neg (by omega), if_neg (by omega)]
theorem zl_Istep {r i : Nat} {a4 a5 a5' : Nat → Int32} (hi : i < 3) (h : zl_I r i a4 a5)
    (h5 : ∀ j, a5' j = if 4 * (i + 1) ≤ j ∧ j < 4 * (i + 1) + 4 then a5 j ||| zl_F r (i + 1) (j - 4 * (i + 1)) else a5 j) : zl_I r (i + 1) (upd a4 (i + 1) 1) a5' := by
  obtain ⟨h1, h2, h3⟩ := h
  refine ⟨fun j hj hl => ?_, fun j m hj hm hl => ?_, fun j m hj hm => ?_⟩
  · by_cases e : j = i + 1
    · rw [e, pk_us]
      decide
    · rw [pk_un e]
      exact h1 j hj (by omega)
  · rw [h5]
    by_cases e : j = i + 1
    · subst e
      rw [if_pos (by omega), show 4 * (i + 1) + m - 4 * (i + 1) = m by omega]
      exact h3 (i + 1) m hj hm
    · rw [if_neg (by omega)]
      exact h2 j m hj hm (by omega)
  · rw [h5]
    by_cases e : j = i + 1
    · subst e
      rw [if_pos (by omega), show 4 * (i + 1) + m - 4 * (i + 1) = m by omega, h3 (i + 1) m hj hm]
      exact Int32.or_self
    · rw [if_neg (by omega)]
      exact h3 j m hj hm
theorem zl_117 {st g qn : Int32} {a1 a2 a3 a4 a5 a6 a7 a8 a9 a10 a11 : Nat → Int32} {post : St2 → Prop} {J : Int32 → Int32 → Int32 → Int32 → Int32 → (Nat → Int32) → (Nat → Int32) → (Nat → Int32) → (Nat → Int32) → (Nat → Int32) → (Nat → Int32) → (Nat → Int32) → (Nat → Int32) → (Nat → Int32) → (Nat → Int32) → (Nat → Int32) → Prop} {k a o q r s R : Nat}
    (P : zl_P k a o q r s a1 a2 a3) (hI : zl_I r 0 a4 a5)
    (H : ∀ g' a4' a5' a6' a9', zl_I r 4 a4' a5' → J (nI (R + 1)) (nI 4) st g' qn a1 a2 a3 a4' a5' a6' a7 a8 a9' a10 a11) :
    ∃ fu, wX_findHeld_117 post J (nI R) fu 0 (nI 4) st g qn a1 a2 a3 a4 a5 a6 a7 a8 a9 a10 a11 := by
  refine pk_loop (fun n i (s : Int32 × (Nat → Int32) × (Nat → Int32) × (Nat → Int32) × (Nat → Int32)) => wX_findHeld_117 post J (nI R) n (nI i) (nI 4) st s.1 qn a1 a2 a3 s.2.1 s.2.2.1 s.2.2.2.1 a7 a8 s.2.2.2.2 a10 a11)
    (fun i s => zl_I r i s.2.1 s.2.2.1) 4 0 (g, a4, a5, a6, a9) (by omega) hI ?_ ?_
  · intro n s h
    exact pk_le 4 4 (fun _ => nm_r (nI_1 R) (H _ _ _ _ _ h)) (fun z => absurd z (by omega))
  · intro n i s hi h hw
    obtain ⟨x, hx, x8, _⟩ := zl_kd P i hi
    refine pk_le 4 i (fun z => absurd z (by omega)) (fun _ => ⟨pk_in i 24 (by omega), br_f (by rw [nI_clamp (by omega)]; exact h.1 i hi (by omega)) ?_⟩)
    by_cases e : i < 3
    · refine zl_spread (G := zl_F r (i + 1)) e hx x8 (fun ψ hψ => zl_passF P hi (fun m hm => h.2.1 i m hi hm (by omega)) ψ hψ) (fun g' a5' a6' b h5 => nm_r (nI_1 i) ?_)
      exact hw (g', upd s.2.1 (i + 1) 1, a5', a6', b) (zl_Istep e h h5)
    · have e3 : i = 3 := by omega
      subst e3
      refine zl_spread3 hx x8 (fun ψ hψ => zl_passF P hi (fun m hm => h.2.1 3 m hi hm (by omega)) ψ (fun b _ => hψ b)) (fun b => nm_r (nI_1 3) ?_)
      exact hw (s.1, s.2.1, s.2.2.1, s.2.2.2.1, b) ⟨fun j hj _ => h.1 j hj (by omega), fun j m hj hm _ => h.2.1 j m hj hm (by omega), h.2.2⟩
theorem zl_I0 {r : Nat} {a4 a5 : Nat → Int32} (h : zl_I r 4 a4 a5) : zl_I r 0 a4 a5 :=
  ⟨fun j hj _ => h.1 j hj (by omega), fun j m hj hm _ => h.2.1 j m hj hm (by omega), h.2.2⟩
theorem zl_96 {st qn : Int32} {a1 a2 a3 a7 a8 a10 a11 : Nat → Int32} {post : St2 → Prop} {k a o q r s : Nat} (P : zl_P k a o q r s a1 a2 a3)
    (H : ∀ g' a4' a5' a6' a9', zl_I r 4 a4' a5' → post (nI 4, st, g', qn, a1, a2, a3, a4', a5', a6', a7, a8, a9', a10, a11)) :
    ∀ (n R : Nat) (g : Int32) (a4 a5 a6 a9 : Nat → Int32), R ≤ 2600 → 2600 - R < n → zl_I r 4 a4 a5 → wX_findHeld_96 post n (nI R) (nI 4) st g qn a1 a2 a3 a4 a5 a6 a7 a8 a9 a10 a11 := by
  intro n
  induction n with
  | zero => intro R g a4 a5 a6 a9 h1 h2; omega
  | succ n ih =>
    intro R g a4 a5 a6 a9 h1 h2 h3
    refine pk_le 2600 R (fun _ => H _ _ _ _ _ h3) (fun z => br_c (fun _ => H _ _ _ _ _ h3) (fun _ => ?_))
    exact zl_117 P (zl_I0 h3) (fun g' a4' a5' a6' a9' h' => ih (R + 1) g' a4' a5' a6' a9' (by omega) (by omega) h')
theorem zl_63 {st g qn : Int32} {a1 a2 a3 a4 a5 a6 a7 a8 a9 a10 a11 : Nat → Int32} {post : St2 → Prop} {k a o q r s : Nat} (P : zl_P k a o q r s a1 a2 a3) (h0 : ∀ j, j < 16 → a5 j = 0)
    (H : ∀ g' a4' a5' a6' a9', zl_I r 4 a4' a5' → post (nI 4, st, g', qn, a1, a2, a3, a4', a5', a6', a7, a8, a9', a10, a11)) :
    ∃ fu, wX_findHeld_63 post (nI 4) st g qn fu 0 a1 a2 a3 a4 a5 a6 a7 a8 a9 a10 a11 := by
  refine pk_loop (fun n i (s : Nat → Int32) => wX_findHeld_63 post (nI 4) st g qn n (nI i) a1 a2 a3 a4 a5 a6 a7 a8 s a10 a11) (fun i s => ∀ j, j < i → s j = 16777216) 4 0 a9 (by omega) (fun j hj => absurd hj (by omega)) ?_ ?_
  · intro n b hb
    refine pk_le 4 4 (fun _ => zl_join (t := 0) (by omega) (fun g' a5' a6' h5 => ⟨2602, ?_⟩)) (fun z => absurd z (by omega))
    refine pk_le 2600 0 (fun z => absurd z (by omega)) (fun _ => br_f (by decide) ?_)
    refine zl_117 (R := 0) P ?_ (fun g' a4' a5' a6' a9' h' => zl_96 P H 2601 1 g' a4' a5' a6' a9' (by omega) (by omega) h')
    have h5 : ∀ j, a5' j = if 4 * 0 ≤ j ∧ j < 4 * 0 + 4 then a5 j ||| b (j - 4 * 0) else a5 j := h5
    have F0 : ∀ m, m < 4 → a5' m = zl_F r 0 m := by
      intro m hm
      rw [h5, if_pos (by omega), h0 m (by omega), show m - 4 * 0 = m by omega, hb m hm]
      unfold zl_F
      rw [if_neg (by omega)]
      exact Int32.zero_or
    refine ⟨fun j hj hl => ?_, fun j m hj hm hl => ?_, fun j m hj hm => ?_⟩
    · rw [show j = 0 by omega, pk_us]
      decide
    · rw [show j = 0 by omega, show 4 * 0 + m = m by omega]
      exact F0 m hm
    · by_cases e : j = 0
      · rw [e, show 4 * 0 + m = m by omega, F0 m hm]
        exact Int32.or_self
      · rw [h5, if_neg (by omega), h0 _ (by omega)]
        exact Int32.zero_or
  · intro n i s hi h hw
    refine pk_le 4 i (fun z => absurd z (by omega)) (fun _ => ⟨pk_in i 4 hi, nm_e (nm_r (nI_1 i) (hw _ ?_))⟩)
    exact zl_fill (f := fun _ => 16777216) (nI_clamp (by omega)) h rfl
theorem zl_26 {c st g qn : Int32} {a1 a2 a3 a4 a5 a6 a7 a8 a9 a10 a11 : Nat → Int32} {post : St2 → Prop} {J : Int32 → (Nat → Int32) → (Nat → Int32) → (Nat → Int32) → (Nat → Int32) → (Nat → Int32) → (Nat → Int32) → (Nat → Int32) → (Nat → Int32) → (Nat → Int32) → (Nat → Int32) → (Nat → Int32) → Prop} {i : Nat}
    (hi : i < 4) (h0 : ∀ j, j < 4 * i → a5 j = 0) (H : ∀ a5', (∀ j, j < 4 * (i + 1) → a5' j = 0) → J (nI (i + 1)) a1 a2 a3 a4 a5' a6 a7 a8 a9 a10 a11) :
    ∃ fu, wX_findHeld_26 post J (nI i) c st g qn fu 0 a1 a2 a3 a4 a5 a6 a7 a8 a9 a10 a11 := by
  refine pk_loop (fun n m (s : Nat → Int32) => wX_findHeld_26 post J (nI i) c st g qn n (nI m) a1 a2 a3 a4 s a6 a7 a8 a9 a10 a11) (fun m s => ∀ j, j < 4 * i + m → s j = 0) 4 0 a5 (by omega) (fun j hj => h0 j (by omega)) ?_ ?_
  · intro n s h
    exact pk_le 4 4 (fun _ => nm_r (nI_1 i) (H s (fun j hj => h j (by omega)))) (fun z => absurd z (by omega))
  · intro n m s hm h hw
    refine pk_le 4 m (fun z => absurd z (by omega)) (fun _ => ⟨pk_in (4 * i + m) 96 (by omega) (zl_ix i m), nm_e (nm_r (nI_1 m) (hw _ ?_))⟩)
    exact zl_fill (f := fun _ => 0) (zl_ixc i m (by omega)) h rfl
theorem zl_findHeld {st g qn : Int32} {a1 a2 a3 a4 a5 a6 a7 a8 a9 a10 a11 : Nat → Int32} {post : St2 → Prop} {k a o q r s : Nat} (P : zl_P k a o q r s a1 a2 a3)
    (H : ∀ g' a4' a5' a6' a9', zl_I r 4 a4' a5' → post (nI 4, st, g', qn, a1, a2, a3, a4', a5', a6', a7, a8, a9', a10, a11)) :
    wpX_findHeld post (nI 4, st, g, qn, a1, a2, a3, a4, a5, a6, a7, a8, a9, a10, a11) := by
  refine pk_loop (fun n i (s : (Nat → Int32) × (Nat → Int32) × (Nat → Int32)) => wX_findHeld_2 post (nI 4) st g qn n (nI i) a1 a2 a3 s.1 s.2.1 s.2.2 a7 a8 a9 a10 a11) (fun i s => ∀ j, j < 4 * i → s.2.1 j = 0) 4 0 (a4, a5, a6) (by omega) (fun j hj => absurd hj (by omega)) ?_ ?_
  · intro n s h
    exact pk_le 4 4 (fun _ => pk_le 4 0 (fun z => absurd z (by omega)) (fun _ => zl_63 P h H)) (fun z => absurd z (by omega))
  · intro n i s hi h hw
    refine pk_le 4 i (fun z => absurd z (by omega)) (fun _ => ⟨pk_in i 24 (by omega), nm_e ⟨pk_in i 24 (by omega), nm_e ?_⟩⟩)
    exact zl_26 hi h (fun a5' h' => hw (_, a5', _) h')
end
section
def zl_b (s : Nat) : Int32 := nI (2 ^ s)
theorem zl_bS : ∀ s, s < 4 → (0 : Int32) ||| (1 : Int32) <<< ((nI s &&& 3) &&& 31) = zl_b s := by decide +kernel
theorem zl_bit : ∀ s, s < 4 → ∀ i, i < 4 → ((zl_b s) >>> (nI i &&& 31)) &&& 1 = if i = s then 1 else 0 := by decide +kernel
/-- what is wanted, as far as it counts -/
def zl_W (s : Nat) (a7 a8 : Nat → Int32) : Prop := a7 2 = zl_b s ∧ a7 3 = zl_b s ∧ a8 2 = zl_b s
theorem zl_wb {st g qn : Int32} {a1 a2 a3 a4 a5 a6 a7 a8 a9 a10 a11 : Nat → Int32} {post : Int32 → Prop} {p k : Nat} (h4 : p < 4) (hk : a1 p = nI k) (k8 : k ≤ 8) (H : ∀ w, (p < 3 → w = a7 (p + 1)) → (p = 3 → w = 0) → post w) :
    wpX_wantedBehind post (nI 4, st, g, qn, a1, a2, a3, a4, a5, a6, a7, a8, a9, a10, a11) (nI p) := by
  unfold wpX_wantedBehind
  dsimp only
  refine ⟨3, ?_⟩
  refine pk_le 2 0 (fun z => absurd z (by omega)) (fun _ => zl_behind0 h4 hk k8 (fun p3 => br_f (zl_ne (by omega)) ?_) (fun p3 => br_t rfl (nm_r (nI_1 0) ?_)))
  · refine ⟨pk_in (p + 1) 24 (by omega), nm_r (e' := a7 (p + 1)) (by rw [nI_clamp (by omega)]; exact Int32.zero_or) (nm_r (nI_1 0) ?_)⟩
    refine pk_le 2 1 (fun z => absurd z (by omega)) (fun _ => zl_behind1 h4 hk k8 (br_t rfl (nm_r (nI_1 1) ?_)))
    exact pk_le 2 2 (fun _ => H _ (fun _ => rfl) (fun z => absurd z (by omega))) (fun z => absurd z (by omega))
  · refine pk_le 2 1 (fun z => absurd z (by omega)) (fun _ => zl_behind1 h4 hk k8 (br_t rfl (nm_r (nI_1 1) ?_)))
    exact pk_le 2 2 (fun _ => H _ (fun z => absurd z (by omega)) (fun _ => rfl)) (fun z => absurd z (by omega))
theorem zl_wt {c st g qn : Int32} {a1 a2 a3 a4 a5 a6 a7 a8 a9 a10 a11 : Nat → Int32} {post : Int32 → Prop} {p k : Nat} {e : Int32} (h4 : p < 4) (hk : a1 p = nI k) (k7 : k ≤ 4 ∨ k = 7)
    (H : ∀ v, (k ≤ 2 → v = e) → (k = 7 → v = e ||| (1 : Int32) <<< ((a2 p &&& 3) &&& 31)) → post v) :
    wpX_wantedThrough post (c, st, g, qn, a1, a2, a3, a4, a5, a6, a7, a8, a9, a10, a11) (nI p) e := by
  unfold wpX_wantedThrough
  dsimp only
  refine ⟨pk_in p 24 (by omega), nm_r (e' := nI k) (by rw [nI_clamp (by omega)]; exact hk) ⟨pk_in p 24 (by omega), nm_r (e' := (1 : Int32) <<< ((a2 p &&& 3) &&& 31)) (by rw [nI_clamp (by omega)]) ?_⟩⟩
  refine pk_eq k 3 (fun z => H _ (fun y => absurd y (by omega)) (fun y => absurd y (by omega))) (fun _ => ?_)
  refine pk_eq k 4 (fun z => H _ (fun y => absurd y (by omega)) (fun y => absurd y (by omega))) (fun _ => ?_)
  refine pk_eq k 8 (fun z => absurd z (by omega)) (fun _ => ?_)
  refine pk_eq k 7 (fun z => H _ (fun y => absurd y (by omega)) (fun _ => rfl)) (fun _ => ?_)
  refine pk_eq k 5 (fun z => absurd z (by omega)) (fun _ => ?_)
  exact pk_eq k 6 (fun z => absurd z (by omega)) (fun _ => H _ (fun _ => rfl) (fun y => absurd y (by omega)))
theorem zl_w63 {st g qn : Int32} {a1 a2 a3 a4 a5 a6 a7 a8 a9 a10 a11 : Nat → Int32} {post : St2 → Prop} {J : Int32 → Int32 → (Nat → Int32) → (Nat → Int32) → (Nat → Int32) → (Nat → Int32) → (Nat → Int32) → (Nat → Int32) → (Nat → Int32) → (Nat → Int32) → (Nat → Int32) → (Nat → Int32) → (Nat → Int32) → Prop} {x1 : Int32} {n p k : Nat}
    (h4 : p < 4) (hk : a1 p = nI k) (k7 : k ≤ 4 ∨ k = 7)
    (H : ∀ g' v w, (p < 3 → w = a7 (p + 1)) → (p = 3 → w = 0) → (k ≤ 2 → v = w) → (k = 7 → v = w ||| (1 : Int32) <<< ((a2 p &&& 3) &&& 31)) →
      wX_findWanted_63 post J x1 (nI 4) st qn n (nI p + (-1)) g' a1 a2 a3 a4 a5 a6 (upd a7 p v) (upd a8 p w) a9 a10 a11) :
    wX_findWanted_63 post J x1 (nI 4) st qn (n + 1) (nI p) g a1 a2 a3 a4 a5 a6 a7 a8 a9 a10 a11 := by
  refine pk_lt p 0 (fun z => absurd z (by omega)) (fun _ => zl_wb h4 hk (by omega) (fun w hw1 hw2 => zl_wt h4 hk k7 (fun v hv1 hv2 => ?_)))
  have K : ∀ z : Int32, (z = 0 ∨ z = 1) → wX_findWanted_115 post J (wX_findWanted_63 post J x1 (nI 4) st qn n) x1 (nI p) w v z (nI 4) st g qn a1 a2 a3 a4 a5 a6 a7 a8 a9 a10 a11 := by
    intro z hz
    unfold wX_findWanted_115
    refine ⟨?_, ?_, pk_in p 24 (by omega), nm_r (e' := upd a8 p w) (by rw [nI_clamp (by omega)]) ⟨pk_in p 24 (by omega), nm_r (e' := upd a7 p v) (by rw [nI_clamp (by omega)]) (nm_e (H z v w hw1 hw2 hv1 hv2))⟩⟩
    · rcases hz with e | e <;> rw [e] <;> rfl
    · rcases hz with e | e <;> rw [e] <;> rfl
  exact br_c (fun _ => ⟨pk_in p 24 (by omega), br_c (fun _ => ⟨pk_in p 24 (by omega), br_c (fun _ => K 0 (.inl rfl)) (fun _ => K 1 (.inr rfl))⟩) (fun _ => K 1 (.inr rfl))⟩) (fun _ => K 1 (.inr rfl))
theorem zl_wround {st g qn : Int32} {a1 a2 a3 a4 a5 a6 a7 a8 a9 a10 a11 : Nat → Int32} {post : St2 → Prop} {J : Int32 → Int32 → (Nat → Int32) → (Nat → Int32) → (Nat → Int32) → (Nat → Int32) → (Nat → Int32) → (Nat → Int32) → (Nat → Int32) → (Nat → Int32) → (Nat → Int32) → (Nat → Int32) → (Nat → Int32) → Prop} {k a o q r s R : Nat}
    (P : zl_P k a o q r s a1 a2 a3)
    (H : ∀ g' a7' a8', zl_W s a7' a8' → J (nI (R + 1)) g' a1 a2 a3 a4 a5 a6 a7' a8' a9 a10 a11) :
    ∃ fu, wX_findWanted_63 post J (nI R) (nI 4) st qn fu (nI 3) g a1 a2 a3 a4 a5 a6 a7 a8 a9 a10 a11 := by
  obtain ⟨⟨h0, h1, h2, h3⟩, ⟨b1, b2, b3⟩, _, hk, ha, ho, hq, hr, hs⟩ := P
  refine ⟨5, ?_⟩
  refine zl_w63 (p := 3) (by omega) h3 (by omega) (fun g3 v3 w3 _ e3 _ f3 => ?_)
  rw [pk_m1 2]
  refine zl_w63 (p := 2) (by omega) h2 (by omega) (fun g2 v2 w2 e2 _ f2 _ => ?_)
  rw [pk_m1 1]
  refine zl_w63 (p := 1) (by omega) h1 (by omega) (fun g1 v1 w1 _ _ _ _ => ?_)
  rw [pk_m1 0]
  refine zl_w63 (p := 0) (by omega) h0 (by omega) (fun g0 v0 w0 _ _ _ _ => ?_)
  have E3 : v3 = zl_b s := by rw [f3 rfl, e3 rfl, b3]; exact zl_bS s hs
  have E2 : w2 = zl_b s := by rw [e2 (by omega), pk_us]; exact E3
  have E2' : v2 = zl_b s := by rw [f2 ha]; exact E2
  refine br_t (by decide) (nm_r (nI_1 R) (H g0 _ _ ⟨?_, ?_, ?_⟩))
  · rw [pk_un (by omega), pk_un (by omega), pk_us]; exact E2'
  · rw [pk_un (by omega), pk_un (by omega), pk_un (by omega), pk_us]; exact E3
  · rw [pk_un (by omega), pk_un (by omega), pk_us]; exact E2
theorem zl_37 {st qn : Int32} {a1 a2 a3 a4 a5 a6 a9 a10 a11 : Nat → Int32} {post : St2 → Prop} {k a o q r s : Nat} (P : zl_P k a o q r s a1 a2 a3)
    (H : ∀ g' a7' a8', zl_W s a7' a8' → post (nI 4, st, g', qn, a1, a2, a3, a4, a5, a6, a7', a8', a9, a10, a11)) :
    ∀ (n R : Nat) (g : Int32) (a7 a8 : Nat → Int32), R ≤ 200 → 200 - R < n → zl_W s a7 a8 → wX_findWanted_37 post (nI 4) st qn n (nI R) g a1 a2 a3 a4 a5 a6 a7 a8 a9 a10 a11 := by
  intro n
  induction n with
  | zero => intro R g a7 a8 h1 h2; omega
  | succ n ih =>
    intro R g a7 a8 h1 h2 h3
    refine pk_le 200 R (fun _ => H _ _ _ h3) (fun z => br_c (fun _ => H _ _ _ h3) (fun _ => nm_r (nI_pred 3) ?_))
    exact zl_wround P (fun g' a7' a8' h' => ih (R + 1) g' a7' a8' (by omega) (by omega) h')
theorem zl_findWanted {st g qn : Int32} {a1 a2 a3 a4 a5 a6 a7 a8 a9 a10 a11 : Nat → Int32} {post : St2 → Prop} {k a o q r s : Nat} (P : zl_P k a o q r s a1 a2 a3)
    (H : ∀ g' a7' a8', zl_W s a7' a8' → post (nI 4, st, g', qn, a1, a2, a3, a4, a5, a6, a7', a8', a9, a10, a11)) :
    wpX_findWanted post (nI 4, st, g, qn, a1, a2, a3, a4, a5, a6, a7, a8, a9, a10, a11) := by
  refine pk_loop (fun n i (s : (Nat → Int32) × (Nat → Int32)) => wX_findWanted_2 post (nI 4) st g qn n (nI i) a1 a2 a3 a4 a5 a6 s.1 s.2 a9 a10 a11) (fun _ _ => True) 4 0 (a7, a8) (by omega) trivial ?_ ?_
  · intro n s _
    refine pk_le 4 4 (fun _ => ⟨202, ?_⟩) (fun z => absurd z (by omega))
    refine pk_le 200 0 (fun z => absurd z (by omega)) (fun _ => br_f (by decide) (nm_r (nI_pred 3) ?_))
    exact zl_wround (R := 0) P (fun g' a7' a8' h' => zl_37 P H 201 1 g' a7' a8' (by omega) (by omega) h')
  · intro n i s hi _ hw
    exact pk_le 4 i (fun z => absurd z (by omega)) (fun _ => ⟨pk_in i 24 (by omega), nm_e ⟨pk_in i 24 (by omega), nm_e (nm_r (nI_1 i) (hw (_, _) trivial))⟩⟩)
theorem zl_study0 {g qn : Int32} {a1 a2 a3 a4 a5 a6 a7 a8 a9 a10 a11 : Nat → Int32} {post : St2 → Prop} {k a o q r s : Nat} (P : zl_P k a o q r s a1 a2 a3)
    (H : ∀ g' a4' a5' a6' a7' a8' a9', zl_I r 4 a4' a5' → zl_W s a7' a8' → post (nI 4, 1, g', qn, a1, a2, a3, a4', a5', a6', a7', a8', a9', a10, a11)) :
    wpX_study post (nI 4, 0, g, qn, a1, a2, a3, a4, a5, a6, a7, a8, a9, a10, a11) := by
  unfold wpX_study
  dsimp only
  refine br_t rfl (zl_findHeld P (fun g' a4' a5' a6' a9' hI => zl_findWanted P (fun g'' a7' a8' hW => ?_)))
  exact H g'' a4' a5' a6' a7' a8' a9' hI hW
theorem zl_study1 {c g qn : Int32} {a1 a2 a3 a4 a5 a6 a7 a8 a9 a10 a11 : Nat → Int32} {post : St2 → Prop} (H : post (c, 1, g, qn, a1, a2, a3, a4, a5, a6, a7, a8, a9, a10, a11)) : wpX_study post (c, 1, g, qn, a1, a2, a3, a4, a5, a6, a7, a8, a9, a10, a11) := by
  unfold wpX_study
  dsimp only
  exact br_f (by decide) H
end
section
/-- the state after the study -/
def zl_S (r s : Nat) (a5 a7 a8 : Nat → Int32) : Prop := (∀ j m, j < 4 → m < 4 → a5 (4 * j + m) = zl_F r j m) ∧ zl_W s a7 a8
theorem zl_Fm (r s : Nat) : zl_F r 2 s &&& 16777215 = if s = r then 2 else 0 := by
  unfold zl_F
  by_cases e : s = r
  · rw [if_pos (by omega), if_pos e]; rfl
  · rw [if_neg (by omega), if_neg e]; rfl
theorem zl_heldT {st g qn : Int32} {a1 a2 a3 a4 a5 a6 a7 a8 a9 a10 a11 : Nat → Int32} {post : Int32 → Prop} {k a o q r s : Nat} (P : zl_P k a o q r s a1 a2 a3) (S : zl_S r s a5 a7 a8)
    (H : post (if s = r then 2 else 0)) : wpX_heldThrough post (nI 4, st, g, qn, a1, a2, a3, a4, a5, a6, a7, a8, a9, a10, a11) (nI 2) := by
  obtain ⟨⟨h0, h1, h2, h3⟩, ⟨b1, b2, b3⟩, _, hk, ha, ho, hq, hr, hs⟩ := P
  obtain ⟨hF, _, _, w8⟩ := S
  refine pk_loop (fun n i (x : Int32) => wX_heldThrough_4 post (nI 2) (nI 4) st g qn a1 a2 a3 a4 a5 a6 a7 a8 a9 a10 a11 n x (nI i)) (fun i x => x = if s < i then zl_F r 2 s else 0) 4 0 0 (by omega) (by rw [if_neg (by omega)]) ?_ ?_
  · intro n x hx
    refine pk_le 4 4 (fun _ => ?_) (fun z => absurd z (by omega))
    rw [hx, if_pos hs, zl_Fm]
    exact H
  · intro n i x hi hx hw
    refine pk_le 4 i (fun z => absurd z (by omega)) (fun _ => zl_makesF (by omega) h2 (by omega) (by omega) (br_t rfl ?_))
    refine br_t rfl ⟨pk_in 2 24 (by omega), ?_⟩
    rw [nI_clamp (show 2 < 2 ^ 31 by omega), w8, zl_bit s hs i hi, zl_ix, nI_clamp (show 4 * 2 + i < 2 ^ 31 by omega)]
    by_cases e : i = s
    · refine br_f (by rw [if_pos e]; decide) ⟨pk_in (4 * 2 + i) 96 (by omega), nm_e (nm_r (nI_1 i) (hw _ ?_))⟩
      rw [hx, if_neg (by omega), if_pos (by omega), hF 2 i (by omega) hi, e]
      exact Int32.zero_or
    · refine br_t (by rw [if_neg e]) (nm_r (nI_1 i) (hw _ ?_))
      rw [hx]
      by_cases e2 : s < i
      · rw [if_pos e2, if_pos (by omega)]
      · rw [if_neg e2, if_neg (by omega)]
theorem zl_cb : ∀ i, i < 4 → (((2 : Int32) >>> (nI i &&& 31)) &&& 1 = if i = 1 then 1 else 0) ∧ (((0 : Int32) >>> (nI i &&& 31)) &&& 1 = 0) := by decide +kernel
theorem zl_confAt {st g qn : Int32} {a1 a2 a3 a4 a5 a6 a7 a8 a9 a10 a11 : Nat → Int32} {post : Int32 → Prop} {k a o q r s : Nat} (P : zl_P k a o q r s a1 a2 a3) (S : zl_S r s a5 a7 a8)
    (H : post (if s = r ∧ q = o ∧ (a ≠ 1 ∨ k = 4) then 2 else 0)) : wpX_conflictsAt post (nI 4, st, g, qn, a1, a2, a3, a4, a5, a6, a7, a8, a9, a10, a11) (nI 2) := by
  have P' := P
  obtain ⟨⟨h0, h1, h2, h3⟩, ⟨b1, b2, b3⟩, b4, hk, ha, ho, hq, hr, hs⟩ := P
  unfold wpX_conflictsAt
  dsimp only
  refine zl_owner (by omega) h2 ha (br_f (by rw [b2]; exact zl_ne (by omega)) (zl_heldT P' S ?_))
  refine pk_loop (fun n i (x : Int32) => wX_conflictsAt_24 post (nI 2) (if s = r then 2 else 0) (nI 4) st g qn a1 a2 a3 a4 a5 a6 a7 a8 a9 a10 a11 n x (nI i)) (fun i x => x = if 1 < i ∧ (s = r ∧ q = o ∧ (a ≠ 1 ∨ k = 4)) then 2 else 0) 4 0 0 (by omega) (by rw [if_neg (by omega)]) ?_ ?_
  · intro n x hx
    refine pk_le 4 4 (fun _ => ?_) (fun z => absurd z (by omega))
    rw [hx]
    by_cases e : s = r ∧ q = o ∧ (a ≠ 1 ∨ k = 4)
    · rw [if_pos ⟨by omega, e⟩]
      rw [if_pos e] at H
      exact H
    · rw [if_neg (fun z => e z.2)]
      rw [if_neg e] at H
      exact H
  · intro n i x hi hx hw
    refine pk_le 4 i (fun z => absurd z (by omega)) (fun _ => ?_)
    by_cases e : s = r ∧ i = 1
    · obtain ⟨e1, e2⟩ := e
      subst e2
      refine br_t (by rw [if_pos e1]; decide) (zl_disturbs (by omega) (by omega) h2 ha h1 hk b2 hq b4 ho (fun D => br_f (by decide) ?_) (fun D => br_t rfl ?_))
      · refine br_f (by decide) (nm_e (nm_r (nI_1 1) (hw _ ?_)))
        rw [hx, if_neg (by omega), if_pos ⟨by omega, e1, D⟩]
        rfl
      · refine br_t rfl (nm_r (nI_1 1) (hw _ ?_))
        rw [hx, if_neg (by omega), if_neg (fun z => D z.2.2)]
    · have B : ¬ ((if s = r then (2 : Int32) else 0) >>> (nI i &&& 31)) &&& 1 = 1 := by
        by_cases e1 : s = r
        · rw [if_pos e1, (zl_cb i hi).1, if_neg (fun z => e ⟨e1, z⟩)]
          decide
        · rw [if_neg e1, (zl_cb i hi).2]
          decide
      refine br_f B (br_t rfl (nm_r (nI_1 i) (hw _ ?_)))
      rw [hx]
      by_cases e3 : 1 < i ∧ (s = r ∧ q = o ∧ (a ≠ 1 ∨ k = 4))
      · rw [if_pos e3, if_pos ⟨by omega, e3.2⟩]
      · rw [if_neg e3, if_neg (fun z => by
          by_cases e4 : i = 1
          · exact e ⟨z.2.1, e4⟩
          · exact e3 ⟨by omega, z.2⟩)]
theorem zl_SI {r s : Nat} {a4 a5 a7 a8 : Nat → Int32} (h : zl_I r 4 a4 a5) (w : zl_W s a7 a8) : zl_S r s a5 a7 a8 :=
  ⟨fun j m hj hm => h.2.1 j m hj hm (by omega), w⟩
theorem zl_conflicts {g qn : Int32} {a1 a2 a3 a4 a5 a6 a7 a8 a9 a10 a11 : Nat → Int32} {post : Int32 → St2 → Prop} {k a o q r s : Nat} (P : zl_P k a o q r s a1 a2 a3)
    (H : ∀ g' a4' a5' a6' a7' a8' a9', zl_S r s a5' a7' a8' → post (if s = r ∧ q = o ∧ (a ≠ 1 ∨ k = 4) then 2 else 0) (nI 4, 1, g', qn, a1, a2, a3, a4', a5', a6', a7', a8', a9', a10, a11)) :
    wpX_conflicts post (nI 4, 0, g, qn, a1, a2, a3, a4, a5, a6, a7, a8, a9, a10, a11) (nI 2) := by
  unfold wpX_conflicts
  dsimp only
  refine zl_badPoint (by omega) (br_t rfl (zl_study0 P (fun g' a4' a5' a6' a7' a8' a9' hI hW => ?_)))
  exact zl_confAt P (zl_SI hI hW) (H g' a4' a5' a6' a7' a8' a9' (zl_SI hI hW))
end
section
/-- the states in the order in which they are reached, and how far they lie -/
def zl_X (r i : Nat) : Nat := match i with
  | 0 => 0
  | 1 => 1
  | 2 => 2
  | 3 => 26 + 24 * r
  | 4 => 3
  | 5 => 27 + 24 * r
  | _ => 123 + 24 * r
def zl_E (i : Nat) : Int32 := match i with
  | 0 => 1
  | 1 => 2
  | 2 => 3
  | 3 => 3
  | _ => 4
theorem zl_X7 {r i : Nat} (hr : r < 4) : zl_X r i < 216 := by
  unfold zl_X
  split <;> omega
theorem zl_Xne {r i m : Nat} (hr : r < 4) (hm : m < 7) (hi : i < m) : zl_X r m ≠ zl_X r i := by
  rcases (show m = 0 ∨ m = 1 ∨ m = 2 ∨ m = 3 ∨ m = 4 ∨ m = 5 ∨ m = 6 by omega) with e | e | e | e | e | e | e <;>
  rcases (show i = 0 ∨ i = 1 ∨ i = 2 ∨ i = 3 ∨ i = 4 ∨ i = 5 by omega) with f | f | f | f | f | f <;>
  subst e <;> subst f <;> first | omega | (simp only [zl_X]; omega)
def zl_B (r m : Nat) (a10 a11 : Nat → Int32) : Prop :=
  (∀ i, i < m → a11 i = nI (zl_X r i) ∧ a10 (zl_X r i) = zl_E i) ∧ (∀ y, y < 216 → (∀ i, i < m → y ≠ zl_X r i) → a10 y = -1)
theorem zl_Bs {r m : Nat} {a10 a11 : Nat → Int32} (hr : r < 4) (hm : m < 7) (h : zl_B r m a10 a11) : zl_B r (m + 1) (upd a10 (zl_X r m) (zl_E m)) (upd a11 m (nI (zl_X r m))) := by
  obtain ⟨h1, h2⟩ := h
  refine ⟨fun i hi => ?_, fun y hy hn => ?_⟩
  · by_cases e : i = m
    · subst e
      exact ⟨pk_us, pk_us⟩
    · rw [pk_un e, pk_un (fun z => zl_Xne hr hm (show i < m by omega) z.symm)]
      exact h1 i (by omega)
  · rw [pk_un (hn m (by omega))]
    exact h2 y hy (fun i hi => hn i (by omega))
theorem zl_reach {c st g : Int32} {a1 a2 a3 a4 a5 a6 a7 a8 a9 a10 a11 : Nat → Int32} {post : St2 → Prop} {r m : Nat} {x d : Int32} (hr : r < 4) (hm : m < 7) (hB : zl_B r m a10 a11) (hx : x = nI (zl_X r m)) (hd : d = zl_E m)
    (H : ∀ a10' a11', zl_B r (m + 1) a10' a11' → post (c, st, g, nI (m + 1), a1, a2, a3, a4, a5, a6, a7, a8, a9, a10', a11')) : wpX_reach post (c, st, g, nI m, a1, a2, a3, a4, a5, a6, a7, a8, a9, a10, a11) x d := by
  subst hx hd
  have hX := zl_X7 (i := m) hr
  unfold wpX_reach
  dsimp only
  refine ⟨pk_in _ 216 hX, ?_⟩
  rw [nI_clamp (show zl_X r m < 2 ^ 31 by omega), nI_clamp (show m < 2 ^ 31 by omega)]
  refine br_t (hB.2 _ hX (fun i hi => zl_Xne hr hm hi)) ⟨pk_in _ 216 hX, nm_e ⟨pk_in m 216 (by omega), nm_e (nm_r (nI_1 m) (H _ _ (zl_Bs hr hm hB)))⟩⟩
/-- before the loan, another point than the loan's: the next point -/
theorem zl_sbA {st g : Int32} {a1 a2 a3 a4 a5 a6 a7 a8 a9 a10 a11 : Nat → Int32} {post : St2 → Prop} {p k r m : Nat} (h3 : p < 3) (p1 : p ≠ 1) (hk : a1 p = nI k) (k8 : k ≤ 8) (hr : r < 4) (hm : m < 7) (hB : zl_B r m a10 a11)
    (hx : p + 1 = zl_X r m) (hd : a10 p + 1 = zl_E m)
    (H : ∀ a10' a11', zl_B r (m + 1) a10' a11' → post (nI 4, st, g, nI (m + 1), a1, a2, a3, a4, a5, a6, a7, a8, a9, a10', a11')) : wpX_stepBefore post (nI 4, st, g, nI m, a1, a2, a3, a4, a5, a6, a7, a8, a9, a10, a11) (nI p) (nI 1) := by
  unfold wpX_stepBefore
  dsimp only
  refine ⟨pk_in p 216 (by omega), nm_r (e' := zl_E m) (by rw [nI_clamp (by omega)]; exact hd) ⟨3, ?_⟩⟩
  refine pk_le 2 0 (fun z => absurd z (by omega)) (fun _ => zl_behind0 (by omega) hk k8 (fun _ => br_f (zl_ne (by omega)) ?_) (fun z => absurd z (by omega)))
  refine zl_reach hr hm hB (by rw [hx]) rfl (fun a10' a11' hB' => pk_eq p 1 (fun z => absurd z p1) (fun _ => nm_r (nI_1 0) ?_))
  refine pk_le 2 1 (fun z => absurd z (by omega)) (fun _ => zl_behind1 (by omega) hk k8 (br_t rfl (nm_r (nI_1 1) ?_)))
  exact pk_le 2 2 (fun _ => H a10' a11' hB') (fun z => absurd z (by omega))
theorem zl_24 (r : Nat) : ((24 : Int32) + 24 * nI r) + nI 2 = nI (26 + 24 * r) := by
  rw [show (24 : Int32) = nI 24 from rfl, pk_mul, nI_add, nI_add, show 24 + 24 * r + 2 = 26 + 24 * r by omega]
theorem zl_sb1 {st g : Int32} {a1 a2 a3 a4 a5 a6 a7 a8 a9 a10 a11 : Nat → Int32} {post : St2 → Prop} {k r : Nat} (hk : a1 1 = nI k) (k8 : k ≤ 8) (h2 : a2 1 = nI r) (hr : r < 4) (hB : zl_B r 2 a10 a11)
    (H : ∀ a10' a11', zl_B r 4 a10' a11' → post (nI 4, st, g, nI 4, a1, a2, a3, a4, a5, a6, a7, a8, a9, a10', a11')) : wpX_stepBefore post (nI 4, st, g, nI 2, a1, a2, a3, a4, a5, a6, a7, a8, a9, a10, a11) (nI 1) (nI 1) := by
  unfold wpX_stepBefore
  dsimp only
  refine ⟨pk_in 1 216 (by omega), nm_r (e' := 3) (by rw [nI_clamp (by omega), show a10 1 = 2 from (hB.1 1 (by omega)).2]; rfl) ⟨3, ?_⟩⟩
  refine pk_le 2 0 (fun z => absurd z (by omega)) (fun _ => zl_behind0 (by omega) hk k8 (fun _ => br_f (zl_ne (by omega)) ?_) (fun z => absurd z (by omega)))
  refine zl_reach hr (m := 2) (by omega) hB rfl rfl (fun a10' a11' hB' => br_t rfl ⟨pk_in 1 24 (by omega), ?_⟩)
  refine zl_reach hr (m := 3) (by omega) hB' (by rw [nI_clamp (by omega), h2]; exact zl_24 r) rfl (fun a10'' a11'' hB'' => nm_r (nI_1 0) ?_)
  refine pk_le 2 1 (fun z => absurd z (by omega)) (fun _ => zl_behind1 (by omega) hk k8 (br_t rfl (nm_r (nI_1 1) ?_)))
  exact pk_le 2 2 (fun _ => H a10'' a11'' hB'') (fun z => absurd z (by omega))
theorem zl_sb3 {st g qn : Int32} {a1 a2 a3 a4 a5 a6 a7 a8 a9 a10 a11 : Nat → Int32} {post : St2 → Prop} {k : Nat} (hk : a1 3 = nI k) (k8 : k ≤ 8)
    (H : post (nI 4, st, g, qn, a1, a2, a3, a4, a5, a6, a7, a8, a9, a10, a11)) : wpX_stepBefore post (nI 4, st, g, qn, a1, a2, a3, a4, a5, a6, a7, a8, a9, a10, a11) (nI 3) (nI 1) := by
  unfold wpX_stepBefore
  dsimp only
  refine ⟨pk_in 3 216 (by omega), nm_e ⟨3, ?_⟩⟩
  refine pk_le 2 0 (fun z => absurd z (by omega)) (fun _ => zl_behind0 (by omega) hk k8 (fun z => absurd z (by omega)) (fun _ => br_t rfl (nm_r (nI_1 0) ?_)))
  refine pk_le 2 1 (fun z => absurd z (by omega)) (fun _ => zl_behind1 (by omega) hk k8 (br_t rfl (nm_r (nI_1 1) ?_)))
  exact pk_le 2 2 (fun _ => H) (fun z => absurd z (by omega))
theorem zl_holders {c st g qn : Int32} {a1 a2 a3 a4 a5 a6 a7 a8 a9 a10 a11 : Nat → Int32} {post : Int32 → Prop} {p k : Nat} {x : Int32} (h4 : p < 4) (hk : a1 p = nI k) (k7 : k ≤ 2 ∨ k = 7) (H : post ((1 : Int32) <<< (x &&& 31))) :
    wpX_holdersAfter post (c, st, g, qn, a1, a2, a3, a4, a5, a6, a7, a8, a9, a10, a11) (nI p) x := by
  unfold wpX_holdersAfter
  dsimp only
  have K : wX_holdersAfter_78 post (nI p) x ((1 : Int32) <<< (x &&& 31)) (nI k) c st g qn a1 a2 a3 a4 a5 a6 a7 a8 a9 a10 a11 := pk_eq k 8 (fun z => absurd z (by omega)) (fun _ => br_t rfl H)
  refine nm_e ⟨pk_in p 24 (by omega), nm_r (e' := nI k) (by rw [nI_clamp (by omega)]; exact hk) ?_⟩
  refine pk_eq k 5 (fun z => absurd z (by omega)) (fun _ => pk_eq k 6 (fun z => absurd z (by omega)) (fun _ => ?_))
  exact pk_lt k 3 (fun _ => K) (fun _ => pk_le k 6 (fun z => absurd z (by omega)) (fun _ => K))
theorem zl_sh11 {st g qn : Int32} {a1 a2 a3 a4 a5 a6 a7 a8 a9 a10 a11 : Nat → Int32} {post : St2 → Prop} {k : Nat} {x y z : Int32} (hk : a1 3 = nI k) (k7 : k = 7) (hx : x - x / 24 * 24 = nI 3)
    (H : post (nI 4, st, g, qn, a1, a2, a3, a4, a5, a6, a7, a8, a9, a10, a11)) : wX_stepHeld_11 post x y z (nI 4) st g qn a1 a2 a3 a4 a5 a6 a7 a8 a9 a10 a11 := by
  unfold wX_stepHeld_11
  refine ⟨by decide, by decide, nm_e ⟨by decide, nm_r hx (zl_holders (by omega) hk (by omega) ⟨3, ?_⟩)⟩⟩
  refine pk_le 2 0 (fun z => absurd z (by omega)) (fun _ => zl_behind0 (by omega) hk (by omega) (fun z => absurd z (by omega)) (fun _ => ⟨1, ?_⟩))
  refine pk_le 4 0 (fun z => absurd z (by omega)) (fun _ => br_t rfl (nm_r (nI_1 0) ?_))
  refine pk_le 2 1 (fun z => absurd z (by omega)) (fun _ => zl_behind1 (by omega) hk (by omega) ⟨1, ?_⟩)
  refine pk_le 4 0 (fun z => absurd z (by omega)) (fun _ => br_t rfl (nm_r (nI_1 1) ?_))
  exact pk_le 2 2 (fun _ => H) (fun z => absurd z (by omega))
theorem zl_ar27 : ∀ r, r < 4 → nI (27 + 24 * r) - nI (27 + 24 * r) / 24 * 24 = nI 3 := by decide +kernel
theorem zl_ar123 : ∀ r, r < 4 → nI (123 + 24 * r) - nI (123 + 24 * r) / 24 * 24 = nI 3 ∧ (nI (123 + 24 * r) - 120) / 24 = nI r := by decide +kernel
theorem zl_ar26 : ∀ r, r < 4 → nI (26 + 24 * r) - nI (26 + 24 * r) / 24 * 24 = nI 2 ∧ ((nI (26 + 24 * r) - 24) / 24) - ((nI (26 + 24 * r) - 24) / 24) / 4 * 4 = nI r := by decide +kernel
theorem zl_hb : ∀ r, r < 4 → ∀ i, i < 4 → ((((1 : Int32) <<< (nI r &&& 31)) >>> (nI i &&& 31)) &&& 1) = if i = r then 1 else 0 := by decide +kernel
theorem zl_st (x r : Nat) {z : Int32} (hz : z = nI x) : (z + 24 * nI r) + nI 3 = nI ((x + 3) + 24 * r) := by
  rw [hz, show (24 : Int32) = nI 24 from rfl, pk_mul, nI_add, nI_add, show x + 24 * r + 3 = x + 3 + 24 * r by omega]
theorem zl_sh2 {st g : Int32} {a1 a2 a3 a4 a5 a6 a7 a8 a9 a10 a11 : Nat → Int32} {post : St2 → Prop} {k r : Nat} (hk : a1 2 = nI k) (k7 : k ≤ 2) (hr : r < 4) (hB : zl_B r 5 a10 a11)
    (H : ∀ a10' a11', zl_B r 7 a10' a11' → post (nI 4, st, g, nI 7, a1, a2, a3, a4, a5, a6, a7, a8, a9, a10', a11')) : wpX_stepHeld post (nI 4, st, g, nI 5, a1, a2, a3, a4, a5, a6, a7, a8, a9, a10, a11) (nI (26 + 24 * r)) (nI 2) := by
  unfold wpX_stepHeld
  dsimp only
  refine pk_lt (26 + 24 * r) 120 (fun _ => ?_) (fun z => absurd z (by omega))
  unfold wX_stepHeld_11
  refine ⟨by decide, by decide, nm_r (zl_ar26 r hr).2 ⟨by decide, nm_r (zl_ar26 r hr).1 (zl_holders (by omega) hk (by omega) ⟨3, ?_⟩)⟩⟩
  refine pk_le 2 0 (fun z => absurd z (by omega)) (fun _ => zl_behind0 (by omega) hk (by omega) (fun _ => ?_) (fun z => absurd z (by omega)))
  refine pk_loop (fun n i (s : Nat × (Nat → Int32) × (Nat → Int32)) => wX_stepHeld_61 post (wX_stepHeld_42 post (nI (26 + 24 * r)) (nI 2) 0 (nI 2) ((1 : Int32) <<< (nI r &&& 31)) 2) (nI (26 + 24 * r)) (nI 2) 0 (nI 2) ((1 : Int32) <<< (nI r &&& 31)) 0 (nI 3) n (nI i) (nI 4) st g (nI s.1) a1 a2 a3 a4 a5 a6 a7 a8 a9 s.2.1 s.2.2)
    (fun i s => (s.1 = if r < i then 7 else 5) ∧ zl_B r s.1 s.2.1 s.2.2) 4 0 (5, a10, a11) (by omega) ⟨by rw [if_neg (by omega)], hB⟩ ?_ ?_
  · intro n s h
    obtain ⟨m, b10, b11⟩ := s
    obtain ⟨e, hB'⟩ := h
    dsimp only at e hB'
    rw [if_pos hr] at e
    subst e
    refine pk_le 4 4 (fun _ => nm_r (nI_1 0) ?_) (fun z => absurd z (by omega))
    refine pk_le 2 1 (fun z => absurd z (by omega)) (fun _ => zl_behind1 (by omega) hk (by omega) ⟨1, ?_⟩)
    refine pk_le 4 0 (fun z => absurd z (by omega)) (fun _ => br_t rfl (nm_r (nI_1 1) ?_))
    exact pk_le 2 2 (fun _ => H b10 b11 hB') (fun z => absurd z (by omega))
  · intro n i s hi h hw
    obtain ⟨m, b10, b11⟩ := s
    obtain ⟨e, hB'⟩ := h
    dsimp only at e hB'
    refine pk_le 4 i (fun z => absurd z (by omega)) (fun _ => br_f (zl_ne (by omega)) ?_)
    rw [zl_hb r hr i hi]
    by_cases ei : i = r
    · subst ei
      rw [if_neg (by omega)] at e
      subst e
      refine br_t (if_pos rfl) ⟨pk_in (26 + 24 * i) 216 (by omega), ?_⟩
      unfold wpX_stepTo
      dsimp only
      refine br_t rfl ?_
      have d3 : b10 (26 + 24 * i) = 3 := (hB'.1 3 (by omega)).2
      refine zl_reach hr (m := 5) (by omega) hB' (zl_st 24 i rfl) (by rw [nI_clamp (by omega), d3]; rfl) (fun c10 c11 hC => br_t rfl ⟨pk_in (26 + 24 * i) 216 (by omega), ?_⟩)
      refine br_f (by decide) ?_
      have d3' : c10 (26 + 24 * i) = 3 := (hC.1 3 (by omega)).2
      refine zl_reach hr (m := 6) (by omega) hC (zl_st 120 i rfl) (by rw [nI_clamp (by omega)]; show c10 (26 + 24 * i) + 1 = _; rw [d3']; rfl) (fun e10 e11 hE => nm_r (nI_1 i) ?_)
      exact hw (7, e10, e11) ⟨by rw [if_pos (by omega)], hE⟩
    · refine br_f (by rw [if_neg ei]; decide) (nm_r (nI_1 i) (hw (m, b10, b11) ⟨?_, hB'⟩))
      show m = _
      rw [e]
      by_cases e2 : r < i
      · rw [if_pos e2, if_pos (by omega)]
      · rw [if_neg e2, if_neg (by omega)]
theorem zl_bfs {st g : Int32} {a1 a2 a3 a4 a5 a6 a7 a8 a9 a10 a11 : Nat → Int32} {post : Int32 → St2 → Prop} {k a o q r s : Nat} (P : zl_P k a o q r s a1 a2 a3) (hB : zl_B r 1 a10 a11)
    (H : ∀ qn' a10' a11', post (if s = r then 4 else (-3)) (nI 4, st, g, qn', a1, a2, a3, a4, a5, a6, a7, a8, a9, a10', a11')) :
    ∃ fu, wX_shown_65 post (nI 1) (nI 2) fu 0 (nI 4) st g (nI 1) a1 a2 a3 a4 a5 a6 a7 a8 a9 a10 a11 := by
  obtain ⟨⟨h0, h1, h2, h3⟩, ⟨b1, b2, b3⟩, b4, hk, ha, ho, hq, hr, hs⟩ := P
  refine ⟨8, ?_⟩
  -- 0: the first point
  refine pk_le 1 0 (fun z => absurd z (by omega)) (fun _ => ⟨pk_in 0 216 (by omega), nm_r (e' := nI 0) (hB.1 0 (by omega)).1 ?_⟩)
  refine pk_lt 0 120 (fun _ => pk_le 24 0 (fun z => absurd z (by omega)) (fun _ => ?_)) (fun z => absurd z (by omega))
  refine zl_sbA (m := 1) (by omega) (by omega) h0 (by omega) hr (by omega) hB rfl (by rw [show a10 0 = 1 from (hB.1 0 (by omega)).2]; rfl) (fun d10 d11 hB => nm_r (nI_1 0) ?_)
  -- 1: the loan
  refine pk_le 2 1 (fun z => absurd z (by omega)) (fun _ => ⟨pk_in 1 216 (by omega), nm_r (e' := nI 1) (hB.1 1 (by omega)).1 ?_⟩)
  refine pk_lt 1 120 (fun _ => pk_le 24 1 (fun z => absurd z (by omega)) (fun _ => ?_)) (fun z => absurd z (by omega))
  refine zl_sb1 h1 (by omega) b1 hr hB (fun d10 d11 hB => nm_r (nI_1 1) ?_)
  -- 2: the third point, without the loan
  refine pk_le 4 2 (fun z => absurd z (by omega)) (fun _ => ⟨pk_in 2 216 (by omega), nm_r (e' := nI 2) (hB.1 2 (by omega)).1 ?_⟩)
  refine pk_lt 2 120 (fun _ => pk_le 24 2 (fun z => absurd z (by omega)) (fun _ => ?_)) (fun z => absurd z (by omega))
  refine zl_sbA (m := 4) (by omega) (by omega) h2 (by omega) hr (by omega) hB rfl (by rw [show d10 2 = 3 from (hB.1 2 (by omega)).2]; rfl) (fun d10 d11 hB => nm_r (nI_1 2) ?_)
  -- 3: the third point, with the loan
  refine pk_le 5 3 (fun z => absurd z (by omega)) (fun _ => ⟨pk_in 3 216 (by omega), nm_r (e' := nI (26 + 24 * r)) (hB.1 3 (by omega)).1 ?_⟩)
  refine pk_lt (26 + 24 * r) 120 (fun _ => pk_le 24 (26 + 24 * r) (fun _ => ?_) (fun z => absurd z (by omega))) (fun z => absurd z (by omega))
  refine zl_sh2 h2 ha hr hB (fun d10 d11 hB => nm_r (nI_1 3) ?_)
  -- 4: the last point, without the loan
  refine pk_le 7 4 (fun z => absurd z (by omega)) (fun _ => ⟨pk_in 4 216 (by omega), nm_r (e' := nI 3) (hB.1 4 (by omega)).1 ?_⟩)
  refine pk_lt 3 120 (fun _ => pk_le 24 3 (fun z => absurd z (by omega)) (fun _ => ?_)) (fun z => absurd z (by omega))
  refine zl_sb3 h3 (by omega) (nm_r (nI_1 4) ?_)
  -- 5: the last point, with the loan
  refine pk_le 7 5 (fun z => absurd z (by omega)) (fun _ => ⟨pk_in 5 216 (by omega), nm_r (e' := nI (27 + 24 * r)) (hB.1 5 (by omega)).1 ?_⟩)
  refine pk_lt (27 + 24 * r) 120 (fun _ => pk_le 24 (27 + 24 * r) (fun _ => ?_) (fun z => absurd z (by omega))) (fun z => absurd z (by omega))
  refine pk_lt (27 + 24 * r) 120 (fun _ => zl_sh11 h3 rfl (zl_ar27 r hr) (nm_r (nI_1 5) ?_)) (fun z => absurd z (by omega))
  -- 6: the last point, with the loan, behind the conflict
  refine pk_le 7 6 (fun z => absurd z (by omega)) (fun _ => ⟨pk_in 6 216 (by omega), nm_r (e' := nI (123 + 24 * r)) (hB.1 6 (by omega)).1 ?_⟩)
  refine pk_lt (123 + 24 * r) 120 (fun z => absurd z (by omega)) (fun _ => ⟨by decide, ?_⟩)
  rw [(zl_ar123 r hr).1, (zl_ar123 r hr).2, nI_clamp (show 3 < 2 ^ 31 by omega), nI_clamp (show 123 + 24 * r < 2 ^ 31 by omega), h3, b3]
  refine ⟨pk_in 3 24 (by omega), br_t rfl ⟨by decide, pk_in 3 24 (by omega), by decide, pk_eq s r (fun e => ⟨pk_in (123 + 24 * r) 216 (by omega), ?_⟩) (fun e => ?_)⟩⟩
  · rw [show d10 (123 + 24 * r) = 4 from (hB.1 6 (by omega)).2]
    have H' := H (nI 7) d10 d11
    rw [if_pos e] at H'
    exact H'
  · refine pk_le 24 (123 + 24 * r) (fun _ => ?_) (fun z => absurd z (by omega))
    refine pk_lt (123 + 24 * r) 120 (fun z => absurd z (by omega)) (fun _ => zl_sh11 h3 rfl (zl_ar123 r hr).1 (nm_r (nI_1 6) ?_))
    refine pk_le 7 7 (fun _ => ?_) (fun z => absurd z (by omega))
    have H' := H (nI 7) d10 d11
    rw [if_neg e] at H'
    exact H'
theorem zl_shown {st g qn : Int32} {a1 a2 a3 a4 a5 a6 a7 a8 a9 a10 a11 : Nat → Int32} {post : Int32 → St2 → Prop} {k a o q r s : Nat} (P : zl_P k a o q r s a1 a2 a3)
    (H : ∀ qn' a10' a11', post (if s = r ∧ q = o ∧ (a ≠ 1 ∨ k = 4) then 4 else (-3)) (nI 4, st, g, qn', a1, a2, a3, a4, a5, a6, a7, a8, a9, a10', a11')) :
    wpX_shown post (nI 4, st, g, qn, a1, a2, a3, a4, a5, a6, a7, a8, a9, a10, a11) (nI 1) (nI 2) := by
  have P' := P
  obtain ⟨⟨h0, h1, h2, h3⟩, ⟨b1, b2, b3⟩, b4, hk, ha, ho, hq, hr, hs⟩ := P
  unfold wpX_shown
  dsimp only
  refine zl_badPoint (by omega) (br_t rfl (zl_badPoint (by omega) (br_t rfl ?_)))
  refine zl_disturbs (by omega) (by omega) h2 ha h1 hk b2 hq b4 ho (fun D => br_f (by decide) ?_) (fun D => br_t rfl ?_)
  · refine pk_loop (fun n i (x : Nat → Int32) => wX_shown_32 post (nI 1) (nI 2) (nI 4) st g qn n (nI i) a1 a2 a3 a4 a5 a6 a7 a8 a9 x a11) (fun i x => ∀ j, j < i → x j = -1) 216 0 a10 (by omega) (fun j hj => absurd hj (by omega)) ?_ ?_
    · intro n x hx
      refine pk_le 216 216 (fun _ => ?_) (fun z => absurd z (by omega))
      refine zl_reach (r := r) (m := 0) hr (by omega) ⟨fun i hi => absurd hi (by omega), fun y hy _ => hx y hy⟩ rfl rfl (fun d10 d11 hB => zl_bfs P' hB (fun qn' d10' d11' => ?_))
      have H' := H qn' d10' d11'
      by_cases e : s = r
      · rw [if_pos ⟨e, D⟩] at H'
        rw [if_pos e]
        exact H'
      · rw [if_neg (fun z => e z.1)] at H'
        rw [if_neg e]
        exact H'
    · intro n i x hi hx hw
      refine pk_le 216 i (fun z => absurd z (by omega)) (fun _ => ⟨pk_in i 216 hi, nm_e (nm_r (nI_1 i) (hw _ ?_))⟩)
      exact zl_fill (f := fun _ => -1) (nI_clamp (by omega)) hx rfl
  · have H' := H qn a10 a11
    rw [if_neg (fun z => D z.2)] at H'
    exact H'
end
section
theorem zl_spanA {c st g qn : Int32} {a1 a2 a3 a4 a5 a6 a7 a8 a9 a10 a11 : Nat → Int32} {post : Int32 → St2 → Prop} {J : Int32 → Int32 → Prop} {p : Nat} {y : Int32} (hp : p < 4) (hF : ∀ m, m < 4 → a5 (4 * p + m) = 16777216)
    (H : J y (nI (p + 1))) : ∃ fu, wX_span_32 post J (nI 1) y (nI p) c st g qn a1 a2 a3 a4 a5 a6 a7 a8 a9 a10 a11 fu 0 0 := by
  refine pk_loop (fun n i (x : Int32) => wX_span_32 post J (nI 1) y (nI p) c st g qn a1 a2 a3 a4 a5 a6 a7 a8 a9 a10 a11 n x (nI i)) (fun _ x => x = 0 ∨ x = 16777216) 4 0 0 (by omega) (.inl rfl) ?_ ?_
  · intro n x hx
    refine pk_le 4 4 (fun _ => br_f ?_ (nm_r (nI_1 p) H)) (fun z => absurd z (by omega))
    rcases hx with e | e <;> rw [e] <;> decide
  · intro n i x hi hx hw
    refine pk_le 4 i (fun z => absurd z (by omega)) (fun _ => ⟨pk_in p 24 (by omega), ?_⟩)
    refine br_c (fun _ => ⟨pk_in (4 * p + i) 96 (by omega) (zl_ix p i), nm_e (nm_r (nI_1 i) (hw _ (.inr ?_)))⟩) (fun _ => nm_r (nI_1 i) (hw _ hx))
    rw [zl_ixc p i (by omega), hF i hi]
    rcases hx with e | e <;> rw [e] <;> decide
theorem zl_Fb (r s : Nat) : ((zl_F r 2 s >>> (nI 1 &&& 31)) &&& 1) = if s = r then 1 else 0 := by
  unfold zl_F
  by_cases e : s = r
  · rw [if_pos (by omega), if_pos e]; decide
  · rw [if_neg (by omega), if_neg e]; decide
theorem zl_spanB {c st g qn : Int32} {a1 a2 a3 a4 a5 a6 a7 a8 a9 a10 a11 : Nat → Int32} {post : Int32 → St2 → Prop} {J : Int32 → Int32 → Prop} {p r s : Nat} {y : Int32} (hp : p < 4) (hs : s < 4) (h7 : a7 p = zl_b s) (hF : ∀ m, m < 4 → a5 (4 * p + m) = zl_F r 2 m)
    (H1 : s = r → J (y ||| ((1 : Int32) <<< (nI p &&& 31))) (nI (p + 1))) (H0 : s ≠ r → J y (nI (p + 1))) : ∃ fu, wX_span_32 post J (nI 1) y (nI p) c st g qn a1 a2 a3 a4 a5 a6 a7 a8 a9 a10 a11 fu 0 0 := by
  refine pk_loop (fun n i (x : Int32) => wX_span_32 post J (nI 1) y (nI p) c st g qn a1 a2 a3 a4 a5 a6 a7 a8 a9 a10 a11 n x (nI i)) (fun i x => x = if s < i then zl_F r 2 s else 0) 4 0 0 (by omega) (by rw [if_neg (by omega)]) ?_ ?_
  · intro n x hx
    rw [if_pos hs] at hx
    subst hx
    refine pk_le 4 4 (fun _ => ?_) (fun z => absurd z (by omega))
    rw [zl_Fb]
    by_cases e : s = r
    · exact br_t (if_pos e) (nm_e (nm_r (nI_1 p) (H1 e)))
    · exact br_f (by rw [if_neg e]; decide) (nm_r (nI_1 p) (H0 e))
  · intro n i x hi hx hw
    refine pk_le 4 i (fun z => absurd z (by omega)) (fun _ => ⟨pk_in p 24 (by omega), ?_⟩)
    rw [nI_clamp (show p < 2 ^ 31 by omega), h7, zl_bit s hs i hi, zl_ix, nI_clamp (show 4 * p + i < 2 ^ 31 by omega)]
    by_cases e : i = s
    · refine br_t (if_pos e) ⟨pk_in (4 * p + i) 96 (by omega), nm_e (nm_r (nI_1 i) (hw _ ?_))⟩
      rw [hx, if_neg (by omega), if_pos (by omega), hF i hi, e]
      exact Int32.zero_or
    · refine br_f (by rw [if_neg e]; decide) (nm_r (nI_1 i) (hw _ ?_))
      rw [hx]
      by_cases e2 : s < i
      · rw [if_pos e2, if_pos (by omega)]
      · rw [if_neg e2, if_neg (by omega)]
theorem zl_F01 {r j m : Nat} (h : j < 2) : zl_F r j m = 16777216 := by
  unfold zl_F
  rw [if_neg (by omega)]
theorem zl_F3 {r m : Nat} : zl_F r 3 m = zl_F r 2 m := by
  unfold zl_F
  by_cases e : m = r
  · rw [if_pos (by omega), if_pos (by omega)]
  · rw [if_neg (by omega), if_neg (by omega)]
theorem zl_span {g qn : Int32} {a1 a2 a3 a4 a5 a6 a7 a8 a9 a10 a11 : Nat → Int32} {post : Int32 → St2 → Prop} {r s : Nat} (hs : s < 4) (S : zl_S r s a5 a7 a8)
    (H : post (if s = r then 12 else 0) (nI 4, 1, g, qn, a1, a2, a3, a4, a5, a6, a7, a8, a9, a10, a11)) : wpX_span post (nI 4, 1, g, qn, a1, a2, a3, a4, a5, a6, a7, a8, a9, a10, a11) (nI 1) := by
  obtain ⟨hF, w2, w3, _⟩ := S
  unfold wpX_span
  dsimp only
  refine zl_badPoint (by omega) (br_t rfl (zl_study1 ⟨5, ?_⟩))
  refine pk_le 4 0 (fun z => absurd z (by omega)) (fun _ => zl_spanA (p := 0) (by omega) (fun m hm => (hF 0 m (by omega) hm).trans (zl_F01 (by omega))) ?_)
  refine pk_le 4 1 (fun z => absurd z (by omega)) (fun _ => zl_spanA (p := 1) (by omega) (fun m hm => (hF 1 m (by omega) hm).trans (zl_F01 (by omega))) ?_)
  refine pk_le 4 2 (fun z => absurd z (by omega)) (fun _ => zl_spanB (p := 2) (r := r) (by omega) hs w2 (fun m hm => hF 2 m (by omega) hm) (fun e => ?_) (fun e => ?_))
  · refine pk_le 4 3 (fun z => absurd z (by omega)) (fun _ => zl_spanB (p := 3) (r := r) (by omega) hs w3 (fun m hm => (hF 3 m (by omega) hm).trans zl_F3) (fun _ => ?_) (fun z => absurd e z))
    refine pk_le 4 4 (fun _ => ?_) (fun z => absurd z (by omega))
    rw [if_pos e] at H
    exact H
  · refine pk_le 4 3 (fun z => absurd z (by omega)) (fun _ => zl_spanB (p := 3) (r := r) (by omega) hs w3 (fun m hm => (hF 3 m (by omega) hm).trans zl_F3) (fun z => absurd z e) (fun _ => ?_))
    refine pk_le 4 4 (fun _ => ?_) (fun z => absurd z (by omega))
    rw [if_neg e] at H
    exact H
theorem zl_holds {g qn : Int32} {a1 a2 a3 a4 a5 a6 a7 a8 a9 a10 a11 : Nat → Int32} {post : Int32 → St2 → Prop} {r s : Nat} (hr : r < 4) (S : zl_S r s a5 a7 a8)
    (H : post 2 (nI 4, 1, g, qn, a1, a2, a3, a4, a5, a6, a7, a8, a9, a10, a11)) : wpX_holds post (nI 4, 1, g, qn, a1, a2, a3, a4, a5, a6, a7, a8, a9, a10, a11) (nI 3) (nI r) := by
  unfold wpX_holds
  dsimp only
  refine zl_badPoint (by omega) (br_t rfl (zl_badRef hr (br_t rfl (zl_study1 ⟨pk_in (4 * 3 + r) 96 (by omega) (zl_ix 3 r), ?_⟩))))
  dsimp only
  rw [zl_ixc 3 r (by omega), S.1 3 r (by omega) hr]
  unfold zl_F
  rw [if_pos (by omega)]
  exact H
theorem zl_idle {g qn : Int32} {a1 a2 a3 a4 a5 a6 a7 a8 a9 a10 a11 : Nat → Int32} {post : Int32 → St2 → Prop} {r s : Nat} (hs : s < 4) (h1 : a1 3 = nI 7) (h2 : a2 3 = nI s) (S : zl_S r s a5 a7 a8)
    (H : post (if s = r then 0 else 1) (nI 4, 1, g, qn, a1, a2, a3, a4, a5, a6, a7, a8, a9, a10, a11)) : wpX_idle post (nI 4, 1, g, qn, a1, a2, a3, a4, a5, a6, a7, a8, a9, a10, a11) (nI 3) := by
  unfold wpX_idle
  dsimp only
  refine zl_badPoint (by omega) (br_t rfl (zl_study1 ?_))
  unfold wpX_isIdle
  dsimp only
  rw [nI_clamp (show 3 < 2 ^ 31 by omega), h1, h2, zl_ix, nI_clamp (show 4 * 3 + s < 2 ^ 31 by omega), S.1 3 s (by omega) hs]
  refine ⟨pk_in 3 24 (by omega), br_t rfl ⟨pk_in 3 24 (by omega), pk_in (4 * 3 + s) 96 (by omega), ?_⟩⟩
  unfold zl_F
  by_cases e : s = r
  · rw [if_pos e] at H
    rw [if_pos (by omega)]
    exact br_t (by decide) ⟨rfl, H⟩
  · rw [if_neg e] at H
    rw [if_neg (by omega)]
    exact br_f (by decide) ⟨rfl, H⟩
end
section
theorem zl_t1 {post : Int32 → St0 → Prop} {mc ms kc ks : Nat} (H : post 1 ()) : wL_lawOf_169 post mc ms 2 4 12 2 0 1 1 kc ks :=
  br_f (by decide) (br_t rfl (br_f (by decide) (br_t rfl (br_f (by decide) (br_t rfl (br_t rfl (br_f (by decide) (br_t rfl H))))))))
theorem zl_t2 {post : Int32 → St0 → Prop} {mc ms kc ks : Nat} (H : post 1 ()) : wL_lawOf_169 post mc ms 0 (-3) 12 2 0 1 0 kc ks :=
  br_t rfl (br_t rfl (br_t rfl (br_t rfl (br_f (by decide) (br_t rfl (br_t rfl (br_f (by decide) (br_t rfl H))))))))
theorem zl_t3 {post : Int32 → St0 → Prop} {mc ms kc ks : Nat} (H : post 1 ()) : wL_lawOf_169 post mc ms 0 (-3) 0 2 1 0 0 kc ks :=
  br_t rfl (br_t rfl (br_t rfl (br_t rfl (br_t rfl (br_t rfl (br_t rfl (br_t rfl (br_t rfl H))))))))
theorem zl_tail {post : Int32 → St0 → Prop} {mc ms kc ks k a o q r s : Nat} (hk : k = 3 ∨ k = 4) (ha : a ≤ 2) (ho : o < 4) (hq : q < 4) (hr : r < 4) (hs : s < 4) (H : post 1 ())
    {x10 x11 x12 x14 : Int32} (h10 : x10 = if s = r ∧ q = o ∧ (a ≠ 1 ∨ k = 4) then 2 else 0) (h11 : x11 = if s = r ∧ q = o ∧ (a ≠ 1 ∨ k = 4) then 4 else (-3)) (h12 : x12 = if s = r then 12 else 0) (h14 : x14 = if s = r then 0 else 1) :
    (nI r = nI s → wL_lawOf_138 post mc ms (nI o) (nI q) (nI k) (nI a) x10 x11 x12 2 x14 1 kc ks) ∧ (¬ nI r = nI s → wL_lawOf_138 post mc ms (nI o) (nI q) (nI k) (nI a) x10 x11 x12 2 x14 0 kc ks) := by
  refine pk_eq r s (fun e => ?_) (fun e => ?_)
  · have e' : s = r := e.symm
    rw [if_pos e'] at h12 h14
    have T1 : (q = o ∧ (a ≠ 1 ∨ k = 4)) → wL_lawOf_169 post mc ms x10 x11 x12 2 x14 1 1 kc ks := by
      intro D
      rw [if_pos ⟨e', D⟩] at h10 h11
      rw [h10, h11, h12, h14]
      exact zl_t1 H
    have T2 : ¬ (q = o ∧ (a ≠ 1 ∨ k = 4)) → wL_lawOf_169 post mc ms x10 x11 x12 2 x14 1 0 kc ks := by
      intro D
      rw [if_neg (fun z => D z.2)] at h10 h11
      rw [h10, h11, h12, h14]
      exact zl_t2 H
    refine br_f (by decide) (pk_eq o q (fun e1 => pk_eq a 1 (fun e2 => pk_eq k 4 (fun e3 => ?_) (fun e3 => ?_)) (fun e2 => ?_)) (fun e1 => ?_))
    · exact T1 ⟨e1.symm, .inr e3⟩
    · exact T2 (fun z => by omega)
    · exact T1 ⟨e1.symm, .inl e2⟩
    · exact T2 (fun z => by omega)
  · have e' : ¬ s = r := fun z => e z.symm
    rw [if_neg (fun z => e' z.1)] at h10 h11
    rw [if_neg e'] at h12 h14
    rw [h10, h11, h12, h14]
    exact br_t rfl (zl_t3 H)
theorem zl_law {post : Int32 → St0 → Prop} (p0 p1 p2 : Int32) (H : post 1 ()) : wpL_lawOf post 372 5952 () p0 p1 p2 := by
  obtain ⟨o, ho, eo⟩ := pk_andE p0 (m := 3) 2 rfl
  obtain ⟨q, hq, eq⟩ := pk_andE (p0 >>> ((2 : Int32) &&& 31)) (m := 3) 2 rfl
  obtain ⟨r, hr, er⟩ := pk_andE p1 (m := 3) 2 rfl
  obtain ⟨s, hs, es⟩ := pk_andE (p1 >>> ((2 : Int32) &&& 31)) (m := 3) 2 rfl
  obtain ⟨k0, hk0, ek0⟩ := pk_andE p2 (m := 1) 1 rfl
  obtain ⟨a0, ha0, ea0⟩ := pk_andE (p2 >>> ((1 : Int32) &&& 31)) (m := 3) 2 rfl
  have ek : 3 + (p2 &&& 1) = nI (3 + k0) := by rw [ek0, show (3 : Int32) = nI 3 from rfl, nI_add]
  have ea : ((p2 >>> ((1 : Int32) &&& 31)) &&& 3) - ((p2 >>> ((1 : Int32) &&& 31)) &&& 3) / 3 * 3 = nI (a0 % 3) := by
    rw [ea0]
    exact pk_rem (d := 3) (by omega) (by omega) (by omega)
  have hk : 3 + k0 = 3 ∨ 3 + k0 = 4 := by omega
  have ha : a0 % 3 ≤ 2 := by omega
  generalize 3 + k0 = k at ek hk
  generalize a0 % 3 = a at ea ha
  unfold wpL_lawOf
  refine ⟨by omega, by omega, 371, 5937, by omega, by omega, ?_⟩
  unfold wpX_init
  dsimp only
  refine ⟨by omega, by omega, by omega, by omega, by omega, by omega, by omega, by omega, by omega, by omega, by omega, by omega, by omega, by omega, by omega, by omega, by omega, by omega, by omega, by omega, by omega, by omega, ?_⟩
  refine nm_r eo (nm_r eq (nm_r er (nm_r es (nm_r ek ⟨by decide, nm_r ea ?_⟩))))
  refine zl_point (n := 0) (k := 0) (y := 0) (by omega) (by omega) (by omega) (by omega) (fun _ => ?_)
  refine zl_point (n := 1) (by omega) (by omega) (by omega) (by omega) (fun _ => ?_)
  refine zl_point (n := 2) (y := 0) (by omega) (by omega) (by omega) (by omega) (fun _ => ?_)
  refine zl_point (n := 3) (k := 7) (y := 0) (by omega) (by omega) (by omega) (by omega) (fun _ => ?_)
  have P : zl_P k a o q r s (upd (upd (upd (upd (fun _ => 0) 0 (nI 0)) 1 (nI k)) 2 (nI a)) 3 (nI 7)) (upd (upd (upd (upd (fun _ => 0) 0 (nI o)) 1 (nI r)) 2 (nI q)) 3 (nI s)) (upd (upd (upd (upd (fun _ => 0) 0 (nI 0)) 1 (nI o)) 2 (nI 0)) 3 (nI 0)) :=
    ⟨⟨rfl, rfl, rfl, rfl⟩, ⟨rfl, rfl, rfl⟩, rfl, hk, ha, ho, hq, hr, hs⟩
  refine zl_conflicts P (fun g' a4' a5' a6' a7' a8' a9' hS => ?_)
  refine zl_shown P (fun qn' a10' a11' => ?_)
  refine zl_span hs hS ?_
  refine zl_holds hr hS ?_
  refine zl_idle hs rfl rfl hS ?_
  exact zl_tail hk ha ho hq hr hs H rfl rfl rfl rfl
theorem zl_cell {post : Int32 → Prop} {L i : Nat} {xs : Nat → Int32} {u : St0} (hL : L ≤ 3) (hi : i < 3) (H : ∀ v, post v) : wpL_cellAt post L xs u (nI i) :=
  pk_le L i (fun _ => H _) (fun z => ⟨pk_in i L z, H _⟩)
theorem i_vc (xs : Nat → Int32) (L : Nat) (hL : L ≤ 3) : wpL_law (fun r => r = 1) L xs := by
  unfold wpL_law
  refine zl_cell (i := 0) hL (by omega) (fun v0 => zl_cell (i := 1) hL (by omega) (fun v1 => zl_cell (i := 2) hL (by omega) (fun v2 => ⟨372, 5952, by omega, by omega, ?_⟩)))
  exact zl_law v0 v1 v2 rfl
end
