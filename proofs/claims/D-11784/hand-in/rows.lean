section
/-- an update over naturals -/
def bs_up (f : Nat → Nat) (k v : Nat) : Nat → Nat := fun j => if j = k then v else f j
theorem bs_us {f : Nat → Nat} {k v : Nat} : bs_up f k v k = v := if_pos rfl
theorem bs_un {f : Nat → Nat} {k v j : Nat} (h : j ≠ k) : bs_up f k v j = f j := if_neg h
theorem bs_upd (l : Nat → Nat) (k v : Nat) : upd (fun j => nI (l j)) k (nI v) = fun j => nI (bs_up l k v j) := by
  funext j
  by_cases h : j = k
  · rw [h, pk_us, bs_us]
  · rw [pk_un h, bs_un h]
/-- the sum of the first n lengths -/
def bs_sum (l : Nat → Nat) : Nat → Nat
  | 0 => 0
  | n + 1 => bs_sum l n + l n
/-- the state: keyed, piled, bottom, the line, lengths, bodies, the store, and two arrays that nothing here touches -/
abbrev bs_S (K P B : Nat) (ln : Nat → Int32) (l b : Nat → Nat) (st a5 a6 : Nat → Int32) : St2 := (nI K, nI P, nI B, ln, fun j => nI (l j), fun j => nI (b j), st, a5, a6)
theorem bs_cpy0 {f g : Nat → Int32} {sp dp : Nat} : va_cpy f g sp dp 0 = g := by
  funext j
  exact pk_cpy_out (by omega)
theorem bs_cpyS {f g : Nat → Int32} {sp dp i : Nat} : upd (va_cpy f g sp dp i) (dp + i) (f (sp + i)) = va_cpy f g sp dp (i + 1) := by
  funext j
  by_cases e : j = dp + i
  · rw [e, pk_us, pk_cpy_in (by omega) (by omega), show dp + i - dp = i by omega]
  · rw [pk_un e]
    by_cases h : dp ≤ j ∧ j < dp + i
    · rw [pk_cpy_in h.1 h.2, pk_cpy_in h.1 (by omega)]
    · rw [pk_cpy_out (by omega), pk_cpy_out (by omega)]
theorem bs_top (P : Nat) : (6 : Int32) + nI (P + 1) - 1 = nI (6 + P) := by
  show nI 6 + nI (P + 1) - nI 1 = nI (6 + P)
  rw [nI_add, pk_sub (by omega)]
  congr 1
section
variable {K P B : Nat} {ln st a5 a6 : Nat → Int32} {l b : Nat → Nat}
theorem bs_used {post : Int32 → Prop} (hP : P ≤ 4) (H : post (nI (bs_sum l (6 + P)))) : wpX_used post (bs_S K P B ln l b st a5 a6) :=
  pk_loop (σ := Unit) (fun n i _ => wX_used_4 post (nI K) (nI P) (nI B) ln (fun j => nI (l j)) (fun j => nI (b j)) st a5 a6 n (nI (bs_sum l i)) (nI i)) (fun _ _ => True) (6 + P) 0 () (by omega) trivial
    (fun n _ _ => pk_le (6 + P) (6 + P) (fun _ => H) (fun z => absurd z (by omega)) (nI_add 6 P))
    (fun n i _ hi _ hw => pk_le (6 + P) i (fun z => absurd z (by omega)) (fun _ => ⟨pk_in i 10 (by omega), nm_r (by rw [nI_clamp (by omega)]; exact nI_add _ _) (nm_r (nI_1 i) (hw () trivial))⟩) (nI_add 6 P))
theorem bs_refuse {post : Int32 → Prop} {n : Nat} (hP : P < 4) (hn : n ≤ 40) (hs : bs_sum l (6 + P) + n ≤ 100) (H : post 0) : wpX_refuse post (bs_S K P B ln l b st a5 a6) (nI n) :=
  pk_eq P 4 (fun z => absurd z (by omega)) (fun _ => pk_le n 40 (fun _ => bs_used (by omega) (pk_le (bs_sum l (6 + P) + n) 100 (fun _ => H) (fun z => absurd z (by omega)) (nI_add _ _))) (fun z => absurd z (by omega)))
theorem bs_take {post : Int32 → St2 → Prop} {n : Nat} (hn : n ≤ B) (hB : B ≤ 144) (H : post (nI (B - n)) (bs_S K P (B - n) ln l b st a5 a6)) : wpX_take post (bs_S K P B ln l b st a5 a6) (nI n) :=
  pk_le n B (fun _ => nm_r (pk_sub hn) H) (fun z => absurd z (by omega))
theorem bs_pushB {post : St2 → Prop} {n a : Nat} (hP : P < 4) (hn : n ≤ 40) (H : post (bs_S K (P + 1) B ln (bs_up l (6 + P) n) (bs_up b (6 + P) (if n = 0 then 0 else a)) st a5 a6)) : wpX_pushBody post (bs_S K P B ln l b st a5 a6) (nI a) (nI n) := by
  unfold wpX_pushBody
  dsimp only [bs_S]
  refine nm_r (nI_1 P) ?_
  unfold wpX_top
  dsimp only
  rw [bs_top, nI_clamp (show 6 + P < 2 ^ 31 by omega)]
  refine pk_eq n 0 (fun z => ?_) (fun z => ?_)
  · rw [if_pos z] at H
    exact ⟨pk_in (6 + P) 10 (by omega), nm_r (bs_upd b (6 + P) 0) ⟨pk_in (6 + P) 10 (by omega), nm_r (bs_upd l (6 + P) n) H⟩⟩
  · rw [if_neg z] at H
    exact ⟨pk_in (6 + P) 10 (by omega), nm_r (bs_upd b (6 + P) a) ⟨pk_in (6 + P) 10 (by omega), nm_r (bs_upd l (6 + P) n) H⟩⟩
theorem bs_badV {post : Int32 → Prop} {k0 p0 b0 : Int32} {a1 a2 a3 a4 a5 a6 : Nat → Int32} {v : Nat} (hv : v < 6) (H : post 0) : wpX_badVariable post (k0, p0, b0, a1, a2, a3, a4, a5, a6) (nI v) :=
  pk_lt v 0 (fun z => absurd z (by omega)) (fun _ => pk_lt v 6 (fun _ => H) (fun z => absurd z (by omega)))
theorem bs_badB {post : Int32 → Prop} {k0 p0 b0 : Int32} {a1 a2 a3 a4 a5 a6 : Nat → Int32} {v : Nat} (hv : v ≤ 255) (H : post 0) : wpX_badByte post (k0, p0, b0, a1, a2, a3, a4, a5, a6) (nI v) :=
  pk_lt v 0 (fun z => absurd z (by omega)) (fun _ => pk_le v 255 (fun _ => H) (fun z => absurd z (by omega)))
theorem bs_key {post : Int32 → St2 → Prop} {c : Int32} {q : Nat} (hc : c = nI q) (hq : q ≤ 255) (hK : K < 40) (H : post (nI (K + 1)) (bs_S (K + 1) P B (upd ln K c) l b st a5 a6)) : wpX_key post (bs_S K P B ln l b st a5 a6) c := by
  subst hc
  unfold wpX_key
  dsimp only [bs_S]
  refine bs_badB hq (br_t rfl (pk_eq K 40 (fun z => absurd z (by omega)) (fun _ => ⟨pk_in K 40 hK, ?_⟩)))
  rw [nI_clamp (show K < 2 ^ 31 by omega)]
  exact nm_e (nm_r (nI_1 K) H)
theorem bs_let {post : Int32 → St2 → Prop} {v : Nat} (hv : v < 6) (hP : P < 4) (H : post (nI (l (6 + P))) (bs_S K P B ln (bs_up l v (l (6 + P))) (bs_up b v (b (6 + P))) st a5 a6)) : wpX_let post (bs_S K (P + 1) B ln l b st a5 a6) (nI v) := by
  unfold wpX_let
  dsimp only [bs_S]
  refine bs_badV hv (br_t rfl (pk_eq (P + 1) 0 (fun z => absurd z (by omega)) (fun _ => ?_)))
  unfold wpX_top
  dsimp only
  rw [bs_top, nI_clamp (show 6 + P < 2 ^ 31 by omega), nI_clamp (show v < 2 ^ 31 by omega)]
  refine ⟨pk_in (6 + P) 10 (by omega), pk_in v 10 (by omega), nm_r (bs_upd b v _) ⟨pk_in (6 + P) 10 (by omega), pk_in v 10 (by omega), nm_r (bs_upd l v _) (nm_r (nI_pred P) ⟨pk_in v 10 (by omega), ?_⟩)⟩⟩
  dsimp only
  rw [bs_us]
  exact H
theorem bs_push {post : Int32 → St2 → Prop} {v : Nat} (hv : v < 6) (hP : P < 4) (hl : l v ≤ 40) (hs : bs_sum l (6 + P) + l v ≤ 100) (H : post (nI (l v)) (bs_S K (P + 1) B ln (bs_up l (6 + P) (l v)) (bs_up b (6 + P) (if l v = 0 then 0 else b v)) st a5 a6)) : wpX_push post (bs_S K P B ln l b st a5 a6) (nI v) := by
  unfold wpX_push
  dsimp only [bs_S]
  rw [nI_clamp (show v < 2 ^ 31 by omega)]
  refine bs_badV hv (br_t rfl ⟨pk_in v 10 (by omega), bs_refuse hP hl hs (br_t (by decide) ⟨pk_in v 10 (by omega), pk_in v 10 (by omega), bs_pushB hP hl ?_⟩)⟩)
  refine ⟨pk_in v 10 (by omega), ?_⟩
  dsimp only
  rw [bs_un (show v ≠ 6 + P by omega)]
  exact H
theorem bs_mid {post : Int32 → St2 → Prop} {i n m : Nat} (hi : i ≤ 254) (hn : n ≤ 255) (hP : P < 4) (hl : i ≤ l (6 + P)) (hl2 : l (6 + P) ≤ 255) (hm : m = min n (l (6 + P) - i)) (H : post (nI m) (bs_S K (P + 1) B ln (bs_up l (6 + P) m) (bs_up b (6 + P) (if m = 0 then 0 else b (6 + P) + i)) st a5 a6)) : wpX_mid post (bs_S K (P + 1) B ln l b st a5 a6) (nI (i + 1)) (nI n) := by
  have c50 : ∀ k, k = m → wX_cut_50 post (nI (6 + P)) (nI i) (nI k) (nI K) (nI (P + 1)) (nI B) ln (fun j => nI (l j)) (fun j => nI (b j)) st a5 a6 := by
    intro k hk
    subst hk
    unfold wX_cut_50 wX_cut_75
    rw [nI_clamp (show 6 + P < 2 ^ 31 by omega)]
    refine pk_eq k 0 (fun z => ?_) (fun z => ⟨pk_in (6 + P) 10 (by omega), ?_⟩)
    · rw [if_pos z] at H
      exact ⟨pk_in (6 + P) 10 (by omega), nm_r (bs_upd b (6 + P) 0) ⟨pk_in (6 + P) 10 (by omega), nm_r (bs_upd l (6 + P) k) H⟩⟩
    · rw [if_neg z] at H
      exact ⟨pk_in (6 + P) 10 (by omega), nm_r (by rw [nI_add]; exact bs_upd b (6 + P) _) ⟨pk_in (6 + P) 10 (by omega), nm_r (bs_upd l (6 + P) k) H⟩⟩
  unfold wpX_mid
  dsimp only [bs_S]
  refine pk_lt (i + 1) 1 (fun z => absurd z (by omega)) (fun _ => pk_lt 255 (i + 1) (fun z => absurd z (by omega)) (fun _ => bs_badB hn (br_t rfl (pk_eq (P + 1) 0 (fun z => absurd z (by omega)) (fun _ => ?_)))))
  unfold wpX_cut wpX_top
  dsimp only
  rw [bs_top, nI_pred]
  refine ⟨pk_in (6 + P) 10 (by omega), ?_⟩
  unfold wX_cut_25
  rw [nI_clamp (show 6 + P < 2 ^ 31 by omega)]
  refine pk_le i (l (6 + P)) (fun _ => ⟨pk_in (6 + P) 10 (by omega), nm_r (pk_sub hl) ?_⟩) (fun z => absurd z (by omega))
  exact pk_le (l (6 + P) - i) n (fun z => c50 _ (by omega)) (fun z => c50 _ (by omega))
theorem bs_at {post : Int32 → Prop} {v i : Nat} (hv : v < 6) (h1 : 1 ≤ i) (h2 : i ≤ l v) (h3 : b v + l v ≤ 144) (H : post (st (b v + (i - 1)))) : wpX_at post (bs_S K P B ln l b st a5 a6) (nI v) (nI i) := by
  unfold wpX_at
  dsimp only [bs_S]
  refine bs_badV hv (br_t rfl (pk_lt i 1 (fun z => absurd z (by omega)) (fun _ => ⟨pk_in v 10 (by omega), ?_⟩)))
  rw [nI_clamp (show v < 2 ^ 31 by omega)]
  refine pk_le i (l v) (fun _ => ⟨pk_in v 10 (by omega), ?_⟩) (fun z => absurd z (by omega))
  have e : nI (b v) + nI i - 1 = nI (b v + (i - 1)) := by
    show nI (b v) + nI i - nI 1 = _
    rw [nI_add, pk_sub (by omega)]
    congr 1
    omega
  rw [e, nI_clamp (by omega)]
  exact ⟨pk_in (b v + (i - 1)) 144 (by omega), H⟩
theorem bs_at0 {post : Int32 → Prop} {v i : Nat} (hv : v < 6) (h1 : 1 ≤ i) (hi : i < 1000) (h2 : l v < i) (H : post 0) : wpX_at post (bs_S K P B ln l b st a5 a6) (nI v) (nI i) := by
  unfold wpX_at
  dsimp only [bs_S]
  refine bs_badV hv (br_t rfl (pk_lt i 1 (fun z => absurd z (by omega)) (fun _ => ⟨pk_in v 10 (by omega), ?_⟩)))
  rw [nI_clamp (show v < 2 ^ 31 by omega)]
  exact pk_le i (l v) (fun z => absurd z (by omega)) (fun _ => H)
theorem bs_len {post : Int32 → Prop} {v : Nat} (hv : v < 6) (H : post (nI (l v))) : wpX_length post (bs_S K P B ln l b st a5 a6) (nI v) := by
  unfold wpX_length
  dsimp only [bs_S]
  refine bs_badV hv (br_t rfl ⟨pk_in v 10 (by omega), ?_⟩)
  rw [nI_clamp (show v < 2 ^ 31 by omega)]
  exact H
end
end
section
section
variable {K P B : Nat} {ln st a5 a6 : Nat → Int32} {l b : Nat → Nat}
theorem bs_lit26 {post : Int32 → St2 → Prop} {a : Nat} (hK : K ≤ 40) (ha : a + K ≤ 144) (hP : P < 4) (H : post (nI K) (bs_S K (P + 1) B ln (bs_up l (6 + P) K) (bs_up b (6 + P) (if K = 0 then 0 else a)) (va_cpy ln st 0 a K) a5 a6)) : ∃ n, wX_literal_26 post (nI a) (nI K) (nI P) (nI B) n 0 ln (fun j => nI (l j)) (fun j => nI (b j)) st a5 a6 := by
  refine pk_loop (fun n i s => wX_literal_26 post (nI a) (nI K) (nI P) (nI B) n (nI i) ln (fun j => nI (l j)) (fun j => nI (b j)) s a5 a6) (fun i s => s = va_cpy ln st 0 a i) K 0 st (by omega) bs_cpy0.symm ?_ ?_
  · intro n s h
    subst h
    exact pk_le K K (fun _ => bs_pushB hP hK H) (fun z => absurd z (by omega))
  · intro n i s hi h hw
    refine pk_le K i (fun z => absurd z (by omega)) (fun _ => ⟨pk_in i 40 (by omega), pk_in (a + i) 144 (by omega) (nI_add a i), nm_e (nm_r (nI_1 i) (hw _ ?_))⟩)
    rw [nI_add, nI_clamp (show i < 2 ^ 31 by omega), nI_clamp (show a + i < 2 ^ 31 by omega), h]
    have e := bs_cpyS (f := ln) (g := st) (sp := 0) (dp := a) (i := i)
    rw [Nat.zero_add] at e
    exact e
theorem bs_literal {post : Int32 → St2 → Prop} (hK : K ≤ 40) (hP : P < 4) (hs : bs_sum l (6 + P) + K ≤ 100) (hB : K ≤ B) (hB2 : B ≤ 144) (H : post (nI K) (bs_S K (P + 1) (B - K) ln (bs_up l (6 + P) K) (bs_up b (6 + P) (if K = 0 then 0 else B - K)) (va_cpy ln st 0 (B - K) K) a5 a6)) : wpX_literal post (bs_S K P B ln l b st a5 a6) := by
  unfold wpX_literal
  dsimp only [bs_S]
  refine bs_refuse hP hK hs (br_t (by decide) (bs_take hB hB2 ?_))
  exact bs_lit26 hK (by omega) hP H
theorem bs_rep40 {post : Int32 → St2 → Prop} {a n : Nat} {c : Int32} (hn : n ≤ 40) (ha : a + n ≤ 144) (hP : P < 4) (H : post (nI n) (bs_S K (P + 1) B ln (bs_up l (6 + P) n) (bs_up b (6 + P) (if n = 0 then 0 else a)) (va_cpy (fun _ => c) st 0 a n) a5 a6)) : ∃ f, wX_repeat_40 post (nI n) c (nI a) (nI K) (nI P) (nI B) f 0 ln (fun j => nI (l j)) (fun j => nI (b j)) st a5 a6 := by
  refine pk_loop (fun f i s => wX_repeat_40 post (nI n) c (nI a) (nI K) (nI P) (nI B) f (nI i) ln (fun j => nI (l j)) (fun j => nI (b j)) s a5 a6) (fun i s => s = va_cpy (fun _ => c) st 0 a i) n 0 st (by omega) bs_cpy0.symm ?_ ?_
  · intro f s h
    subst h
    exact pk_le n n (fun _ => bs_pushB hP hn H) (fun z => absurd z (by omega))
  · intro f i s hi h hw
    refine pk_le n i (fun z => absurd z (by omega)) (fun _ => ⟨pk_in (a + i) 144 (by omega) (nI_add a i), nm_e (nm_r (nI_1 i) (hw _ ?_))⟩)
    rw [nI_add, nI_clamp (show a + i < 2 ^ 31 by omega), h]
    exact bs_cpyS (f := fun _ => c) (g := st) (sp := 0) (dp := a) (i := i)
theorem bs_repeat {post : Int32 → St2 → Prop} {n c : Nat} (hn : n ≤ 40) (hc : c ≤ 255) (hP : P < 4) (hs : bs_sum l (6 + P) + n ≤ 100) (hB : n ≤ B) (hB2 : B ≤ 144) (H : post (nI n) (bs_S K (P + 1) (B - n) ln (bs_up l (6 + P) n) (bs_up b (6 + P) (if n = 0 then 0 else B - n)) (va_cpy (fun _ => nI c) st 0 (B - n) n) a5 a6)) : wpX_repeat post (bs_S K P B ln l b st a5 a6) (nI n) (nI c) := by
  unfold wpX_repeat
  dsimp only [bs_S]
  refine bs_badB (by omega) (br_t rfl (bs_badB hc (br_t rfl (bs_refuse hP hn hs (br_t (by decide) (bs_take hB hB2 ?_))))))
  exact bs_rep40 hn (by omega) hP H
theorem bs_copy {post : St2 → Prop} {fr t n : Nat} (hf : fr + n ≤ 144) (ht : t + n ≤ 144) (hd : fr + n ≤ t ∨ t ≤ fr) (H : post (bs_S K P B ln l b (va_cpy st st fr t n) a5 a6)) : wpX_copy post (bs_S K P B ln l b st a5 a6) (nI fr) (nI t) (nI n) := by
  refine pk_loop (fun f i s => wX_copy_3 post (nI fr) (nI t) (nI n) (nI K) (nI P) (nI B) f (nI i) ln (fun j => nI (l j)) (fun j => nI (b j)) s a5 a6) (fun i s => s = va_cpy st st fr t i) n 0 st (by omega) bs_cpy0.symm ?_ ?_
  · intro f s h
    subst h
    exact pk_le n n (fun _ => H) (fun z => absurd z (by omega))
  · intro f i s hi h hw
    refine pk_le n i (fun z => absurd z (by omega)) (fun _ => ⟨pk_in (fr + i) 144 (by omega) (nI_add fr i), pk_in (t + i) 144 (by omega) (nI_add t i), nm_e (nm_r (nI_1 i) (hw _ ?_))⟩)
    rw [nI_add, nI_add, nI_clamp (show fr + i < 2 ^ 31 by omega), nI_clamp (show t + i < 2 ^ 31 by omega), h, pk_cpy_out (j := fr + i) (by omega)]
    exact bs_cpyS (f := st) (g := st) (sp := fr) (dp := t) (i := i)
theorem bs_beg {post : Int32 → Prop} {u v i : Nat} (hu : u < 6) (hv : v < 6) (hbu : b u + i + l v ≤ 144) (hbv : b v + l v ≤ 144) (H1 : (∀ k, k < l v → st (b u + i + k) = st (b v + k)) → post 1) (H0 : ∀ k, k < l v → ¬ st (b u + i + k) = st (b v + k) → post 0) : wpX_beginsAt post (bs_S K P B ln l b st a5 a6) (nI u) (nI v) (nI i) := by
  refine pk_loop (σ := Unit) (fun f c _ => wX_beginsAt_3 post (nI u) (nI v) (nI i) (nI K) (nI P) (nI B) ln (fun j => nI (l j)) (fun j => nI (b j)) st a5 a6 f (nI c)) (fun c _ => ∀ k, k < c → st (b u + i + k) = st (b v + k)) (l v) 0 () (by omega) (fun k hk => absurd hk (by omega)) ?_ ?_
  · intro f s h
    refine ⟨pk_in v 10 (by omega), ?_⟩
    rw [nI_clamp (show v < 2 ^ 31 by omega)]
    exact pk_le (l v) (l v) (fun _ => H1 h) (fun z => absurd z (by omega))
  · intro f c s hc h hw
    refine ⟨pk_in v 10 (by omega), ?_⟩
    rw [nI_clamp (show v < 2 ^ 31 by omega), nI_clamp (show u < 2 ^ 31 by omega)]
    refine pk_le (l v) c (fun z => absurd z (by omega)) (fun _ => ?_)
    rw [nI_add, nI_add, nI_add, nI_clamp (show b u + i + c < 2 ^ 31 by omega), nI_clamp (show b v + c < 2 ^ 31 by omega)]
    refine ⟨pk_in u 10 (by omega), pk_in (b u + i + c) 144 (by omega), pk_in v 10 (by omega), pk_in (b v + c) 144 (by omega), br_c (fun e => nm_r (nI_1 c) (hw () (lt_s h e))) (fun e => H0 c hc e)⟩
theorem bs_find {post : Int32 → Prop} {u v r : Nat} (hu : u < 6) (hv : v < 6) (hl : 0 < l u) (hbu : b u + l u ≤ 144) (hbv : b v + l v ≤ 144) (hr : r + l v ≤ l u) (hm : ∀ k, k < l v → st (b u + r + k) = st (b v + k)) (hn : ∀ i, i < r → ¬ ∀ k, k < l v → st (b u + i + k) = st (b v + k)) (H : post (nI (r + 1))) : wpX_find post (bs_S K P B ln l b st a5 a6) (nI u) (nI v) := by
  unfold wpX_find
  dsimp only [bs_S]
  refine bs_badV hu (br_t rfl (bs_badV hv (br_t rfl ⟨pk_in u 10 (by omega), ?_⟩)))
  rw [nI_clamp (show u < 2 ^ 31 by omega)]
  refine pk_eq (l u) 0 (fun z => absurd z (by omega)) (fun _ => ?_)
  refine pk_loop (σ := Unit) (fun f c _ => wX_find_31 post (nI u) (nI v) (nI K) (nI P) (nI B) ln (fun j => nI (l j)) (fun j => nI (b j)) st a5 a6 f (nI c)) (fun _ _ => True) r 0 () (by omega) trivial ?_ ?_
  · intro f s _
    refine ⟨pk_in v 10 (by omega), pk_in u 10 (by omega), ?_⟩
    rw [nI_clamp (show v < 2 ^ 31 by omega), nI_clamp (show u < 2 ^ 31 by omega)]
    refine pk_lt (l u) (r + l v) (fun z => absurd z (by omega)) (fun _ => bs_beg hu hv (by omega) hbv (fun _ => br_f (by decide) (by rw [nI_1]; exact H)) (fun k hk e => absurd (hm k hk) e)) rfl (nI_add _ _)
  · intro f i s hi _ hw
    refine ⟨pk_in v 10 (by omega), pk_in u 10 (by omega), ?_⟩
    rw [nI_clamp (show v < 2 ^ 31 by omega), nI_clamp (show u < 2 ^ 31 by omega)]
    exact pk_lt (l u) (i + l v) (fun z => absurd z (by omega)) (fun _ => bs_beg hu hv (by omega) hbv (fun e => absurd e (hn i hi)) (fun k hk e => br_t rfl (nm_r (nI_1 i) (hw () trivial)))) rfl (nI_add _ _)
/-- descriptor d has characters in common with descriptor v -/
def bs_sh (l b : Nat → Nat) (P v d : Nat) : Prop := d ≠ v ∧ d < 6 + P ∧ 0 < l d ∧ b d < b v + l v ∧ b v < b d + l d
theorem bs_shared {post : Int32 → Prop} {v : Nat} (hv : v < 6) (hP : P ≤ 4) (hb : ∀ d, d < 10 → b d + l d ≤ 144) (H1 : (∃ d, d < 10 ∧ bs_sh l b P v d) → post 1) (H0 : (∀ d, d < 10 → ¬ bs_sh l b P v d) → post 0) : wpX_shared post (bs_S K P B ln l b st a5 a6) (nI v) := by
  refine pk_loop (fun f d s => wX_shared_4 post (nI v) (nI K) (nI P) (nI B) ln (fun j => nI (l j)) (fun j => nI (b j)) st a5 a6 f s (nI d)) (fun d s => (s = 1 ∧ ∃ e, e < 10 ∧ bs_sh l b P v e) ∨ (s = 0 ∧ ∀ e, e < d → ¬ bs_sh l b P v e)) 10 0 0 (by omega) (Or.inr ⟨rfl, fun e he => absurd he (by omega)⟩) ?_ ?_
  · intro f s h
    refine pk_le 10 10 (fun _ => ?_) (fun z => absurd z (by omega))
    rcases h with ⟨hs, h⟩ | ⟨hs, h⟩
    · subst hs
      exact ⟨rfl, H1 h⟩
    · subst hs
      exact ⟨rfl, H0 h⟩
  · intro f d s hd h hw
    have hb1 := hb d hd
    have hb2 := hb v (by omega)
    have keep : ¬ bs_sh l b P v d → wX_shared_4 post (nI v) (nI K) (nI P) (nI B) ln (fun j => nI (l j)) (fun j => nI (b j)) st a5 a6 f s (nI (d + 1)) := by
      intro hn
      refine hw s ?_
      rcases h with h | ⟨hs, h⟩
      · exact Or.inl h
      · exact Or.inr ⟨hs, lt_s h hn⟩
    have set1 : bs_sh l b P v d → wX_shared_4 post (nI v) (nI K) (nI P) (nI B) ln (fun j => nI (l j)) (fun j => nI (b j)) st a5 a6 f 1 (nI (d + 1)) := fun hy => hw 1 (Or.inl ⟨rfl, d, hd, hy⟩)
    have no : ¬ bs_sh l b P v d → wX_shared_39 post (wX_shared_4 post (nI v) (nI K) (nI P) (nI B) ln (fun j => nI (l j)) (fun j => nI (b j)) st a5 a6 f) (nI v) s (nI d) (nI K) (nI P) (nI B) ln (fun j => nI (l j)) (fun j => nI (b j)) st a5 a6 := fun hn => br_t rfl (nm_r (nI_1 d) (keep hn))
    refine pk_le 10 d (fun z => absurd z (by omega)) (fun _ => pk_eq d v (fun z => no (fun y => y.1 z)) (fun z1 => pk_le (6 + P) d (fun z => no (fun y => absurd y.2.1 (by omega))) (fun z2 => ⟨pk_in d 10 hd, ?_⟩) (nI_add 6 P)))
    unfold wX_shared_40
    rw [nI_clamp (show d < 2 ^ 31 by omega), nI_clamp (show v < 2 ^ 31 by omega)]
    refine pk_le (l d) 0 (fun z => no (fun y => absurd y.2.2.1 (by omega))) (fun z3 => br_f (by decide) ⟨pk_in d 10 hd, pk_in v 10 (by omega), pk_in v 10 (by omega), ?_⟩)
    refine pk_le (b v + l v) (b d) (fun z => nm_r (nI_1 d) (keep (fun y => absurd y.2.2.2.1 (by omega)))) (fun z4 => ⟨pk_in v 10 (by omega), pk_in d 10 hd, pk_in d 10 hd, ?_⟩) (nI_add _ _)
    exact pk_le (b d + l d) (b v) (fun z => nm_r (nI_1 d) (keep (fun y => absurd y.2.2.2.2 (by omega)))) (fun z5 => nm_r (nI_1 d) (set1 ⟨z1, z2, z3, z4, z5⟩)) (nI_add _ _)
theorem bs_set141 {post : Int32 → St2 → Prop} {v i m : Nat} (hv : v < 6) (h1 : 1 ≤ i) (hP : P < 4) (hf : b (6 + P) + m ≤ 144) (ht : b v + (i - 1) + m ≤ 144) (hd : b (6 + P) + m ≤ b v + (i - 1) ∨ b v + (i - 1) ≤ b (6 + P)) (H : post (nI m) (bs_S K P B ln l b (va_cpy st st (b (6 + P)) (b v + (i - 1)) m) a5 a6)) : wX_setMid_141 post (nI v) (nI i) (nI (6 + P)) (nI m) (nI K) (nI (P + 1)) (nI B) ln (fun j => nI (l j)) (fun j => nI (b j)) st a5 a6 := by
  unfold wX_setMid_141
  refine ⟨pk_in (6 + P) 10 (by omega), pk_in v 10 (by omega), ?_⟩
  have e : nI (b v) + nI i - 1 = nI (b v + (i - 1)) := by
    show nI (b v) + nI i - nI 1 = _
    rw [nI_add, pk_sub (by omega)]
    congr 1
    omega
  rw [nI_clamp (show 6 + P < 2 ^ 31 by omega), nI_clamp (show v < 2 ^ 31 by omega), e]
  exact bs_copy hf ht hd (nm_r (nI_pred P) H)
theorem bs_setMid {post : Int32 → St2 → Prop} {v i m : Nat} (hv : v < 6) (h1 : 1 ≤ i) (h2 : i ≤ l v) (h3 : i ≤ 255) (hP : P < 4) (hb : ∀ d, d < 10 → b d + l d ≤ 144) (hm : m = min (l v + 1 - i) (l (6 + P))) (hB : B ≤ b v) (hB2 : l v ≤ B) (hBd : 0 < m → B ≤ b (6 + P)) (hD : 0 < m → b (6 + P) + m ≤ b v + (i - 1) ∨ b v + (i - 1) ≤ b (6 + P))
    (H0 : m = 0 → post (nI m) (bs_S K P B ln l b st a5 a6))
    (H1 : 0 < m → (∀ d, d < 10 → ¬ bs_sh l b (P + 1) v d) → post (nI m) (bs_S K P B ln l b (va_cpy st st (b (6 + P)) (b v + (i - 1)) m) a5 a6))
    (H2 : 0 < m → (∃ d, d < 10 ∧ bs_sh l b (P + 1) v d) → post (nI m) (bs_S K P (B - l v) ln l (bs_up b v (B - l v)) (va_cpy (va_cpy st st (b v) (B - l v) (l v)) (va_cpy st st (b v) (B - l v) (l v)) (b (6 + P)) (B - l v + (i - 1)) m) a5 a6)) :
    wpX_setMid post (bs_S K (P + 1) B ln l b st a5 a6) (nI v) (nI i) := by
  have hbv := hb v (by omega)
  have hbd := hb (6 + P) (by omega)
  have c71 : ∀ k, k = m → wX_setMid_71 post (nI v) (nI i) (nI (6 + P)) (nI k) (nI K) (nI (P + 1)) (nI B) ln (fun j => nI (l j)) (fun j => nI (b j)) st a5 a6 := by
    intro k hk
    subst hk
    unfold wX_setMid_71
    refine pk_le 1 k (fun z => bs_shared hv (by omega) hb (fun hy => br_f (by decide) ⟨pk_in v 10 (by omega), ?_⟩) (fun hn => br_t rfl ?_)) (fun z => nm_r (nI_pred P) (by
      have z0 : k = 0 := by omega
      have t := H0 z0
      rw [z0] at t
      exact t))
    · rw [nI_clamp (show v < 2 ^ 31 by omega)]
      refine bs_take hB2 (by omega) ?_
      refine ⟨pk_in v 10 (by omega), pk_in v 10 (by omega), bs_copy (by omega) (by omega) (Or.inr (by omega)) ?_⟩
      refine ⟨pk_in v 10 (by omega), nm_r (bs_upd b v (B - l v)) (bs_set141 hv h1 hP ?_ ?_ ?_ ?_)⟩
      · rw [bs_un (show 6 + P ≠ v by omega)]
        omega
      · rw [bs_us]
        omega
      · rw [bs_un (show 6 + P ≠ v by omega), bs_us]
        have := hBd z
        omega
      · rw [bs_un (show 6 + P ≠ v by omega), bs_us]
        exact H2 z hy
    · exact bs_set141 hv h1 hP (by omega) (by omega) (hD z) (H1 z hn)
  unfold wpX_setMid
  dsimp only [bs_S]
  refine bs_badV hv (br_t rfl (pk_lt i 1 (fun z => absurd z (by omega)) (fun _ => pk_le i 255 (fun _ => pk_eq (P + 1) 0 (fun z => absurd z (by omega)) (fun _ => ?_)) (fun z => absurd z (by omega)))))
  unfold wpX_top
  dsimp only
  rw [bs_top, nI_clamp (show 6 + P < 2 ^ 31 by omega), nI_clamp (show v < 2 ^ 31 by omega)]
  refine ⟨pk_in v 10 (by omega), nm_r (e' := nI (l v + 1 - i)) ?_ ⟨pk_in (6 + P) 10 (by omega), ?_⟩⟩
  · rw [pk_sub h2, nI_1]
    congr 1
    omega
  · exact pk_le (l (6 + P)) (l v + 1 - i) (fun z => ⟨pk_in (6 + P) 10 (by omega), c71 _ (by omega)⟩) (fun z => c71 _ (by omega))
theorem bs_cmp {post : Int32 → St2 → Prop} {n : Nat} (hP : P < 3) (hx : l (6 + P) = n) (hy : l (7 + P) = n) (hbx : b (6 + P) + n ≤ 144) (hby : b (7 + P) + n ≤ 144) (hne : b (6 + P) ≠ b (7 + P))
    (H0 : (∀ k, k < n → st (b (6 + P) + k) = st (b (7 + P) + k)) → post 0 (bs_S K P B ln l b st a5 a6))
    (H1 : ∀ k, k < n → ¬ st (b (6 + P) + k) = st (b (7 + P) + k) → ¬ st (b (7 + P) + k) ≤ st (b (6 + P) + k) ∧ post 1 (bs_S K P B ln l b st a5 a6)) :
    wpX_compare post (bs_S K (P + 2) B ln l b st a5 a6) := by
  have e7 : (6 : Int32) + nI (P + 2) - 1 = nI (7 + P) := by
    rw [bs_top (P + 1)]
    congr 1
    omega
  have e6 : nI (7 + P) - 1 = nI (6 + P) := by
    rw [show 7 + P = (6 + P) + 1 by omega]
    exact nI_pred _
  have e2 : nI (P + 2) - 2 = nI P := by
    show nI (P + 2) - nI 2 = nI P
    exact pk_sub (by omega)
  unfold wpX_compare
  dsimp only [bs_S]
  refine pk_le 2 (P + 2) (fun _ => ?_) (fun z => absurd z (by omega))
  unfold wpX_top
  dsimp only
  rw [e7]
  refine nm_r e6 ⟨pk_in (6 + P) 10 (by omega), pk_in (7 + P) 10 (by omega), ?_⟩
  rw [nI_clamp (show 6 + P < 2 ^ 31 by omega), nI_clamp (show 7 + P < 2 ^ 31 by omega), hx, hy]
  refine pk_le n n (fun _ => ⟨pk_in (7 + P) 10 (by omega), ?_⟩) (fun z => absurd z (by omega))
  unfold wX_compare_50
  rw [nI_clamp (show 6 + P < 2 ^ 31 by omega), nI_clamp (show 7 + P < 2 ^ 31 by omega)]
  refine nm_r e2 ⟨pk_in (6 + P) 10 (by omega), pk_in (7 + P) 10 (by omega), pk_eq (b (6 + P)) (b (7 + P)) (fun z => absurd z hne) (fun _ => ?_)⟩
  refine pk_loop (σ := Unit) (fun f c _ => wX_compare_79 post (nI (7 + P)) (nI (6 + P)) (nI n) (nI K) (nI P) (nI B) ln (fun j => nI (l j)) (fun j => nI (b j)) st a5 a6 f (nI c)) (fun c _ => ∀ k, k < c → st (b (6 + P) + k) = st (b (7 + P) + k)) n 0 () (by omega) (fun k hk => absurd hk (by omega)) ?_ ?_
  · intro f s h
    refine pk_le n n (fun _ => ?_) (fun z => absurd z (by omega))
    unfold wX_compare_143
    rw [nI_clamp (show 6 + P < 2 ^ 31 by omega), nI_clamp (show 7 + P < 2 ^ 31 by omega)]
    exact ⟨pk_in (6 + P) 10 (by omega), pk_in (7 + P) 10 (by omega), br_t (show nI (l (6 + P)) = nI (l (7 + P)) by rw [hx, hy]) (H0 h)⟩
  · intro f c s hc h hw
    refine pk_le n c (fun z => absurd z (by omega)) (fun _ => ?_)
    rw [nI_clamp (show 6 + P < 2 ^ 31 by omega), nI_clamp (show 7 + P < 2 ^ 31 by omega), nI_add, nI_add, nI_clamp (show b (6 + P) + c < 2 ^ 31 by omega), nI_clamp (show b (7 + P) + c < 2 ^ 31 by omega)]
    refine ⟨pk_in (6 + P) 10 (by omega), pk_in (b (6 + P) + c) 144 (by omega), nm_e ⟨pk_in (7 + P) 10 (by omega), pk_in (b (7 + P) + c) 144 (by omega), nm_e (br_c (fun e => nm_r (nI_1 c) (hw () (lt_s h e))) (fun e => ?_))⟩⟩
    exact br_f (H1 c hc e).1 (H1 c hc e).2
end
end
section
/-- the law's letter -/
def bs_t (x : Int32) (i : Nat) : Int32 := (x >>> ((2 * nI i) &&& 31)) &&& 3
theorem bs_tE (x : Int32) (i : Nat) : ∃ q : Nat, q < 4 ∧ bs_t x i = nI q := pk_andE _ 2 (by decide)
theorem bs_t9 (x : Int32) (i : Nat) : ¬ (9 : Int32) ≤ bs_t x i := by
  obtain ⟨q, hq, e⟩ := bs_tE x i
  rw [e]
  exact nI_ge (b := 9) (by omega) (by decide)
theorem bs_tn9 (x : Int32) (i : Nat) : ¬ bs_t x i = 9 := by
  obtain ⟨q, hq, e⟩ := bs_tE x i
  rw [e]
  intro h
  have h2 : nI q = nI 9 := h
  rw [nI_eq (by omega) (by omega)] at h2
  omega
theorem bs_p26 {post J2 : Int32 → Prop} {x : Int32} {f n a : Nat} (hn : n ≤ 7) (H1 : (∀ k, k < n → bs_t x (a + k) = bs_t x (f + k)) → post (nI (a + 1))) (H0 : ∀ k, k < n → ¬ bs_t x (a + k) = bs_t x (f + k) → J2 (nI (a + 1))) : ∃ fu, wL_place_26 post J2 x (nI f) (nI n) (nI a) fu 1 0 := by
  refine pk_loop (fun fu i s => wL_place_26 post J2 x (nI f) (nI n) (nI a) fu s (nI i)) (fun i s => (s = 1 ∧ ∀ k, k < i → k < n → bs_t x (a + k) = bs_t x (f + k)) ∨ (s = 0 ∧ ∃ k, k < n ∧ ¬ bs_t x (a + k) = bs_t x (f + k))) 7 0 1 (by omega) (Or.inl ⟨rfl, fun k hk => absurd hk (by omega)⟩) ?_ ?_
  · intro fu s h
    refine pk_le 7 7 (fun _ => ?_) (fun z => absurd z (by omega))
    rcases h with ⟨hs, h⟩ | ⟨hs, k, hk, h⟩
    · subst hs
      exact br_f (by decide) (by rw [nI_1]; exact H1 (fun k hk => h k (by omega) hk))
    · subst hs
      exact br_t rfl (nm_r (nI_1 a) (H0 k hk h))
  · intro fu i s hi h hw
    refine pk_le 7 i (fun z => absurd z (by omega)) (fun _ => ?_)
    rcases h with ⟨hs, h⟩ | ⟨hs, k, hk, h⟩
    · subst hs
      refine br_f (by decide) (pk_le n i (fun z => nm_r (nI_1 i) (hw 1 (Or.inl ⟨rfl, lt_s h (fun g => absurd g (by omega))⟩))) (fun z => ?_))
      unfold wpL_letter
      rw [nI_add, nI_add]
      exact br_c (fun e => nm_r (nI_1 i) (hw 1 (Or.inl ⟨rfl, lt_s h (fun _ => e)⟩))) (fun e => nm_r (nI_1 i) (hw 0 (Or.inr ⟨rfl, i, z, e⟩)))
    · subst hs
      exact br_t rfl (nm_r (nI_1 i) (hw 0 (Or.inr ⟨rfl, k, hk, h⟩)))
theorem bs_place {post : Int32 → Prop} {x : Int32} {f n r : Nat} (hn : n ≤ 7) (hr : r + n ≤ 8) (hr2 : r < 8) (hm : ∀ k, k < n → bs_t x (r + k) = bs_t x (f + k)) (hne : ∀ i, i < r → ¬ ∀ k, k < n → bs_t x (i + k) = bs_t x (f + k)) (H : post (nI (r + 1))) : wpL_place post () x (nI f) (nI n) :=
  pk_loop (σ := Unit) (fun fu c _ => wL_place_2 post x (nI f) (nI n) fu (nI c)) (fun _ _ => True) r 0 () (by omega) trivial
    (fun fu _ _ => pk_le 8 r (fun z => absurd z (by omega)) (fun _ => pk_lt 8 (r + n) (fun z => absurd z (by omega)) (fun _ => bs_p26 hn (fun _ => H) (fun k hk e => absurd (hm k hk) e)) rfl (nI_add r n)))
    (fun fu i _ hi _ hw => pk_le 8 i (fun z => absurd z (by omega)) (fun _ => pk_lt 8 (i + n) (fun z => absurd z (by omega)) (fun _ => bs_p26 hn (fun e => absurd e (hne i hi)) (fun k hk e => hw () trivial)) rfl (nI_add i n)))
/-- lengths or bodies: places 0, 1 and 6 known, 0 elsewhere -/
def bs_L (l : Nat → Nat) (p q r : Nat) : Prop := l 0 = p ∧ l 1 = q ∧ l 6 = r ∧ ∀ j, j ≠ 0 → j ≠ 1 → j ≠ 6 → l j = 0
theorem bs_L0 {l : Nat → Nat} {p q r v w : Nat} (h : bs_L l p q r) (e : v = w) : bs_L (bs_up l 0 v) w q r :=
  ⟨by rw [bs_us, e], by rw [bs_un (by decide), h.2.1], by rw [bs_un (by decide), h.2.2.1], fun j h0 h1 h6 => by rw [bs_un h0, h.2.2.2 j h0 h1 h6]⟩
theorem bs_L1 {l : Nat → Nat} {p q r v w : Nat} (h : bs_L l p q r) (e : v = w) : bs_L (bs_up l 1 v) p w r :=
  ⟨by rw [bs_un (by decide), h.1], by rw [bs_us, e], by rw [bs_un (by decide), h.2.2.1], fun j h0 h1 h6 => by rw [bs_un h1, h.2.2.2 j h0 h1 h6]⟩
theorem bs_L6 {l : Nat → Nat} {p q r v w : Nat} (h : bs_L l p q r) (e : v = w) : bs_L (bs_up l 6 v) p q w :=
  ⟨by rw [bs_un (by decide), h.1], by rw [bs_un (by decide), h.2.1], by rw [bs_us, e], fun j h0 h1 h6 => by rw [bs_un h6, h.2.2.2 j h0 h1 h6]⟩
theorem bs_sum6 {l : Nat → Nat} {p q r : Nat} (h : bs_L l p q r) : bs_sum l 6 = p + q := by
  show 0 + l 0 + l 1 + l 2 + l 3 + l 4 + l 5 = p + q
  rw [h.1, h.2.1, h.2.2.2 2 (by decide) (by decide) (by decide), h.2.2.2 3 (by decide) (by decide) (by decide), h.2.2.2 4 (by decide) (by decide) (by decide), h.2.2.2 5 (by decide) (by decide) (by decide)]
  omega
theorem bs_sum7 {l : Nat → Nat} {p q r : Nat} (h : bs_L l p q r) : bs_sum l 7 = p + q + r := by
  show bs_sum l 6 + l 6 = p + q + r
  rw [bs_sum6 h, h.2.2.1]
theorem bs_Lb {l b : Nat → Nat} {p q r p' q' r' : Nat} (h : bs_L l p q r) (h' : bs_L b p' q' r') (h0 : p' + p ≤ 144) (h1 : q' + q ≤ 144) (h6 : r' + r ≤ 144) : ∀ d, d < 10 → b d + l d ≤ 144 := by
  intro d _
  by_cases e0 : d = 0
  · rw [e0, h.1, h'.1]
    exact h0
  · by_cases e1 : d = 1
    · rw [e1, h.2.1, h'.2.1]
      exact h1
    · by_cases e6 : d = 6
      · rw [e6, h.2.2.1, h'.2.2.1]
        exact h6
      · rw [h.2.2.2 d e0 e1 e6, h'.2.2.2 d e0 e1 e6]
        omega
section
variable {ln st a5 a6 : Nat → Int32} {l b : Nat → Nat} {B : Nat}
theorem bs_313 {post : Int32 → St0 → Prop} {mc ms kc ks : Nat} {x z0 : Int32} {z a w β y c d : Nat} (hz : z ≤ 7) (haw : a + w ≤ 8) (hln : ∀ j, j < 8 → ln j = bs_t x j) (hl : bs_L l 8 z c) (hb : bs_L b β y d) (hB : 8 ≤ B) (hB2 : B ≤ β) (hβ : β + 8 ≤ 144)
    (hst : ∀ i, i < 8 → st (β + i) = if a ≤ i ∧ i < a + w then 9 else bs_t x i) (hz0 : z = 0 → z0 = 0) (hz1 : 0 < z → B ≤ y ∧ y + z ≤ 144 ∧ st y = z0) (H : post 1 ()) :
    wL_lawOf_313 post mc ms (nI z) (nI w) 1 z0 kc ks (nI 8) (nI 0) (nI B) ln (fun j => nI (l j)) (fun j => nI (b j)) st a5 a6 := by
  unfold wL_lawOf_313
  refine bs_literal (K := 8) (P := 0) (by omega) (by omega) (show bs_sum l 6 + 8 ≤ 100 by rw [bs_sum6 hl]; omega) hB (by omega) ?_
  have hl1 : bs_L (bs_up l (6 + 0) 8) 8 z 8 := bs_L6 hl rfl
  have hb1 : bs_L (bs_up b (6 + 0) (if 8 = 0 then 0 else B - 8)) β y (B - 8) := bs_L6 hb rfl
  have hlo : ∀ i, i < 8 → va_cpy ln st 0 (B - 8) 8 (B - 8 + i) = bs_t x i := by
    intro i hi
    rw [pk_cpy_in (by omega) (by omega), show 0 + (B - 8 + i - (B - 8)) = i by omega]
    exact hln i hi
  have hhi : ∀ j, B ≤ j → va_cpy ln st 0 (B - 8) 8 j = st j := fun j hj => pk_cpy_out (by omega)
  generalize va_cpy ln st 0 (B - 8) 8 = s1 at hlo hhi ⊢
  generalize bs_up l (6 + 0) 8 = l1 at hl1 ⊢
  generalize bs_up b (6 + 0) (if 8 = 0 then 0 else B - 8) = b1 at hb1 ⊢
  refine bs_push (v := 0) (P := 1) (by omega) (by omega) (by rw [hl1.1]; omega) (show bs_sum l1 7 + l1 0 ≤ 100 by rw [hl1.1, bs_sum7 hl1]; omega) ?_
  have l0 : bs_up l1 (6 + 1) (l1 0) 0 = 8 := by rw [bs_un (by decide), hl1.1]
  have l1' : bs_up l1 (6 + 1) (l1 0) 1 = z := by rw [bs_un (by decide), hl1.2.1]
  have l6 : bs_up l1 (6 + 1) (l1 0) 6 = 8 := by rw [bs_un (by decide), hl1.2.2.1]
  have l7 : bs_up l1 (6 + 1) (l1 0) 7 = 8 := by rw [bs_us, hl1.1]
  have ls : bs_sum (bs_up l1 (6 + 1) (l1 0)) 6 = 8 + z := by
    rw [← bs_sum6 hl1]
    show 0 + bs_up l1 (6 + 1) (l1 0) 0 + bs_up l1 (6 + 1) (l1 0) 1 + bs_up l1 (6 + 1) (l1 0) 2 + bs_up l1 (6 + 1) (l1 0) 3 + bs_up l1 (6 + 1) (l1 0) 4 + bs_up l1 (6 + 1) (l1 0) 5 = 0 + l1 0 + l1 1 + l1 2 + l1 3 + l1 4 + l1 5
    rw [bs_un (by decide), bs_un (by decide), bs_un (by decide), bs_un (by decide), bs_un (by decide), bs_un (by decide)]
  have y1 : bs_up b1 (6 + 1) (if l1 0 = 0 then 0 else b1 0) 1 = y := by rw [bs_un (by decide), hb1.2.1]
  have y6 : bs_up b1 (6 + 1) (if l1 0 = 0 then 0 else b1 0) 6 = B - 8 := by rw [bs_un (by decide), hb1.2.2.1]
  have y7 : bs_up b1 (6 + 1) (if l1 0 = 0 then 0 else b1 0) 7 = β := by rw [bs_us, hl1.1, hb1.1]; rfl
  generalize bs_up l1 (6 + 1) (l1 0) = l2 at l0 l1' l6 l7 ls ⊢
  generalize bs_up b1 (6 + 1) (if l1 0 = 0 then 0 else b1 0) = b2 at y1 y6 y7 ⊢
  have at1 : ∀ Q : Int32 → Prop, Q z0 → wpX_at Q (bs_S 8 0 (B - 8) ln l2 b2 s1 a5 a6) (nI 1) (nI 1) := by
    intro Q hQ
    by_cases e : z = 0
    · rw [hz0 e] at hQ
      exact bs_at0 (by omega) (by omega) (by omega) (by omega) hQ
    · obtain ⟨g1, g2, g3⟩ := hz1 (by omega)
      refine bs_at (by omega) (by omega) (by omega) (by omega) ?_
      rw [y1, show y + (1 - 1) = y by omega, hhi y g1, g3]
      exact hQ
  have fin : ∀ k : Int32, wL_lawOf_386 post mc ms (nI z) k k kc ks (nI 8) (nI 0) (nI (B - 8)) ln (fun j => nI (l2 j)) (fun j => nI (b2 j)) s1 a5 a6 := by
    intro k
    exact br_t rfl (br_t rfl (bs_used (P := 0) (by omega) (br_t (by rw [ls]; exact (nI_add 8 z).symm) H)))
  refine bs_cmp (P := 0) (n := 8) (by omega) l6 l7 (by rw [y6]; omega) (by rw [y7]; omega) (by rw [y6, y7]; omega) ?_ ?_
  · rw [y6, y7]
    intro h
    have hw0 : w = 0 := by
      by_cases e : w = 0
      · exact e
      · have t := h a (by omega)
        rw [hlo a (by omega), hhi _ (by omega), hst a (by omega), if_pos (by omega)] at t
        exact absurd t (bs_tn9 x a)
    refine br_f (by decide) (bs_len (v := 1) (by omega) (br_t (congrArg nI l1') (at1 _ (br_t rfl (bs_len (v := 0) (by omega) (br_t (congrArg nI l0) ?_))))))
    exact pk_eq w 0 (fun _ => fin 0) (fun g => absurd hw0 g)
  · rw [y6, y7]
    intro k hk
    rw [hlo k hk, hhi _ (by omega), hst k hk]
    intro hne
    by_cases e : a ≤ k ∧ k < a + w
    · rw [if_pos e]
      refine ⟨bs_t9 x k, ?_⟩
      refine br_f (by decide) (bs_len (v := 1) (by omega) (br_t (congrArg nI l1') (at1 _ (br_t rfl (bs_len (v := 0) (by omega) (br_t (congrArg nI l0) ?_))))))
      exact pk_eq w 0 (fun g => absurd g (by omega)) (fun _ => fin 1)
    · rw [if_neg e] at hne
      exact absurd rfl hne
theorem bs_216 {post : Int32 → St0 → Prop} {mc ms kc ks : Nat} {x : Int32} {f z a w β y c d : Nat} (hz : z ≤ 7) (haw : a + w ≤ 8) (hln : ∀ j, j < 8 → ln j = bs_t x j) (hl : bs_L l 8 z c) (hb : bs_L b β y d) (hB : 8 ≤ B) (hB2 : B ≤ β) (hβ : β + 8 ≤ 144)
    (hst : ∀ i, i < 8 → st (β + i) = if a ≤ i ∧ i < a + w then 9 else bs_t x i) (hz1 : 0 < z → B ≤ y ∧ y + z ≤ 144 ∧ st y = bs_t x f) (H : post 1 ()) :
    ∃ fu, wL_lawOf_216 post mc ms x (nI f) (nI z) (nI (a + 1)) (nI w) kc ks (nI 8) (nI 0) (nI B) ln (fun j => nI (l j)) (fun j => nI (b j)) st a5 a6 fu 1 0 := by
  refine pk_loop (σ := Unit) (fun fu i _ => wL_lawOf_216 post mc ms x (nI f) (nI z) (nI (a + 1)) (nI w) kc ks (nI 8) (nI 0) (nI B) ln (fun j => nI (l j)) (fun j => nI (b j)) st a5 a6 fu 1 (nI i)) (fun _ _ => True) 8 0 () (by omega) trivial ?_ ?_
  · intro fu s _
    refine pk_le 8 8 (fun _ => pk_le z 0 (fun e => ?_) (fun e => ?_)) (fun z => absurd z (by omega))
    · exact bs_313 hz haw hln hl hb hB hB2 hβ hst (fun _ => rfl) (fun g => absurd g (by omega)) H
    · unfold wpL_letter
      exact bs_313 (z0 := bs_t x f) hz haw hln hl hb hB hB2 hβ hst (fun g => absurd g (by omega)) hz1 H
  · intro fu i s hi _ hw
    have at0 : ∀ Q : Int32 → Prop, Q (if a ≤ i ∧ i < a + w then 9 else bs_t x i) → wpX_at Q (bs_S 8 0 B ln l b st a5 a6) (nI 0) (nI i + 1) := by
      intro Q hQ
      rw [nI_1]
      refine bs_at (by omega) (by omega) (by rw [hl.1]; omega) (by rw [hl.1, hb.1]; omega) ?_
      rw [hb.1, show i + 1 - 1 = i by omega, hst i hi]
      exact hQ
    have c248 : ¬ (a ≤ i ∧ i < a + w) → wL_lawOf_248 post mc ms (wL_lawOf_216 post mc ms x (nI f) (nI z) (nI (a + 1)) (nI w) kc ks (nI 8) (nI 0) (nI B) ln (fun j => nI (l j)) (fun j => nI (b j)) st a5 a6 fu) x (nI f) (nI z) (nI (a + 1)) (nI w) 1 (nI i) kc ks (nI 8) (nI 0) (nI B) ln (fun j => nI (l j)) (fun j => nI (b j)) st a5 a6 := by
      intro hn
      refine br_f (by decide) (at0 _ (br_t rfl ?_))
      rw [if_neg hn]
      exact br_t rfl (nm_r (nI_1 i) (hw () trivial))
    refine pk_le 8 i (fun z => absurd z (by omega)) (fun _ => pk_lt i a (fun e => c248 (by omega)) (fun e => pk_le (a + w) i (fun e2 => c248 (by omega)) (fun e2 => ?_) (by rw [nI_pred, nI_add])) rfl (nI_pred a))
    refine br_f (by decide) (at0 _ (br_f (by decide) ?_))
    rw [if_pos ⟨e, e2⟩]
    exact br_t rfl (nm_r (nI_1 i) (hw () trivial))
theorem bs_177 {post : Int32 → St0 → Prop} {mc ms kc ks : Nat} {x : Int32} {f z a w β y c d r : Nat} (hz : z ≤ 7) (hr : r + z ≤ 8) (hr2 : r < 8) (hm : ∀ k, k < z → bs_t x (r + k) = bs_t x (f + k)) (hne : ∀ i, i < r → ¬ ∀ k, k < z → bs_t x (i + k) = bs_t x (f + k)) (haw : a + w ≤ 8) (hln : ∀ j, j < 8 → ln j = bs_t x j) (hl : bs_L l 8 z c) (hb : bs_L b β y d) (hB : 8 ≤ B) (hB2 : B ≤ β) (hβ : β + 8 ≤ 144)
    (hst : ∀ i, i < 8 → st (β + i) = if a ≤ i ∧ i < a + w then 9 else bs_t x i) (hz1 : 0 < z → B ≤ y ∧ y + z ≤ 144 ∧ st y = bs_t x f) (H : post 1 ()) :
    wL_lawOf_177 post mc ms x (nI f) (nI z) (nI (a + 1)) (nI z) (nI (r + 1)) (nI w) (nI w) kc ks (nI 8) (nI 0) (nI B) ln (fun j => nI (l j)) (fun j => nI (b j)) st a5 a6 :=
  br_t rfl (bs_place hz hr hr2 hm hne (br_t rfl (br_t rfl (bs_216 hz haw hln hl hb hB hB2 hβ hst hz1 H))))
end
end
section
section
variable {ln st a5 a6 : Nat → Int32} {l b : Nat → Nat} {B : Nat}
theorem bs_fin {post : Int32 → St0 → Prop} {mc ms kc ks : Nat} {x : Int32} {f z a m w β y c d r : Nat} (hz : z ≤ 7) (hr : r + z ≤ 8) (hr2 : r < 8) (hm : ∀ k, k < z → bs_t x (r + k) = bs_t x (f + k)) (hne : ∀ i, i < r → ¬ ∀ k, k < z → bs_t x (i + k) = bs_t x (f + k)) (ha : a < 8) (hm7 : m < 8) (hw : w = min (8 - a) m) (hln : ∀ j, j < 8 → ln j = bs_t x j) (hl : bs_L l 8 z c) (hb : bs_L b β y d) (hB : 8 ≤ B) (hB2 : B ≤ β) (hβ : β + 8 ≤ 144)
    (hst : ∀ i, i < 8 → st (β + i) = if a ≤ i ∧ i < a + w then 9 else bs_t x i) (hz1 : 0 < z → B ≤ y ∧ y + z ≤ 144 ∧ st y = bs_t x f) (H : post 1 ()) :
    ∀ x13 : Int32, x13 = 9 - nI (a + 1) → ((x13 ≤ nI m → wL_lawOf_177 post mc ms x (nI f) (nI z) (nI (a + 1)) (nI z) (nI (r + 1)) (nI w) x13 kc ks (nI 8) (nI 0) (nI B) ln (fun j => nI (l j)) (fun j => nI (b j)) st a5 a6) ∧ (¬ x13 ≤ nI m → wL_lawOf_177 post mc ms x (nI f) (nI z) (nI (a + 1)) (nI z) (nI (r + 1)) (nI w) (nI m) kc ks (nI 8) (nI 0) (nI B) ln (fun j => nI (l j)) (fun j => nI (b j)) st a5 a6)) := by
  have e9 : 9 - nI (a + 1) = nI (8 - a) := by
    show nI 9 - nI (a + 1) = nI (8 - a)
    rw [pk_sub (by omega)]
    congr 1
    omega
  have T := bs_177 (mc := mc) (ms := ms) (kc := kc) (ks := ks) (a5 := a5) (a6 := a6) hz hr hr2 hm hne (show a + w ≤ 8 by omega) hln hl hb hB hB2 hβ hst hz1 H
  refine nm_r e9 (pk_le (8 - a) m (fun e => ?_) (fun e => ?_))
  · rw [show 8 - a = w by omega]
    exact T
  · have e2 : m = w := by omega
    rw [e2]
    exact T
theorem bs_chain {post : Int32 → St0 → Prop} {mc ms kc ks fu : Nat} {x : Int32} {f n z a m : Nat} (hf : f < 8) (hn : n < 8) (hz : z = min n (8 - f)) (ha : a < 8) (hm : m < 8) (hln : ∀ j, j < 8 → ln j = bs_t x j) (H : post 1 ()) :
    wL_lawOf_62 post mc ms x (nI f) (nI n) (nI z) (nI (a + 1)) (nI m) kc ks (fu + 1) (nI 8) (nI 8) (nI 0) (nI 144) ln (fun _ => nI 0) (fun _ => nI 0) (fun _ => 0) a5 a6 := by
  refine pk_le 8 8 (fun _ => ?_) (fun z => absurd z (by omega))
  refine bs_literal (K := 8) (P := 0) (B := 144) (l := fun _ => 0) (b := fun _ => 0) (by omega) (by omega) (by decide) (by omega) (by omega) ?_
  have hl1 : bs_L (bs_up (fun _ => 0) (6 + 0) 8) 0 0 8 := bs_L6 ⟨rfl, rfl, rfl, fun _ _ _ _ => rfl⟩ rfl
  have hb1 : bs_L (bs_up (fun _ => 0) (6 + 0) (if 8 = 0 then 0 else 144 - 8)) 0 0 136 := bs_L6 ⟨rfl, rfl, rfl, fun _ _ _ _ => rfl⟩ rfl
  have hs1 : ∀ i, i < 8 → va_cpy ln (fun _ => 0) 0 (144 - 8) 8 (136 + i) = bs_t x i := by
    intro i hi
    rw [pk_cpy_in (by omega) (by omega), show 0 + (136 + i - (144 - 8)) = i by omega]
    exact hln i hi
  generalize va_cpy ln (fun _ => 0) 0 (144 - 8) 8 = s1 at hs1 ⊢
  generalize bs_up (fun _ => 0) (6 + 0) 8 = l1 at hl1 ⊢
  generalize bs_up (fun _ => 0) (6 + 0) (if 8 = 0 then 0 else 144 - 8) = b1 at hb1 ⊢
  dsimp only [bs_S]
  refine bs_let (v := 0) (P := 0) (by omega) (by omega) ?_
  have hl2 : bs_L (bs_up l1 0 (l1 (6 + 0))) 8 0 8 := bs_L0 hl1 hl1.2.2.1
  have hb2 : bs_L (bs_up b1 0 (b1 (6 + 0))) 136 0 136 := bs_L0 hb1 hb1.2.2.1
  generalize bs_up l1 0 (l1 (6 + 0)) = l2 at hl2 ⊢
  generalize bs_up b1 0 (b1 (6 + 0)) = b2 at hb2 ⊢
  dsimp only [bs_S]
  refine bs_push (v := 0) (P := 0) (by omega) (by omega) (by rw [hl2.1]; omega) (show bs_sum l2 6 + l2 0 ≤ 100 by rw [hl2.1, bs_sum6 hl2]; omega) ?_
  have hl3 : bs_L (bs_up l2 (6 + 0) (l2 0)) 8 0 8 := bs_L6 hl2 hl2.1
  have hb3 : bs_L (bs_up b2 (6 + 0) (if l2 0 = 0 then 0 else b2 0)) 136 0 136 := bs_L6 hb2 (by rw [hl2.1, hb2.1]; rfl)
  generalize bs_up b2 (6 + 0) (if l2 0 = 0 then 0 else b2 0) = b3 at hb3 ⊢
  generalize bs_up l2 (6 + 0) (l2 0) = l3 at hl3 ⊢
  have e36 : l3 (6 + 0) = 8 := hl3.2.2.1
  have e36b : b3 (6 + 0) = 136 := hb3.2.2.1
  dsimp only [bs_S]
  rw [nI_1 f]
  refine bs_mid (i := f) (n := n) (m := z) (P := 0) (by omega) (by omega) (by omega) (by rw [e36]; omega) (by rw [e36]; omega) (by rw [e36]; exact hz) ?_
  have hl4 : bs_L (bs_up l3 (6 + 0) z) 8 0 z := bs_L6 hl3 rfl
  have hb4 : bs_L (bs_up b3 (6 + 0) (if z = 0 then 0 else b3 (6 + 0) + f)) 136 0 (if z = 0 then 0 else 136 + f) := bs_L6 hb3 (by rw [e36b])
  generalize bs_up b3 (6 + 0) (if z = 0 then 0 else b3 (6 + 0) + f) = b4 at hb4 ⊢
  generalize bs_up l3 (6 + 0) z = l4 at hl4 ⊢
  have hy : 0 < z → (if z = 0 then 0 else 136 + f) = 136 + f := fun h => if_neg (by omega)
  have hy0 : z = 0 → (if z = 0 then 0 else 136 + f) = 0 := fun h => if_pos h
  generalize (if z = 0 then 0 else 136 + f) = y at hy hy0 hb4
  dsimp only [bs_S]
  refine bs_let (v := 1) (P := 0) (by omega) (by omega) ?_
  have hl5 : bs_L (bs_up l4 1 (l4 (6 + 0))) 8 z z := bs_L1 hl4 hl4.2.2.1
  have hb5 : bs_L (bs_up b4 1 (b4 (6 + 0))) 136 y y := bs_L1 hb4 hb4.2.2.1
  generalize bs_up l4 1 (l4 (6 + 0)) = l5 at hl5 ⊢
  generalize bs_up b4 1 (b4 (6 + 0)) = b5 at hb5 ⊢
  have hyz : y + z ≤ 144 := by
    by_cases e : z = 0
    · rw [hy0 e]
      omega
    · rw [hy (by omega)]
      omega
  obtain ⟨r, hr1, hr2⟩ := pk_least (fun i => ∀ k, k < z → bs_t x (i + k) = bs_t x (f + k)) ⟨f, fun _ _ => rfl⟩
  have hrf : r ≤ f := by
    rcases Nat.lt_or_ge f r with g | g
    · exact absurd (fun _ _ => rfl) (hr2 f g)
    · exact g
  have eqv : ∀ i, i ≤ f → ∀ k, k < z → (s1 (136 + i + k) = s1 (y + k) ↔ bs_t x (i + k) = bs_t x (f + k)) := by
    intro i hi k hk
    rw [hy (by omega), Nat.add_assoc, Nat.add_assoc, hs1 (i + k) (by omega), hs1 (f + k) (by omega)]
  dsimp only [bs_S]
  refine bs_find (u := 0) (v := 1) (r := r) (by omega) (by omega) (by rw [hl5.1]; omega) (by rw [hl5.1, hb5.1]; omega) (by rw [hl5.2.1, hb5.2.1]; exact hyz) (by rw [hl5.2.1, hl5.1]; omega) ?_ ?_ ?_
  · rw [hl5.2.1, hb5.1, hb5.2.1]
    exact fun k hk => (eqv r hrf k hk).mpr (hr1 k hk)
  · rw [hl5.2.1, hb5.1, hb5.2.1]
    exact fun i hi h => hr2 i hi (fun k hk => (eqv i (by omega) k hk).mp (h k hk))
  refine bs_repeat (B := 136) (n := m) (c := 9) (P := 0) (by omega) (by omega) (by omega) (show bs_sum l5 6 + m ≤ 100 by rw [bs_sum6 hl5]; omega) (by omega) (by omega) ?_
  have hl6 : bs_L (bs_up l5 (6 + 0) m) 8 z m := bs_L6 hl5 rfl
  have hb6 : bs_L (bs_up b5 (6 + 0) (if m = 0 then 0 else 136 - m)) 136 y (if m = 0 then 0 else 136 - m) := bs_L6 hb5 rfl
  have hs6 : ∀ j, 136 ≤ j → va_cpy (fun _ => nI 9) s1 0 (136 - m) m j = s1 j := fun j hj => pk_cpy_out (by omega)
  have hs9 : ∀ k, k < m → va_cpy (fun _ => nI 9) s1 0 (136 - m) m (136 - m + k) = 9 := fun k hk => pk_cpy_in (by omega) (by omega)
  generalize va_cpy (fun _ => nI 9) s1 0 (136 - m) m = s6 at hs6 hs9 ⊢
  generalize bs_up l5 (6 + 0) m = l6 at hl6 ⊢
  generalize bs_up b5 (6 + 0) (if m = 0 then 0 else 136 - m) = b6 at hb6 ⊢
  have hc : 0 < m → (if m = 0 then 0 else 136 - m) = 136 - m := fun h => if_neg (by omega)
  have hc0 : (if m = 0 then 0 else 136 - m) + m ≤ 144 := by
    by_cases e : m = 0
    · rw [if_pos e]
      omega
    · rw [if_neg e]
      omega
  generalize (if m = 0 then 0 else 136 - m) = c at hc hc0 hb6
  have ht6 : ∀ i, i < 8 → s6 (136 + i) = bs_t x i := fun i hi => by rw [hs6 _ (by omega), hs1 i hi]
  have e66 : l6 (6 + 0) = m := hl6.2.2.1
  have e66b : b6 (6 + 0) = c := hb6.2.2.1
  obtain ⟨w, hw⟩ : ∃ w, w = min (8 - a) m := ⟨_, rfl⟩
  dsimp only [bs_S]
  refine bs_setMid (v := 0) (i := a + 1) (m := w) (P := 0) (B := 136 - m) (by omega) (by omega) (by rw [hl6.1]; omega) (by omega) (by omega) (bs_Lb hl6 hb6 (by omega) hyz hc0) (by rw [hl6.1, e66]; omega) (by rw [hb6.1]; omega) (by rw [hl6.1]; omega) (by rw [e66b]; intro g; have := hc (by omega); omega) (by rw [e66b, hb6.1]; intro g; have := hc (by omega); omega) ?_ ?_ ?_
  · intro g
    dsimp only [bs_S]
    refine bs_fin (β := 136) (y := y) (by omega) (by omega) (by omega) hr1 hr2 ha hm hw hln hl6 hb6 (by omega) (by omega) (by omega) ?_ ?_ H
    · intro i hi
      rw [ht6 i hi, if_neg (by omega)]
    · intro g2
      rw [hy g2]
      exact ⟨by omega, by omega, ht6 f hf⟩
  · intro g hn
    have ec := hc (by omega)
    have z00 : z = 0 := by
      by_cases e : z = 0
      · exact e
      · refine absurd ⟨by decide, by decide, ?_, ?_, ?_⟩ (hn 1 (by omega))
        · rw [hl6.2.1]
          omega
        · rw [hb6.2.1, hb6.1, hl6.1, hy (by omega)]
          omega
        · rw [hb6.2.1, hb6.1, hl6.2.1, hy (by omega)]
          omega
    rw [e66b, hb6.1, show 136 + (a + 1 - 1) = 136 + a by omega, ec]
    dsimp only [bs_S]
    refine bs_fin (β := 136) (y := y) (by omega) (by omega) (by omega) hr1 hr2 ha hm hw hln hl6 hb6 (by omega) (by omega) (by omega) ?_ (fun g2 => absurd g2 (by omega)) H
    intro i hi
    by_cases e : a ≤ i ∧ i < a + w
    · rw [if_pos e, pk_cpy_in (by omega) (by omega), show 136 - m + (136 + i - (136 + a)) = 136 - m + (i - a) by omega, hs9 _ (by omega)]
    · rw [if_neg e, pk_cpy_out (by omega), ht6 i hi]
  · intro g hy2
    have ec := hc (by omega)
    have hb7 : bs_L (bs_up b6 0 (128 - m)) (128 - m) y c := bs_L0 hb6 rfl
    rw [e66b, hb6.1, hl6.1, show 136 - m - 8 = 128 - m by omega, show 128 - m + (a + 1 - 1) = 128 - m + a by omega, ec]
    dsimp only [bs_S]
    refine bs_fin (β := 128 - m) (y := y) (by omega) (by omega) (by omega) hr1 hr2 ha hm hw hln hl6 hb7 (by omega) (by omega) (by omega) ?_ ?_ H
    · intro i hi
      by_cases e : a ≤ i ∧ i < a + w
      · rw [if_pos e, pk_cpy_in (by omega) (by omega), show 136 - m + (128 - m + i - (128 - m + a)) = 136 - m + (i - a) by omega, pk_cpy_out (by omega), hs9 _ (by omega)]
      · rw [if_neg e, pk_cpy_out (by omega), pk_cpy_in (by omega) (by omega), show 136 + (128 - m + i - (128 - m)) = 136 + i by omega, ht6 i hi]
    · intro g2
      rw [hy g2]
      refine ⟨by omega, by omega, ?_⟩
      rw [pk_cpy_out (by omega), pk_cpy_out (by omega)]
      exact ht6 f hf
theorem bs_62 {post : Int32 → St0 → Prop} {mc ms kc ks : Nat} {x : Int32} {f n z a m : Nat} (hf : f < 8) (hn : n < 8) (hz : z = min n (8 - f)) (ha : a < 8) (hm : m < 8) (H : post 1 ()) :
    ∃ fu, wL_lawOf_62 post mc ms x (nI f) (nI n) (nI z) (nI (a + 1)) (nI m) kc ks fu 0 0 0 144 (fun _ => 0) (fun _ => 0) (fun _ => 0) (fun _ => 0) (fun _ => 0) (fun _ => 0) := by
  refine pk_loop (fun fu i s => wL_lawOf_62 post mc ms x (nI f) (nI n) (nI z) (nI (a + 1)) (nI m) kc ks fu (nI i) (nI i) (nI 0) (nI 144) s (fun _ => nI 0) (fun _ => nI 0) (fun _ => 0) (fun _ => 0) (fun _ => 0)) (fun i s => ∀ j, j < i → s j = bs_t x j) 8 0 (fun _ => 0) (by omega) (fun j hj => absurd hj (by omega)) ?_ ?_
  · intro fu s hs
    exact bs_chain hf hn hz ha hm hs H
  · intro fu i s hi hs hw
    refine pk_le 8 i (fun z => absurd z (by omega)) (fun _ => ?_)
    obtain ⟨q, hq, e⟩ := bs_tE x i
    unfold wpL_letter
    refine bs_key (K := i) (P := 0) (B := 144) (l := fun _ => 0) (b := fun _ => 0) (c := bs_t x i) e (by omega) (by omega) ?_
    refine nm_r (nI_1 i) (hw _ ?_)
    refine lt_s (fun j hj => ?_) pk_us
    rw [pk_un (by omega)]
    exact hs j hj
end
theorem bs_lawOf {post : Int32 → St0 → Prop} (p0 p1 p2 p3 : Int32) (H : post 1 ()) : wpL_lawOf post 210 3360 () p0 p1 p2 p3 := by
  obtain ⟨f, hf, ef⟩ := pk_andE p1 (m := 7) 3 (by decide)
  obtain ⟨n, hn, en⟩ := pk_andE (p1 >>> ((3 : Int32) &&& 31)) (m := 7) 3 (by decide)
  obtain ⟨a, ha, ea⟩ := pk_andE p2 (m := 7) 3 (by decide)
  obtain ⟨m, hm, em⟩ := pk_andE p3 (m := 7) 3 (by decide)
  have e8 : 1 + (p2 &&& 7) = nI (a + 1) := by
    rw [ea, Nat.add_comm]
    exact nI_add 1 a
  have c43 : ∀ z, z = min n (8 - f) → ∀ kc ks, wL_lawOf_43 post 210 3360 p0 p2 p3 (nI f) (nI n) (nI z) kc ks 0 0 144 (fun _ => 0) (fun _ => 0) (fun _ => 0) (fun _ => 0) (fun _ => 0) (fun _ => 0) :=
    fun z hz kc ks => nm_r e8 (nm_r em (bs_62 hf hn hz ha hm H))
  refine ⟨by omega, by omega, 6, 492, by omega, by omega, ?_⟩
  refine ⟨by omega, by omega, by omega, by omega, by omega, by omega, by omega, by omega, by omega, by omega, by omega, by omega, ?_⟩
  have e8f : 8 - nI f = nI (8 - f) := pk_sub (a := 8) (by omega)
  refine nm_r ef (nm_r en (pk_le n (8 - f) (fun g => c43 n (by omega) _ _) (fun g => ?_) rfl e8f))
  rw [e8f]
  exact c43 _ (by omega) _ _
theorem bs_cell {post : Int32 → Prop} {L : Nat} {xs : Nat → Int32} (hL : L ≤ 4) (k : Nat) (hk : k < 4) (H : ∀ v, post v) : wpL_cellAt post L xs () (nI k) :=
  pk_le L k (fun _ => H _) (fun z => ⟨pk_in k L z, H _⟩)
theorem i_vc (xs : Nat → Int32) (L : Nat) (hL : L ≤ 4) : wpL_law (fun r => r = 1) L xs := by
  unfold wpL_law
  refine bs_cell hL 0 (by omega) (fun r1 => bs_cell hL 1 (by omega) (fun r2 => bs_cell hL 2 (by omega) (fun r3 => bs_cell hL 3 (by omega) (fun r4 => ⟨210, 3360, by omega, by omega, ?_⟩))))
  exact bs_lawOf r1 r2 r3 r4 rfl
end
