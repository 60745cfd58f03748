section
/-- the state word that a run starts with -/
def te_st (a5 : Nat → Int32) : Int32 := ((a5 0) ||| ((a5 1) <<< ((3 : Int32) &&& 31))) ||| ((a5 2) <<< ((6 : Int32) &&& 31))
/-- the result that a state word answers -/
def te_res (s : Int32) : Int32 := ((64 * (s &&& 7)) + (8 * ((s >>> ((3 : Int32) &&& 31)) &&& 7))) + ((s >>> ((6 : Int32) &&& 31)) &&& 7)
/-- the set of ends of a thread at a state word -/
def te_end (s : Int32) (t : Nat) : Int32 := (1 : Int32) <<< (((s >>> ((9 + (3 * nI t)) &&& 31)) &&& 7) &&& 31)
/-- a step taken -/
def te_aft (t op pl k s : Int32) : Int32 :=
  if op = 0 then ((s &&& (((7 : Int32) <<< ((9 + (3 * t)) &&& 31)) ^^^ (-1))) ||| (((s >>> ((3 * pl) &&& 31)) &&& 7) <<< ((9 + (3 * t)) &&& 31)))
  else if op = 1 then ((s &&& (((7 : Int32) <<< ((3 * pl) &&& 31)) ^^^ (-1))) ||| (k <<< ((3 * pl) &&& 31)))
  else if op = 2 then ((s &&& (((7 : Int32) <<< ((3 * pl) &&& 31)) ^^^ (-1))) ||| (((((s >>> ((9 + (3 * t)) &&& 31)) &&& 7) + k) &&& 7) <<< ((3 * pl) &&& 31)))
  else if op = 3 then ((s &&& (((7 : Int32) <<< ((3 * pl) &&& 31)) ^^^ (-1))) ||| (((((s >>> ((3 * pl) &&& 31)) &&& 7) + k) &&& 7) <<< ((3 * pl) &&& 31)))
  else if op = 4 then (s ||| ((t + 1) <<< ((18 + (2 * pl)) &&& 31)))
  else if ((s >>> ((18 + (2 * pl)) &&& 31)) &&& 3) = t + 1 then (s &&& (((3 : Int32) <<< ((18 + (2 * pl)) &&& 31)) ^^^ (-1))) else s
theorem te_resN (s : Int32) : ∃ R : Nat, R < 512 ∧ te_res s = nI R := by
  obtain ⟨i, hi, ei⟩ := pk_andE s (m := 7) 3 (by decide)
  obtain ⟨j, hj, ej⟩ := pk_andE (s >>> ((3 : Int32) &&& 31)) (m := 7) 3 (by decide)
  obtain ⟨k, hk, ek⟩ := pk_andE (s >>> ((6 : Int32) &&& 31)) (m := 7) 3 (by decide)
  refine ⟨64 * i + 8 * j + k, by omega, ?_⟩
  unfold te_res
  rw [ei, ej, ek, show (64 : Int32) = nI 64 from rfl, show (8 : Int32) = nI 8 from rfl, pk_mul, pk_mul, nI_add, nI_add]
theorem te_k0 : ∀ t, t < 3 → ((0 : Int32) >>> ((2 * nI t) &&& 31)) &&& 3 = 0 := by decide +kernel
theorem te_k1 : ∀ t, t < 3 → ∀ u, u < 3 → (if u = t then (1 : Int32) else 0) ≤ (((1 : Int32) <<< ((2 * nI t) &&& 31)) >>> ((2 * nI u) &&& 31)) &&& 3 := by decide +kernel
theorem te_s0 : ∀ t, t < 3 → ¬ ((0 : Int32) >>> (nI t &&& 31)) &&& 1 = 1 := by decide +kernel
theorem te_s1 : ∀ t, t < 3 → ((0 : Int32) >>> (nI t &&& 31)) &&& 1 = 0 := by decide +kernel
theorem te_3t {t : Nat} : 3 * nI t + 0 = nI (3 * t) := by
  rw [Int32.add_zero, show (3 : Int32) = nI 3 from rfl, pk_mul]
theorem te_d3 {t : Nat} (ht : t < 3) : nI (3 * t) / 3 = nI t := by
  rw [show (3 : Int32) = nI 3 from rfl, pk_div (by omega) (by omega) (by omega), Nat.mul_div_cancel_left t (by omega)]
theorem te_fill {f s : Nat → Int32} {i k : Nat} {x : Int32} (hk : k = i) (h : ∀ j, j < i → s j = f j) (hx : x = f i) : ∀ j, j < i + 1 → upd s k x j = f j := by
  intro j hj
  rw [hk]
  by_cases e : j = i
  · rw [e, pk_us, hx]
  · rw [pk_un e]
    exact h j (by omega)
/-- what the exploration starts from: no step, or one step of one thread; s: the word at the run's end -/
def te_cfg (a1 a2 a3 a4 a5 : Nat → Int32) (s : Int32) : Prop :=
  ((∀ t, t < 3 → a1 t = 0) ∧ s = te_st a5) ∨
  (∃ t, t < 3 ∧ a1 t = 1 ∧ (∀ u, u < 3 → u ≠ t → a1 u = 0) ∧ (a2 (3 * t) = 4 → (te_st a5 >>> ((18 + (2 * a3 (3 * t))) &&& 31)) &&& 3 = 0) ∧ s = te_aft (nI t) (a2 (3 * t)) (a3 (3 * t)) (a4 (3 * t)) (te_st a5))
end
section
section
variable {f0 f1 f2 f3 f4 f5 f6 : Int32} {a1 a2 a3 a4 a5 a6 a7 a8 a9 a10 a11 a12 a13 : Nat → Int32}
theorem te_nx_m {post : Int32 → Prop} {t : Nat} {p1 : Int32} (ht : t < 3) (h : a1 t ≤ (p1 >>> ((2 * nI t) &&& 31)) &&& 3) (hp : post (-1)) : wpX_nextOf post (f0, f1, f2, f3, f4, f5, f6, a1, a2, a3, a4, a5, a6, a7, a8, a9, a10, a11, a12, a13) (nI t) p1 := by
  unfold wpX_nextOf
  dsimp only
  exact nm_e ⟨vp_in_nI ht (by omega), br_t (by rw [nI_clamp (by omega)]; exact h) hp⟩
theorem te_nx_at {post : Int32 → Prop} {t : Nat} {p1 : Int32} (ht : t < 3) (h0 : p1 = 0) (h : a1 t = 1) (hp : post (nI (3 * t))) : wpX_nextOf post (f0, f1, f2, f3, f4, f5, f6, a1, a2, a3, a4, a5, a6, a7, a8, a9, a10, a11, a12, a13) (nI t) p1 := by
  unfold wpX_nextOf
  dsimp only
  rw [h0]
  exact nm_r (te_k0 t ht) ⟨vp_in_nI ht (by omega), br_f (by rw [nI_clamp (by omega), h]; decide) (by rw [te_3t]; exact hp)⟩
theorem te_nx_any {post : Int32 → Prop} {t : Nat} {p1 : Int32} (ht : t < 3) (hp : ∀ r, post r) : wpX_nextOf post (f0, f1, f2, f3, f4, f5, f6, a1, a2, a3, a4, a5, a6, a7, a8, a9, a10, a11, a12, a13) (nI t) p1 := by
  unfold wpX_nextOf
  dsimp only
  exact nm_e ⟨vp_in_nI ht (by omega), br_c (fun _ => hp _) (fun _ => hp _)⟩
theorem te_canDo {post : Int32 → Prop} {t : Nat} {p1 : Int32} (ht : t < 3) (h : a2 (3 * t) = 4 → (p1 >>> ((18 + (2 * a3 (3 * t))) &&& 31)) &&& 3 = 0) (hp : post 1) : wpX_canDo post (f0, f1, f2, f3, f4, f5, f6, a1, a2, a3, a4, a5, a6, a7, a8, a9, a10, a11, a12, a13) (nI (3 * t)) p1 := by
  have c : (nI (3 * t)).toNatClampNeg = 3 * t := nI_clamp (by omega)
  unfold wpX_canDo
  dsimp only
  rw [c]
  exact ⟨vp_in_nI (by omega) (by omega), br_c (fun h4 => ⟨vp_in_nI (by omega) (by omega), br_t (h h4) hp⟩) (fun _ => hp)⟩
theorem te_after {post : Int32 → Prop} {t : Nat} {p1 : Int32} (ht : t < 3) (hp : post (te_aft (nI t) (a2 (3 * t)) (a3 (3 * t)) (a4 (3 * t)) p1)) : wpX_after post (f0, f1, f2, f3, f4, f5, f6, a1, a2, a3, a4, a5, a6, a7, a8, a9, a10, a11, a12, a13) (nI (3 * t)) p1 := by
  have c : (nI (3 * t)).toNatClampNeg = 3 * t := nI_clamp (by omega)
  have i9 : vp_in (nI (3 * t)) 9 := vp_in_nI (by omega) (by omega)
  unfold wpX_after
  dsimp only
  rw [c]
  refine ⟨by decide, nm_r (te_d3 ht) ⟨i9, nm_e (nm_e (nm_e (nm_e ⟨i9, nm_e ?_⟩)))⟩⟩
  unfold te_aft at hp
  refine br_c (fun h => ?_) (fun h => ?_)
  · rw [if_pos h] at hp
    exact hp
  rw [if_neg h] at hp
  refine br_c (fun h => ⟨i9, ?_⟩) (fun h => ?_)
  · rw [if_pos h] at hp
    exact hp
  rw [if_neg h] at hp
  refine br_c (fun h => ⟨i9, ?_⟩) (fun h => ?_)
  · rw [if_pos h] at hp
    exact hp
  rw [if_neg h] at hp
  refine br_c (fun h => ⟨i9, ?_⟩) (fun h => ?_)
  · rw [if_pos h] at hp
    exact hp
  rw [if_neg h] at hp
  refine ⟨i9, nm_e (nm_e (br_c (fun h => ?_) (fun h => ?_)))⟩
  · rw [if_pos h] at hp
    exact hp
  rw [if_neg h] at hp
  refine br_c (fun h => ?_) (fun h => ?_)
  · rw [if_pos h] at hp
    exact hp
  · rw [if_neg h] at hp
    exact hp
theorem te_clear49 {post : St2 → Prop} (hp : ∀ b12 b13, (∀ t, t < 3 → b13 t = 0) → post (f0, f1, f2, f3, f4, f5, f6, a1, a2, a3, a4, a5, a6, a7, a8, a9, a10, a11, b12, b13)) : ∃ n, wX_clear_49 post f0 f1 f2 f3 f4 f5 f6 n 0 a1 a2 a3 a4 a5 a6 a7 a8 a9 a10 a11 a12 a13 :=
  pk_loop (σ := (Nat → Int32) × (Nat → Int32)) (fun n i s => wX_clear_49 post f0 f1 f2 f3 f4 f5 f6 n (nI i) a1 a2 a3 a4 a5 a6 a7 a8 a9 a10 a11 (s.1) (s.2)) (fun i s => ∀ j, j < i → s.2 j = (fun _ => 0) j) 3 0 (a12, a13) (by omega) (fun j hj => absurd hj (by omega))
    (fun n s h => pk_le 3 3 (fun _ => hp s.1 s.2 h) (fun z => absurd z (by omega)))
    (fun n i s hi h hw => pk_le 3 i (fun z => absurd z (by omega)) (fun _ => ⟨pk_in i 3 hi, pk_in i 3 hi, nm_e ⟨pk_in i 3 hi, nm_e (nm_r (nI_1 i) (hw (upd s.1 (nI i).toNatClampNeg (a5 (nI i).toNatClampNeg), upd s.2 (nI i).toNatClampNeg 0) (te_fill (nI_clamp (by omega)) h rfl)))⟩⟩))
theorem te_clear {post : St2 → Prop} (hp : ∀ b11 b12 b13, (∀ n, n < 512 → b11 n = 0) → (∀ t, t < 3 → b13 t = 0) → post (0, 0, 0, 0, f4, f5, 0, a1, a2, a3, a4, a5, a6, a7, a8, a9, a10, b11, b12, b13)) : wpX_clear post (f0, f1, f2, f3, f4, f5, f6, a1, a2, a3, a4, a5, a6, a7, a8, a9, a10, a11, a12, a13) := by
  unfold wpX_clear
  dsimp only
  exact pk_loop (fun n i s => wX_clear_27 post 0 0 0 0 f4 f5 0 n (nI i) a1 a2 a3 a4 a5 a6 a7 a8 a9 a10 s a12 a13) (fun i s => ∀ j, j < i → s j = (fun _ => 0) j) 512 0 a11 (by omega) (fun j hj => absurd hj (by omega))
    (fun n s h => pk_le 512 512 (fun _ => te_clear49 (fun b12 b13 h13 => hp s b12 b13 h h13)) (fun z => absurd z (by omega)))
    (fun n i s hi h hw => pk_le 512 i (fun z => absurd z (by omega)) (fun _ => ⟨pk_in i 512 hi, nm_e (nm_r (nI_1 i) (hw _ (te_fill (nI_clamp (by omega)) h rfl)))⟩))
theorem te_isEnd_t {post : Int32 → Prop} {d : Nat} (hd : d < 11) (h : ∀ t, t < 3 → a1 t ≤ ((a7 d) >>> ((2 * nI t) &&& 31)) &&& 3) (hp : post 1) : wpX_isEnd post (f0, f1, f2, f3, f4, f5, f6, a1, a2, a3, a4, a5, a6, a7, a8, a9, a10, a11, a12, a13) (nI d) := by
  unfold wpX_isEnd
  dsimp only
  exact pk_loop (σ := Unit) (fun n i _ => wX_isEnd_2 post (nI d) f0 f1 f2 f3 f4 f5 f6 a1 a2 a3 a4 a5 a6 a7 a8 a9 a10 a11 a12 a13 n (nI i)) (fun _ _ => True) 3 0 () (by omega) trivial
    (fun n _ _ => pk_le 3 3 (fun _ => hp) (fun z => absurd z (by omega)))
    (fun n i _ hi _ hw => pk_le 3 i (fun z => absurd z (by omega)) (fun _ => ⟨pk_in d 11 hd, te_nx_m hi (by rw [nI_clamp (by omega)]; exact h i hi) (br_t (by decide) (nm_r (nI_1 i) (hw () trivial)))⟩))
theorem te_isEnd_f {post : Int32 → Prop} {t : Nat} (ht : t < 3) (h7 : a7 0 = 0) (h : ∀ u, u < t → a1 u = 0) (h1 : a1 t = 1) (hc : a2 (3 * t) = 4 → (a6 0 >>> ((18 + (2 * a3 (3 * t))) &&& 31)) &&& 3 = 0) (hp : post 0) : wpX_isEnd post (f0, f1, f2, f3, f4, f5, f6, a1, a2, a3, a4, a5, a6, a7, a8, a9, a10, a11, a12, a13) (nI 0) := by
  have c : (nI 0).toNatClampNeg = 0 := nI_clamp (by omega)
  unfold wpX_isEnd
  dsimp only
  exact pk_loop (σ := Unit) (fun n i _ => wX_isEnd_2 post (nI 0) f0 f1 f2 f3 f4 f5 f6 a1 a2 a3 a4 a5 a6 a7 a8 a9 a10 a11 a12 a13 n (nI i)) (fun _ _ => True) t 0 () (by omega) trivial
    (fun n _ _ => pk_le 3 t (fun z => absurd z (by omega)) (fun _ => ⟨pk_in 0 11 (by omega), te_nx_at ht (by rw [c, h7]) h1 (br_f (nI_pos (by omega)) ⟨pk_in 0 11 (by omega), te_canDo ht (by rw [c]; exact hc) (br_f (by decide) hp)⟩)⟩))
    (fun n i _ hi _ hw => pk_le 3 i (fun z => absurd z (by omega)) (fun _ => ⟨pk_in 0 11 (by omega), te_nx_m (by omega) (by rw [c, h7, h i hi, te_k0 i (by omega)]; decide) (br_t (by decide) (nm_r (nI_1 i) (hw () trivial)))⟩))
theorem te_fin190 {post : St2 → Prop} {d : Nat} (hd : d ≤ 10) (hp : ∀ io, post (f0, f1, f2, f3, f4, f5, io, a1, a2, a3, a4, a5, a6, a7, a8, a9, a10, a11, a12, a13)) (x5 x6 : Int32) : ∃ n, wX_finish_190 post (nI d) f0 f1 f2 f3 f4 f5 f6 a1 a2 a3 a4 a5 a6 a7 a8 a9 a10 a11 a12 a13 n x5 x6 0 :=
  pk_loop (σ := Int32 × Int32) (fun n i s => wX_finish_190 post (nI d) f0 f1 f2 f3 f4 f5 f6 a1 a2 a3 a4 a5 a6 a7 a8 a9 a10 a11 a12 a13 n s.1 s.2 (nI i)) (fun _ _ => True) d 0 (x5, x6) (by omega) trivial
    (fun n s _ => pk_le d d (fun _ => br_c (fun _ => br_c (fun _ => hp 0) (fun _ => hp 1)) (fun _ => hp 1)) (fun z => absurd z (by omega)))
    (fun n i s hi _ hw => pk_le d i (fun z => absurd z (by omega)) (fun _ =>
      have H : ∀ z, wX_finish_217 post (wX_finish_190 post (nI d) f0 f1 f2 f3 f4 f5 f6 a1 a2 a3 a4 a5 a6 a7 a8 a9 a10 a11 a12 a13 n) (nI d) s.2 (nI i) z f0 f1 f2 f3 f4 f5 f6 a1 a2 a3 a4 a5 a6 a7 a8 a9 a10 a11 a12 a13 := fun z => ⟨pk_in i 10 (by omega), br_c (fun _ => nm_r (nI_1 i) (hw (z, nI i) trivial)) (fun _ => nm_r (nI_1 i) (hw (z, s.2) trivial))⟩
      ⟨pk_in i 10 (by omega), br_c (fun _ => H _) (fun _ => H _)⟩))
theorem te_fin140 {post : St2 → Prop} {d : Nat} {s : Int32} (hd : d ≤ 10) (hp : ∀ io b13, (∀ t, t < 3 → b13 t = a13 t ||| te_end s t) → post (f0, f1, f2, f3, f4, f5, io, a1, a2, a3, a4, a5, a6, a7, a8, a9, a10, a11, a12, b13)) : ∃ n, wX_finish_140 post (nI d) s f0 f1 f2 f3 f4 f5 f6 n 0 a1 a2 a3 a4 a5 a6 a7 a8 a9 a10 a11 a12 a13 :=
  pk_loop (fun n i b => wX_finish_140 post (nI d) s f0 f1 f2 f3 f4 f5 f6 n (nI i) a1 a2 a3 a4 a5 a6 a7 a8 a9 a10 a11 a12 b) (fun i b => (∀ j, j < i → b j = (fun t => a13 t ||| te_end s t) j) ∧ ∀ j, i ≤ j → b j = a13 j) 3 0 a13 (by omega) ⟨fun j hj => absurd hj (by omega), fun _ _ => rfl⟩
    (fun n b h => pk_le 3 3 (fun _ => te_fin190 hd (fun io => hp io b h.1) (nI d) (nI d)) (fun z => absurd z (by omega)))
    (fun n i b hi h hw => pk_le 3 i (fun z => absurd z (by omega)) (fun _ => ⟨pk_in i 3 hi, pk_in i 3 hi, nm_r (e' := upd b i (a13 i ||| te_end s i)) (by rw [nI_clamp (by omega), h.2 i (Nat.le_refl i)]; rfl) (nm_r (nI_1 i) (hw _ ⟨te_fill rfl h.1 rfl, fun j hj => by rw [pk_un (by omega)]; exact h.2 j (by omega)⟩))⟩))
theorem te_finish {post : St2 → Prop} {d R : Nat} (hd : d ≤ 10) (hs : nI d = a1 0 + a1 1 + a1 2) (hR : R < 512) (hr : te_res (a6 d) = nI R)
    (hp : ∀ io b13, (∀ t, t < 3 → b13 t = a13 t ||| te_end (a6 d) t) → post (f0 + 1, f1 + 1, f2, f3, f4, f5, io, a1, a2, a3, a4, a5, a6, a7, a8, a9, a10, upd a11 R (a11 R + 1), a12, b13)) : wpX_finish post (f0, f1, f2, f3, f4, f5, f6, a1, a2, a3, a4, a5, a6, a7, a8, a9, a10, a11, a12, a13) (nI d) := by
  unfold wpX_finish
  dsimp only
  refine nm_e (nm_e (br_t hs ?_))
  exact br_f (by decide) ⟨pk_in d 11 (by omega), nm_r (e' := a6 d) (by rw [nI_clamp (by omega)]) (nm_r hr ⟨pk_in R 512 hR, pk_in R 512 hR, nm_r (e' := upd a11 R (a11 R + 1)) (by rw [nI_clamp (by omega)]) (te_fin140 hd hp)⟩)⟩
theorem te_en139 {post : St2 → Prop} (hp : ∀ b12, post (f0, f1, f2, f3, f4, f5, f6, a1, a2, a3, a4, a5, a6, a7, a8, a9, a10, a11, b12, a13)) : ∃ n, wX_enter_139 post 0 f0 f1 f2 f3 f4 f5 f6 n 0 a1 a2 a3 a4 a5 a6 a7 a8 a9 a10 a11 a12 a13 :=
  pk_loop (fun n i s => wX_enter_139 post 0 f0 f1 f2 f3 f4 f5 f6 n (nI i) a1 a2 a3 a4 a5 a6 a7 a8 a9 a10 a11 s a13) (fun _ _ => True) 3 0 a12 (by omega) trivial
    (fun n s _ => pk_le 3 3 (fun _ => hp s) (fun z => absurd z (by omega)))
    (fun n i s hi _ hw => pk_le 3 i (fun z => absurd z (by omega)) (fun _ => ⟨pk_in 1 11 (by omega), nm_e ⟨pk_in i 3 hi, br_c (fun _ => ⟨pk_in i 3 hi, pk_in i 3 hi, nm_e (nm_r (nI_1 i) (hw _ trivial))⟩) (fun _ => ⟨pk_in i 3 hi, nm_e (nm_r (nI_1 i) (hw _ trivial))⟩)⟩⟩))
theorem te_en52 {post : St2 → Prop} {x3 : Int32} (h8 : a8 0 = 0) (hp : ∀ b12, post (f0, f1, f2, f3, f4, f5, f6, a1, a2, a3, a4, a5, a6, a7, upd a8 1 0, upd a9 1 0, a10, a11, b12, a13)) : ∃ n, wX_enter_52 post 0 x3 f0 f1 f2 f3 f4 f5 f6 a1 a2 a3 a4 a5 a6 a7 a8 a9 a10 a11 a12 a13 n 0 0 :=
  pk_loop (σ := Unit) (fun n i _ => wX_enter_52 post 0 x3 f0 f1 f2 f3 f4 f5 f6 a1 a2 a3 a4 a5 a6 a7 a8 a9 a10 a11 a12 a13 n 0 (nI i)) (fun _ _ => True) 3 0 () (by omega) trivial
    (fun n _ _ => pk_le 3 3 (fun _ => ⟨pk_in 1 11 (by omega), nm_r (e' := upd a8 1 0) rfl ⟨pk_in 1 11 (by omega), nm_r (e' := upd a9 1 0) rfl (te_en139 hp)⟩⟩) (fun z => absurd z (by omega)))
    (fun n i _ hi _ hw => pk_le 3 i (fun z => absurd z (by omega)) (fun _ => ⟨pk_in 0 11 (by omega), te_nx_any hi (fun r => ⟨pk_in 0 11 (by omega), br_f (by rw [show (0 : Int32).toNatClampNeg = 0 from rfl, h8]; exact te_s0 i hi) (nm_r (nI_1 i) (hw () trivial))⟩)⟩))
theorem te_enter {post : St2 → Prop} {t : Nat} (ht : t < 3) (h7 : a7 0 = 0) (h8 : a8 0 = 0)
    (hp : ∀ b12, post (f0, f1, f2, f3, f4, f5, f6, a1, a2, a3, a4, a5, upd a6 1 (te_aft (nI t) (a2 (3 * t)) (a3 (3 * t)) (a4 (3 * t)) (a6 0)), upd a7 1 ((1 : Int32) <<< ((2 * nI t) &&& 31)), upd a8 1 0, upd a9 1 0, upd a10 0 (nI (3 * t)), a11, b12, a13)) : wpX_enter post (f0, f1, f2, f3, f4, f5, f6, a1, a2, a3, a4, a5, a6, a7, a8, a9, a10, a11, a12, a13) (nI 0) (nI t) (nI (3 * t)) := by
  unfold wpX_enter
  dsimp only
  refine ⟨pk_in 0 11 (by omega), te_after ht ⟨pk_in 1 11 (by omega), nm_r (e' := upd a6 1 (te_aft (nI t) (a2 (3 * t)) (a3 (3 * t)) (a4 (3 * t)) (a6 0))) rfl ⟨pk_in 0 11 (by omega), pk_in 1 11 (by omega), nm_r (e' := upd a7 1 ((1 : Int32) <<< ((2 * nI t) &&& 31))) ?_ ⟨pk_in 0 10 (by omega), nm_r (e' := upd a10 0 (nI (3 * t))) rfl (te_en52 h8 hp)⟩⟩⟩⟩
  rw [show (nI 0).toNatClampNeg = 0 from rfl, h7, Int32.zero_add]
  rfl
end
end
section
section
variable {post : St2 → Prop} {x1 : Int32} {f0 f1 f2 f3 f4 f5 f6 : Int32} {a1 a2 a3 a4 a5 a6 a7 a8 a9 a10 a11 a12 a13 : Nat → Int32}
theorem te_x_out {n : Nat} {x3 : Int32} (hp : post (f0, f1, f2, f3, f4, f5, f6, a1, a2, a3, a4, a5, a6, a7, a8, a9, a10, a11, a12, a13)) : wX_explore_60 post x1 (n + 1) (-1) x3 f0 f1 f2 f3 f4 f5 f6 a1 a2 a3 a4 a5 a6 a7 a8 a9 a10 a11 a12 a13 :=
  br_c (fun _ => hp) (fun _ => br_t (by decide) hp)
theorem te_x_skip {n d i t : Nat} (hd : d < 11) (hi : i < 1000) (ht : t < 3) (h9 : a9 d = nI t) (hn : a1 t ≤ ((a7 d) >>> ((2 * nI t) &&& 31)) &&& 3)
    (hw : wX_explore_60 post x1 n (nI d) (nI (i + 1)) f0 f1 f2 f3 f4 f5 f6 a1 a2 a3 a4 a5 a6 a7 a8 (upd a9 d (nI (t + 1))) a10 a11 a12 a13) : wX_explore_60 post x1 (n + 1) (nI d) (nI i) f0 f1 f2 f3 f4 f5 f6 a1 a2 a3 a4 a5 a6 a7 a8 a9 a10 a11 a12 a13 := by
  have c : (nI d).toNatClampNeg = d := nI_clamp (by omega)
  have hin : vp_in (nI d) 11 := vp_in_nI hd (by omega)
  refine pk_le 100000 i (fun z => absurd z (by omega)) (fun _ => br_f (nI_pos (by omega)) ⟨hin, nm_r (e' := nI t) (by rw [c, h9]) (pk_eq t 3 (fun z => absurd z (by omega)) (fun _ => ⟨hin, hin, nm_r (e' := upd a9 d (nI (t + 1))) (by rw [c, h9, nI_1]) ⟨hin, te_nx_m ht (by rw [c]; exact hn) (br_t (by decide) ?_)⟩⟩))⟩)
  exact br_t rfl (nm_r (nI_1 i) hw)
theorem te_x_skips {n d : Nat} (hd : d < 11) : ∀ (m t i : Nat) (a9 : Nat → Int32), t + m ≤ 3 → i + m < 1000 → a9 d = nI t → (∀ u, t ≤ u → u < t + m → a1 u ≤ ((a7 d) >>> ((2 * nI u) &&& 31)) &&& 3) →
    (∀ b9 : Nat → Int32, b9 d = nI (t + m) → (∀ j, j ≠ d → b9 j = a9 j) → wX_explore_60 post x1 n (nI d) (nI (i + m)) f0 f1 f2 f3 f4 f5 f6 a1 a2 a3 a4 a5 a6 a7 a8 b9 a10 a11 a12 a13) → wX_explore_60 post x1 (n + m) (nI d) (nI i) f0 f1 f2 f3 f4 f5 f6 a1 a2 a3 a4 a5 a6 a7 a8 a9 a10 a11 a12 a13 := by
  intro m
  induction m with
  | zero => exact fun t i a9 _ _ h9 _ H => H a9 h9 (fun _ _ => rfl)
  | succ m ih =>
    intro t i a9 ht hi h9 hn H
    refine te_x_skip hd (by omega) (by omega) h9 (hn t (by omega) (by omega)) (ih (t + 1) (i + 1) _ (by omega) (by omega) pk_us (fun u h1 h2 => hn u (by omega) (by omega)) (fun b9 h1 h2 => ?_))
    rw [show i + 1 + m = i + (m + 1) by omega]
    exact H b9 (by rw [h1, show t + 1 + m = t + (m + 1) by omega]) (fun j hj => by rw [h2 j hj, pk_un hj])
theorem te_x_enter {n i t : Nat} (hi : i < 1000) (ht : t < 3) (h9 : a9 0 = nI t) (h7 : a7 0 = 0) (h8 : a8 0 = 0) (h1 : a1 t = 1) (hc : a2 (3 * t) = 4 → (a6 0 >>> ((18 + (2 * a3 (3 * t))) &&& 31)) &&& 3 = 0)
    (hw : ∀ b8 b12, wX_explore_60 post x1 n (nI 1) (nI (i + 1)) f0 f1 f2 f3 f4 f5 f6 a1 a2 a3 a4 a5 (upd a6 1 (te_aft (nI t) (a2 (3 * t)) (a3 (3 * t)) (a4 (3 * t)) (a6 0))) (upd a7 1 ((1 : Int32) <<< ((2 * nI t) &&& 31))) b8 (upd (upd a9 0 (nI (t + 1))) 1 0) (upd a10 0 (nI (3 * t))) a11 b12 a13) : wX_explore_60 post x1 (n + 1) (nI 0) (nI i) f0 f1 f2 f3 f4 f5 f6 a1 a2 a3 a4 a5 a6 a7 a8 a9 a10 a11 a12 a13 := by
  have c : (nI 0).toNatClampNeg = 0 := nI_clamp (by omega)
  have hin : vp_in (nI 0) 11 := vp_in_nI (by omega) (by omega)
  refine pk_le 100000 i (fun z => absurd z (by omega)) (fun _ => br_f (nI_pos (by omega)) ⟨hin, nm_r (e' := nI t) (by rw [c, h9]) (pk_eq t 3 (fun z => absurd z (by omega)) (fun _ => ⟨hin, hin, nm_r (e' := upd a9 0 (nI (t + 1))) (by rw [c, h9, nI_1]) ⟨hin, te_nx_at ht (by rw [c, h7]) h1 (br_f (nI_pos (by omega)) ⟨hin, br_t (by rw [c, h8]; exact te_s1 t ht) ?_⟩)⟩⟩))⟩)
  refine br_f (by decide) ⟨hin, te_canDo ht (by rw [c]; exact hc) (br_f (by decide) (te_enter ht h7 h8 (fun b12 => ?_)))⟩
  exact br_c (fun _ => nm_r (e' := nI 1) rfl (nm_r (nI_1 i) (hw _ b12))) (fun _ => ⟨hin, hin, nm_e (nm_r (e' := nI 1) rfl (nm_r (nI_1 i) (hw _ b12)))⟩)
theorem te_x_no {n i t : Nat} (hi : i < 1000) (ht : t < 3) (h9 : a9 0 = nI 3) (h7 : a7 0 = 0) (h : ∀ u, u < t → a1 u = 0) (h1 : a1 t = 1) (hc : a2 (3 * t) = 4 → (a6 0 >>> ((18 + (2 * a3 (3 * t))) &&& 31)) &&& 3 = 0)
    (hw : wX_explore_60 post x1 n (-1) (nI (i + 1)) f0 f1 f2 f3 f4 f5 f6 a1 a2 a3 a4 a5 a6 a7 a8 a9 a10 a11 a12 a13) : wX_explore_60 post x1 (n + 1) (nI 0) (nI i) f0 f1 f2 f3 f4 f5 f6 a1 a2 a3 a4 a5 a6 a7 a8 a9 a10 a11 a12 a13 := by
  have c : (nI 0).toNatClampNeg = 0 := nI_clamp (by omega)
  have hin : vp_in (nI 0) 11 := vp_in_nI (by omega) (by omega)
  exact pk_le 100000 i (fun z => absurd z (by omega)) (fun _ => br_f (nI_pos (by omega)) ⟨hin, nm_r (e' := nI 3) (by rw [c, h9]) (pk_eq 3 3 (fun _ => te_isEnd_f ht h7 h h1 hc (br_t rfl (nm_r (e' := -1) (by decide) (nm_r (nI_1 i) hw)))) (fun z => absurd rfl z))⟩)
theorem te_x_fin {n i d R : Nat} {y : Int32} (hi : i < 1000) (hd : d < 11) (h9 : a9 d = nI 3) (hn : ∀ t, t < 3 → a1 t ≤ ((a7 d) >>> ((2 * nI t) &&& 31)) &&& 3) (hs : nI d = a1 0 + a1 1 + a1 2) (hR : R < 512) (hr : te_res (a6 d) = nI R) (hy : nI d + (-1) = y)
    (hw : ∀ io b13, (∀ t, t < 3 → b13 t = a13 t ||| te_end (a6 d) t) → wX_explore_60 post x1 n y (nI (i + 1)) (f0 + 1) (f1 + 1) f2 f3 f4 f5 io a1 a2 a3 a4 a5 a6 a7 a8 a9 a10 (upd a11 R (a11 R + 1)) a12 b13) : wX_explore_60 post x1 (n + 1) (nI d) (nI i) f0 f1 f2 f3 f4 f5 f6 a1 a2 a3 a4 a5 a6 a7 a8 a9 a10 a11 a12 a13 := by
  have c : (nI d).toNatClampNeg = d := nI_clamp (by omega)
  have hin : vp_in (nI d) 11 := vp_in_nI hd (by omega)
  exact pk_le 100000 i (fun z => absurd z (by omega)) (fun _ => br_f (nI_pos (by omega)) ⟨hin, nm_r (e' := nI 3) (by rw [c, h9]) (pk_eq 3 3 (fun _ => te_isEnd_t hd hn (br_f (by decide) (te_finish (by omega) hs hR hr (fun io b13 h13 => nm_r hy (nm_r (nI_1 i) (hw io b13 h13)))))) (fun z => absurd rfl z))⟩)
theorem te_found {b : Nat → Int32} {R : Nat} (hR : R < 512) (h : ∀ n, n < 512 → b n = 0) : ∀ n, n < 512 → upd b R (b R + 1) n = if n = R then 1 else 0 := by
  intro n hn
  by_cases e : n = R
  · rw [e, pk_us, if_pos rfl, h R hR, Int32.zero_add]
  · rw [pk_un e, if_neg e, h n hn]
theorem te_ends {b c : Nat → Int32} {s : Int32} (h : ∀ t, t < 3 → b t = 0) (h2 : ∀ t, t < 3 → c t = b t ||| te_end s t) : ∀ t, t < 3 → c t = te_end s t := by
  intro t ht
  rw [h2 t ht, h t ht, Int32.zero_or]
theorem te_sum {t : Nat} (ht : t < 3) (h1 : a1 t = 1) (h : ∀ u, u < 3 → u ≠ t → a1 u = 0) : nI 1 = a1 0 + a1 1 + a1 2 := by
  have e : t = 0 ∨ t = 1 ∨ t = 2 := by omega
  rcases e with e | e | e <;> subst e
  · rw [h 1 (by omega) (by omega), h 2 (by omega) (by omega), h1]
    rfl
  · rw [h 0 (by omega) (by omega), h 2 (by omega) (by omega), h1]
    rfl
  · rw [h 0 (by omega) (by omega), h 1 (by omega) (by omega), h1]
    rfl
theorem te_explore {p0 s : Int32} {R : Nat} (hc : te_cfg a1 a2 a3 a4 a5 s) (hR : R < 512) (hr : te_res s = nI R)
    (hp : ∀ g1 g2 g3 io b6 b7 b8 b9 b10 b11 b12 b13, (∀ n, n < 512 → b11 n = if n = R then 1 else 0) → (∀ t, t < 3 → b13 t = te_end s t) → post (1, g1, g2, g3, f4, f5, io, a1, a2, a3, a4, a5, b6, b7, b8, b9, b10, b11, b12, b13)) : wpX_explore post (f0, f1, f2, f3, f4, f5, f6, a1, a2, a3, a4, a5, a6, a7, a8, a9, a10, a11, a12, a13) p0 := by
  unfold wpX_explore
  dsimp only
  refine te_clear (fun b11 b12 b13 h11 h13 => ?_)
  dsimp only
  refine nm_r (e' := upd a6 0 (te_st a5)) rfl (nm_e (nm_e (nm_e ?_)))
  rcases hc with ⟨h1, hs⟩ | ⟨t, ht, h1, h0, hl, hs⟩
  · have z7 : ∀ u, u < 3 → a1 u ≤ ((upd a7 0 0) 0 >>> ((2 * nI u) &&& 31)) &&& 3 := fun u hu => by
      rw [pk_us, h1 u hu, te_k0 u hu]
      decide
    refine ⟨((0 + 1) + 1) + 3, te_x_skips (d := 0) (by omega) 3 0 0 _ (by omega) (by omega) pk_us (fun u _ hu => z7 u hu) (fun b9 h9 _ => ?_)⟩
    refine te_x_fin (y := -1) (by omega) (by omega) h9 z7 (by rw [h1 0 (by omega), h1 1 (by omega), h1 2 (by omega)]; rfl) hR (by rw [pk_us, ← hs]; exact hr) (by decide) (fun io c13 hc13 => ?_)
    rw [pk_us, ← hs] at hc13
    exact te_x_out (hp _ _ _ _ _ _ _ _ _ _ _ _ (te_found hR h11) (te_ends h13 hc13))
  · have z7 : ∀ u, u < 3 → u ≠ t → a1 u ≤ ((upd a7 0 0) 0 >>> ((2 * nI u) &&& 31)) &&& 3 := fun u hu hn => by
      rw [pk_us, h0 u hu hn, te_k0 u hu]
      decide
    refine ⟨((((((0 + 1) + 1) + (2 - t)) + 1) + 3) + 1) + t, te_x_skips (d := 0) (by omega) t 0 0 _ (by omega) (by omega) pk_us (fun u _ hu => z7 u (by omega) (by omega)) (fun b9 h9 _ => ?_)⟩
    rw [Nat.zero_add] at h9
    refine te_x_enter (by omega) ht h9 pk_us pk_us h1 (by rw [pk_us]; exact hl) (fun c8 c12 => ?_)
    rw [pk_us, ← hs]
    refine te_x_skips (d := 1) (by omega) 3 0 _ _ (by omega) (by omega) pk_us (fun u _ hu => ?_) (fun c9 k9 k9' => ?_)
    · rw [pk_us]
      have k := te_k1 t ht u hu
      by_cases e : u = t
      · rw [if_pos e] at k
        rw [e, h1, ← e]
        rw [← e] at k
        exact k
      · rw [if_neg e] at k
        rw [h0 u hu e]
        exact k
    · refine te_x_fin (y := nI 0) (by omega) (by omega) k9 (fun u hu => ?_) (te_sum ht h1 h0) hR (by rw [pk_us]; exact hr) (pk_m1 0) (fun io c13 hc13 => ?_)
      · rw [pk_us]
        have k := te_k1 t ht u hu
        by_cases e : u = t
        · rw [if_pos e] at k
          rw [e, h1, ← e]
          rw [← e] at k
          exact k
        · rw [if_neg e] at k
          rw [h0 u hu e]
          exact k
      rw [pk_us] at hc13
      refine te_x_skips (d := 0) (by omega) (2 - t) (t + 1) _ _ (by omega) (by omega) ?_ (fun u h1 h2 => ?_) (fun d9 l9 _ => ?_)
      · rw [k9' 0 (by omega), pk_un (by omega), pk_us]
      · rw [pk_un (by omega)]
        exact z7 u (by omega) (by omega)
      · rw [show t + 1 + (2 - t) = 3 by omega] at l9
        refine te_x_no (by omega) ht l9 (by rw [pk_un (by omega), pk_us]) (fun u hu => h0 u (by omega) (by omega)) h1 (by rw [pk_un (by omega), pk_us]; exact hl) ?_
        exact te_x_out (hp _ _ _ _ _ _ _ _ _ _ _ _ (te_found hR h11) (te_ends h13 hc13))
end
end
section
section
variable {post : Int32 → St2 → Prop} {f0 f1 f2 f3 f4 f5 f6 : Int32} {a1 a2 a3 a4 a5 a6 a7 a8 a9 a10 a11 a12 a13 : Nat → Int32} {s : Int32} {R : Nat}
theorem te_nextResult (hc : te_cfg a1 a2 a3 a4 a5 s) (hR : R < 512) (hr : te_res s = nI R)
    (hp : ∀ g1 g2 g3 io b6 b7 b8 b9 b10 b11 b12 b13, post (nI R) (1, g1, g2, g3, f4, f5, io, a1, a2, a3, a4, a5, b6, b7, b8, b9, b10, b11, b12, b13)) : wpX_nextResult post (f0, f1, f2, f3, f4, f5, f6, a1, a2, a3, a4, a5, a6, a7, a8, a9, a10, a11, a12, a13) (-1) := by
  unfold wpX_nextResult
  dsimp only
  refine te_explore hc hR hr (fun g1 g2 g3 io b6 b7 b8 b9 b10 b11 b12 b13 h11 _ => br_t (by decide) ?_)
  have neg : ∀ i, i < 512 → ¬ nI i ≤ -1 := by
    intro i hi h
    have h2 := Int32.le_iff_toInt_le.mp h
    rw [nI_toInt (by omega), show (-1 : Int32).toInt = -1 from rfl] at h2
    omega
  exact pk_loop (σ := Unit) (fun n i _ => wX_nextResult_18 post (-1) 1 g1 g2 g3 f4 f5 io a1 a2 a3 a4 a5 b6 b7 b8 b9 b10 b11 b12 b13 n (nI i)) (fun _ _ => True) R 0 () (by omega) trivial
    (fun n _ _ => pk_le 512 R (fun z => absurd z (by omega)) (fun _ => br_f (neg R hR) ⟨pk_in R 512 hR, br_f (by rw [nI_clamp (by omega), h11 R hR, if_pos rfl]; decide) (hp g1 g2 g3 io b6 b7 b8 b9 b10 b11 b12 b13)⟩))
    (fun n i _ hi _ hw => pk_le 512 i (fun z => absurd z (by omega)) (fun _ => br_f (neg i (by omega)) ⟨pk_in i 512 (by omega), br_t (by rw [nI_clamp (by omega), h11 i (by omega), if_neg (by omega)]; decide) (nm_r (nI_1 i) (hw () trivial))⟩))
theorem te_kindsOf (hc : te_cfg a1 a2 a3 a4 a5 s) (hR : R < 512) (hr : te_res s = nI R)
    (hp : ∀ g1 g2 g3 io b6 b7 b8 b9 b10 b11 b12 b13, post 1 (1, g1, g2, g3, f4, f5, io, a1, a2, a3, a4, a5, b6, b7, b8, b9, b10, b11, b12, b13)) : wpX_kindsOf post (f0, f1, f2, f3, f4, f5, f6, a1, a2, a3, a4, a5, a6, a7, a8, a9, a10, a11, a12, a13) (nI R) := by
  unfold wpX_kindsOf
  dsimp only
  refine br_f (nI_pos (by omega)) (br_t (nI_le (b := 511) (by omega) (by decide)) (te_explore hc hR hr (fun g1 g2 g3 io b6 b7 b8 b9 b10 b11 b12 b13 h11 _ => ⟨pk_in R 512 hR, ?_⟩)))
  dsimp only
  rw [nI_clamp (by omega), h11 R hR, if_pos rfl]
  exact hp g1 g2 g3 io b6 b7 b8 b9 b10 b11 b12 b13
theorem te_endings {t : Nat} (ht : t < 3) (hc : te_cfg a1 a2 a3 a4 a5 s)
    (hp : ∀ g1 g2 g3 io b6 b7 b8 b9 b10 b11 b12 b13, post (te_end s t) (1, g1, g2, g3, f4, f5, io, a1, a2, a3, a4, a5, b6, b7, b8, b9, b10, b11, b12, b13)) : wpX_endings post (f0, f1, f2, f3, f4, f5, f6, a1, a2, a3, a4, a5, a6, a7, a8, a9, a10, a11, a12, a13) (nI t) := by
  obtain ⟨R, hR, hr⟩ := te_resN s
  unfold wpX_endings
  dsimp only
  refine br_f (nI_pos (by omega)) (br_f (nI_ge (b := 3) ht (by decide)) (br_f (by decide) (te_explore hc hR hr (fun g1 g2 g3 io b6 b7 b8 b9 b10 b11 b12 b13 _ h13 => ⟨pk_in t 3 ht, ?_⟩))))
  dsimp only
  rw [nI_clamp (by omega), h13 t ht]
  exact hp g1 g2 g3 io b6 b7 b8 b9 b10 b11 b12 b13
theorem te_endings_bad {x : Int32} (hx : x < 0 ∨ 3 ≤ x) (hp : post (-1) (f0, f1, f2, f3, f4, f5, f6, a1, a2, a3, a4, a5, a6, a7, a8, a9, a10, a11, a12, a13)) : wpX_endings post (f0, f1, f2, f3, f4, f5, f6, a1, a2, a3, a4, a5, a6, a7, a8, a9, a10, a11, a12, a13) x := by
  unfold wpX_endings
  dsimp only
  exact br_c (fun _ => br_t rfl hp) (fun h => br_c (fun _ => br_t rfl hp) (fun h2 => absurd hx (fun z => z.elim h h2)))
theorem te_runs (hc : te_cfg a1 a2 a3 a4 a5 s)
    (hp : ∀ g1 g2 g3 io b6 b7 b8 b9 b10 b11 b12 b13, post 1 (1, g1, g2, g3, f4, f5, io, a1, a2, a3, a4, a5, b6, b7, b8, b9, b10, b11, b12, b13)) : wpX_runs post (f0, f1, f2, f3, f4, f5, f6, a1, a2, a3, a4, a5, a6, a7, a8, a9, a10, a11, a12, a13) := by
  obtain ⟨R, hR, hr⟩ := te_resN s
  unfold wpX_runs
  dsimp only
  exact te_explore hc hR hr (fun g1 g2 g3 io b6 b7 b8 b9 b10 b11 b12 b13 _ _ => hp g1 g2 g3 io b6 b7 b8 b9 b10 b11 b12 b13)
theorem te_in_bad {x y : Int32} (hx : x < 0 ∨ 3 ≤ x) (hp : post (-1) (f0, f1, f2, f3, f4, f5, f6, a1, a2, a3, a4, a5, a6, a7, a8, a9, a10, a11, a12, a13)) : wpX_initial post (f0, f1, f2, f3, f4, f5, f6, a1, a2, a3, a4, a5, a6, a7, a8, a9, a10, a11, a12, a13) x y := by
  unfold wpX_initial
  dsimp only
  exact br_c (fun _ => br_t rfl hp) (fun h => br_c (fun _ => br_t rfl hp) (fun h2 => absurd hx (fun z => z.elim h h2)))
theorem te_in_bad2 {v : Nat} {y : Int32} (hv : v < 3) (hy : y < 0 ∨ 8 ≤ y) (hp : post (-2) (f0, f1, f2, f3, f4, f5, f6, a1, a2, a3, a4, a5, a6, a7, a8, a9, a10, a11, a12, a13)) : wpX_initial post (f0, f1, f2, f3, f4, f5, f6, a1, a2, a3, a4, a5, a6, a7, a8, a9, a10, a11, a12, a13) (nI v) y := by
  unfold wpX_initial
  dsimp only
  refine br_f (nI_pos (by omega)) (br_f (nI_ge (b := 3) hv (by decide)) (br_f (by decide) (br_c (fun _ => hp) (fun h => br_f (fun h7 => ?_) hp))))
  rcases hy with h8 | h8
  · exact h h8
  · have a := Int32.le_iff_toInt_le.mp h8
    have b := Int32.le_iff_toInt_le.mp h7
    rw [show (8 : Int32).toInt = 8 from rfl] at a
    rw [show (7 : Int32).toInt = 7 from rfl] at b
    omega
theorem te_in_ok {v x : Nat} (hv : v < 3) (hx : x < 8) (hp : post (a5 v) (f0, f1, f2, f3, f4, f5, f6, a1, a2, a3, a4, upd a5 v (nI x), a6, a7, a8, a9, a10, a11, a12, a13)) : wpX_initial post (f0, f1, f2, f3, f4, f5, f6, a1, a2, a3, a4, a5, a6, a7, a8, a9, a10, a11, a12, a13) (nI v) (nI x) := by
  unfold wpX_initial
  dsimp only
  refine br_f (nI_pos (by omega)) (br_f (nI_ge (b := 3) hv (by decide)) (br_f (by decide) (br_f (nI_pos (by omega)) (br_t (nI_le (b := 7) (by omega) (by decide)) ⟨pk_in v 3 hv, nm_r (e' := a5 v) (by rw [nI_clamp (by omega)]) ⟨pk_in v 3 hv, nm_r (e' := upd a5 v (nI x)) (by rw [nI_clamp (by omega)]) hp⟩⟩))))
theorem te_sp_bad {x y z : Int32} (hx : x < 0 ∨ 3 ≤ x) (hp : post (-1) (f0, f1, f2, f3, f4, f5, f6, a1, a2, a3, a4, a5, a6, a7, a8, a9, a10, a11, a12, a13)) : wpX_step post (f0, f1, f2, f3, f4, f5, f6, a1, a2, a3, a4, a5, a6, a7, a8, a9, a10, a11, a12, a13) x y z := by
  unfold wpX_step
  dsimp only
  exact br_c (fun _ => br_t rfl hp) (fun h => br_c (fun _ => br_t rfl hp) (fun h2 => absurd hx (fun z => z.elim h h2)))
/-- whether a word names a step -/
def te_gw (w : Nat) : Prop := w / 8 < 6 ∧ w % 8 < 3 ∧ (4 ≤ w / 8 → w % 8 < 2)
theorem te_op {w : Nat} (hw : w < 2 ^ 31) : nI w >>> ((3 : Int32) &&& 31) = nI (w / 8) := by
  rw [pk_shrN hw _ 3 (by decide)]
theorem te_pl {w : Nat} (hw : w < 2 ^ 31) : nI w &&& 7 = nI (w % 8) := by
  rw [pk_andN (by omega) 3 (by decide)]
theorem te_sp_neg {t : Nat} {y z : Int32} (ht : t < 3) (hy : y < 0) (hp : post (-2) (f0, f1, f2, f3, f4, f5, f6, a1, a2, a3, a4, a5, a6, a7, a8, a9, a10, a11, a12, a13)) : wpX_step post (f0, f1, f2, f3, f4, f5, f6, a1, a2, a3, a4, a5, a6, a7, a8, a9, a10, a11, a12, a13) (nI t) y z := by
  unfold wpX_step
  dsimp only
  exact br_f (nI_pos (by omega)) (br_f (nI_ge (b := 3) ht (by decide)) (br_f (by decide) (nm_e (nm_e (br_t hy hp)))))
theorem te_sp_bad2 {t w : Nat} {z : Int32} (ht : t < 3) (hw : w < 2 ^ 31) (hg : ¬ te_gw w) (hp : post (-2) (f0, f1, f2, f3, f4, f5, f6, a1, a2, a3, a4, a5, a6, a7, a8, a9, a10, a11, a12, a13)) : wpX_step post (f0, f1, f2, f3, f4, f5, f6, a1, a2, a3, a4, a5, a6, a7, a8, a9, a10, a11, a12, a13) (nI t) (nI w) z := by
  unfold wpX_step
  dsimp only
  refine br_f (nI_pos (by omega)) (br_f (nI_ge (b := 3) ht (by decide)) (br_f (by decide) (nm_r (te_op hw) (nm_r (te_pl hw) (br_f (nI_pos hw) ?_)))))
  refine pk_lt 5 (w / 8) (fun _ => hp) (fun h1 => pk_lt 2 (w % 8) (fun _ => hp) (fun h2 => pk_lt (w / 8) 4 (fun h3 => ?_) (fun h3 => pk_le (w % 8) 1 (fun h4 => ?_) (fun _ => hp))))
  · exact absurd ⟨by omega, by omega, fun _ => by omega⟩ hg
  · exact absurd ⟨by omega, by omega, fun _ => by omega⟩ hg
theorem te_sp_51b {x1 z x4 x5 : Int32} (hz : z < 0 ∨ 8 ≤ z) (hp : post (-3) (f0, f1, f2, f3, f4, f5, f6, a1, a2, a3, a4, a5, a6, a7, a8, a9, a10, a11, a12, a13)) : wX_step_51 post x1 z x4 x5 f0 f1 f2 f3 f4 f5 f6 a1 a2 a3 a4 a5 a6 a7 a8 a9 a10 a11 a12 a13 := by
  unfold wX_step_51
  refine br_c (fun _ => hp) (fun h => br_f (fun h7 => ?_) hp)
  rcases hz with h8 | h8
  · exact h h8
  · have a := Int32.le_iff_toInt_le.mp h8
    have b := Int32.le_iff_toInt_le.mp h7
    rw [show (8 : Int32).toInt = 8 from rfl] at a
    rw [show (7 : Int32).toInt = 7 from rfl] at b
    omega
theorem te_sp_51 {t k : Nat} {x4 x5 : Int32} (ht : t < 3) (hk : k < 8) (h0 : a1 t = 0) (hp : post 1 (f0, f1, f2, f3, f4, f5, f6, upd a1 t 1, upd a2 (3 * t) x4, upd a3 (3 * t) x5, upd a4 (3 * t) (nI k), a5, a6, a7, a8, a9, a10, a11, a12, a13)) : wX_step_51 post (nI t) (nI k) x4 x5 f0 f1 f2 f3 f4 f5 f6 a1 a2 a3 a4 a5 a6 a7 a8 a9 a10 a11 a12 a13 := by
  have c : (nI t).toNatClampNeg = t := nI_clamp (by omega)
  have c3 : (nI (3 * t)).toNatClampNeg = 3 * t := nI_clamp (by omega)
  have i3 : vp_in (nI t) 3 := vp_in_nI ht (by omega)
  have i9 : vp_in (nI (3 * t)) 9 := vp_in_nI (by omega) (by omega)
  unfold wX_step_51
  rw [c, h0]
  refine br_f (nI_pos (by omega)) (br_t (nI_le (b := 7) (by omega) (by decide)) ⟨i3, br_f (by decide) ⟨i3, nm_r (e' := nI (3 * t)) te_3t ⟨i9, nm_r (e' := upd a2 (3 * t) x4) (by rw [c3]) ⟨i9, nm_r (e' := upd a3 (3 * t) x5) (by rw [c3]) ⟨i9, nm_r (e' := upd a4 (3 * t) (nI k)) (by rw [c3]) ⟨i3, i3, nm_r (e' := upd a1 t 1) rfl ⟨i3, ?_⟩⟩⟩⟩⟩⟩⟩)
  rw [pk_us]
  exact hp
theorem te_sp_go {t w : Nat} {z : Int32} (ht : t < 3) (hw : w < 2 ^ 31) (hg : te_gw w) (hp : wX_step_51 post (nI t) z (nI (w / 8)) (nI (w % 8)) f0 f1 f2 f3 f4 f5 f6 a1 a2 a3 a4 a5 a6 a7 a8 a9 a10 a11 a12 a13) : wpX_step post (f0, f1, f2, f3, f4, f5, f6, a1, a2, a3, a4, a5, a6, a7, a8, a9, a10, a11, a12, a13) (nI t) (nI w) z := by
  unfold wpX_step
  dsimp only
  obtain ⟨g1, g2, g3⟩ := hg
  refine br_f (nI_pos (by omega)) (br_f (nI_ge (b := 3) ht (by decide)) (br_f (by decide) (nm_r (te_op hw) (nm_r (te_pl hw) (br_f (nI_pos hw) ?_)))))
  exact pk_lt 5 (w / 8) (fun z => absurd z (by omega)) (fun h1 => pk_lt 2 (w % 8) (fun z => absurd z (by omega)) (fun h2 => pk_lt (w / 8) 4 (fun h3 => hp) (fun h3 => pk_le (w % 8) 1 (fun h4 => hp) (fun z => absurd (g3 h3) (by omega)))))
end
end
section
/-- the start word with one variable v at x, the others at 0 -/
def te_sv (v x : Nat) : Int32 := nI (x * 8 ^ v)
/-- the weight of a variable in a result -/
def te_w (p : Int32) : Int32 := if p = 0 then 64 else if p = 1 then 8 else 1
/-- a variable's value in the start word -/
def te_bv (pl v x : Nat) : Int32 := if pl = v then nI x else 0
/-- the start word with the variable pl set to k -/
def te_m (pl k v x : Nat) : Nat := (if pl = v then 0 else x * 8 ^ v) + k * 8 ^ pl
def te_tot (z x14 x9 w b n : Int32) : Int32 := if x14 = 0 then z else if 4 ≤ x9 then z else (z - (w * b)) + (w * n)
def te_now (x9 x2 b : Int32) : Int32 := if x9 = 1 then x2 else if x9 = 2 then x2 else if x9 = 3 then (b + x2) &&& 7 else b
theorem te_sv_0 : te_st (fun _ => 0) = te_sv 0 0 := by decide +kernel
theorem te_sv_u : ∀ v, v < 3 → ∀ x, x < 8 → te_st (upd (fun _ => 0) v (nI x)) = te_sv v x := by decide +kernel
theorem te_t_res : ∀ v, v < 3 → ∀ x, x < 8 → te_res (te_sv v x) = te_w (nI v) * nI x := by decide +kernel
theorem te_t_own : ∀ t, t < 3 → ∀ v, v < 3 → ∀ x, x < 8 → (te_sv v x >>> ((9 + (3 * nI t)) &&& 31)) &&& 7 = 0 := by decide +kernel
theorem te_t_end : ∀ t, t < 3 → ∀ v, v < 3 → ∀ x, x < 8 → te_end (te_sv v x) t = 1 := by decide +kernel
theorem te_t_lock : ∀ pl, pl < 3 → ∀ v, v < 3 → ∀ x, x < 8 → (te_sv v x >>> ((18 + (2 * nI pl)) &&& 31)) &&& 3 = 0 := by decide +kernel
theorem te_t_val : ∀ pl, pl < 3 → ∀ v, v < 3 → ∀ x, x < 8 → (te_sv v x >>> ((3 * nI pl) &&& 31)) &&& 7 = te_bv pl v x := by decide +kernel
theorem te_t_1 : ∀ t, t < 3 → ¬ (0 : Int32) = nI t + 1 := by decide +kernel
theorem te_t_m : ∀ pl, pl < 3 → ∀ k, k < 8 → ∀ v, v < 3 → ∀ x, x < 8 → te_m pl k v x < 512 := by decide +kernel
theorem te_t_set : ∀ pl, pl < 3 → ∀ k, k < 8 → ∀ v, v < 3 → ∀ x, x < 8 → (te_sv v x &&& (((7 : Int32) <<< ((3 * nI pl) &&& 31)) ^^^ (-1))) ||| (nI k <<< ((3 * nI pl) &&& 31)) = nI (te_m pl k v x) := by decide +kernel
theorem te_t_sum : ∀ pl, pl < 3 → ∀ k, k < 8 → ∀ v, v < 3 → ∀ x, x < 8 → te_res (nI (te_m pl k v x)) = ((te_w (nI v) * nI x) - (te_w (nI pl) * te_bv pl v x)) + (te_w (nI pl) * nI k) := by decide +kernel
theorem te_t_0 : ∀ t, t < 3 → ∀ pl, pl < 3 → ∀ v, v < 3 → ∀ x, x < 8 → te_res ((te_sv v x &&& (((7 : Int32) <<< ((9 + (3 * nI t)) &&& 31)) ^^^ (-1))) ||| (te_bv pl v x <<< ((9 + (3 * nI t)) &&& 31))) = ((te_w (nI v) * nI x) - (te_w (nI pl) * te_bv pl v x)) + (te_w (nI pl) * te_bv pl v x) := by decide +kernel
theorem te_t_0e : ∀ t, t < 3 → ∀ pl, pl < 3 → ∀ v, v < 3 → ∀ x, x < 8 → te_end ((te_sv v x &&& (((7 : Int32) <<< ((9 + (3 * nI t)) &&& 31)) ^^^ (-1))) ||| (te_bv pl v x <<< ((9 + (3 * nI t)) &&& 31))) t = (1 : Int32) <<< (te_bv pl v x &&& 31) := by decide +kernel
theorem te_t_4 : ∀ t, t < 3 → ∀ pl, pl < 3 → ∀ v, v < 3 → ∀ x, x < 8 → te_res (te_sv v x ||| ((nI t + 1) <<< ((18 + (2 * nI pl)) &&& 31))) = te_w (nI v) * nI x := by decide +kernel
theorem te_t_4e : ∀ t, t < 3 → ∀ pl, pl < 3 → ∀ v, v < 3 → ∀ x, x < 8 → te_end (te_sv v x ||| ((nI t + 1) <<< ((18 + (2 * nI pl)) &&& 31))) t = 1 := by decide +kernel
theorem te_t_e9 : ∀ t, t < 3 → ∀ m, m < 512 → te_end (nI m) t = 1 := by decide +kernel
theorem te_7 : ∀ k, k < 8 → (0 + nI k) &&& 7 = nI k := by decide +kernel
/-- the word behind a step, its result and the thread's end -/
theorem te_plain {t op pl k v x : Nat} (ht : t < 3) (hop : op < 6) (hpl : pl < 3) (hk : k < 8) (hv : v < 3) (hx : x < 8) (b : Int32) (hb : b = if 4 ≤ op then 0 else te_bv pl v x) :
    te_res (te_aft (nI t) (nI op) (nI pl) (nI k) (te_sv v x)) = te_tot (te_w (nI v) * nI x) 1 (nI op) (te_w (nI pl)) b (te_now (nI op) (nI k) b) ∧ te_end (te_aft (nI t) (nI op) (nI pl) (nI k) (te_sv v x)) t = if nI op = 0 then (1 : Int32) <<< (b &&& 31) else 1 := by
  have e : op = 0 ∨ op = 1 ∨ op = 2 ∨ op = 3 ∨ op = 4 ∨ op = 5 := by omega
  rcases e with rfl | rfl | rfl | rfl | rfl | rfl
  · rw [if_neg (by omega)] at hb
    rw [hb, if_pos (by decide), te_aft, if_pos (by decide), te_tot, if_neg (by decide), if_neg (by decide), te_now, if_neg (by decide), if_neg (by decide), if_neg (by decide), te_t_val pl hpl v hv x hx]
    exact ⟨te_t_0 t ht pl hpl v hv x hx, te_t_0e t ht pl hpl v hv x hx⟩
  · rw [if_neg (by omega)] at hb
    rw [hb, if_neg (by decide), te_aft, if_neg (by decide), if_pos (by decide), te_tot, if_neg (by decide), if_neg (by decide), te_now, if_pos (by decide), te_t_set pl hpl k hk v hv x hx]
    exact ⟨te_t_sum pl hpl k hk v hv x hx, te_t_e9 t ht _ (te_t_m pl hpl k hk v hv x hx)⟩
  · rw [if_neg (by omega)] at hb
    rw [hb, if_neg (by decide), te_aft, if_neg (by decide), if_neg (by decide), if_pos (by decide), te_tot, if_neg (by decide), if_neg (by decide), te_now, if_neg (by decide), if_pos (by decide), te_t_own t ht v hv x hx, te_7 k hk, te_t_set pl hpl k hk v hv x hx]
    exact ⟨te_t_sum pl hpl k hk v hv x hx, te_t_e9 t ht _ (te_t_m pl hpl k hk v hv x hx)⟩
  · rw [if_neg (by omega)] at hb
    rw [hb, if_neg (by decide), te_aft, if_neg (by decide), if_neg (by decide), if_neg (by decide), if_pos (by decide), te_tot, if_neg (by decide), if_neg (by decide), te_now, if_neg (by decide), if_neg (by decide), if_pos (by decide), te_t_val pl hpl v hv x hx]
    obtain ⟨j, hj, ej⟩ := pk_andE (te_bv pl v x + nI k) (m := 7) 3 (by decide)
    rw [ej, te_t_set pl hpl j hj v hv x hx]
    exact ⟨te_t_sum pl hpl j hj v hv x hx, te_t_e9 t ht _ (te_t_m pl hpl j hj v hv x hx)⟩
  · rw [if_neg (by decide), te_aft, if_neg (by decide), if_neg (by decide), if_neg (by decide), if_neg (by decide), if_pos (by decide), te_tot, if_neg (by decide), if_pos (by decide)]
    exact ⟨te_t_4 t ht pl hpl v hv x hx, te_t_4e t ht pl hpl v hv x hx⟩
  · rw [if_neg (by decide), te_aft, if_neg (by decide), if_neg (by decide), if_neg (by decide), if_neg (by decide), if_neg (by decide), te_t_lock pl hpl v hv x hx, if_neg (te_t_1 t ht), te_tot, if_neg (by decide), if_pos (by decide)]
    exact ⟨te_t_res v hv x hx, te_t_end t ht v hv x hx⟩
end
section
def te_e (x14 x9 x15 : Int32) : Int32 := if x14 = 0 then 1 else if x9 = 0 then (1 : Int32) <<< (x15 &&& 31) else 1
def te_bef (x3 x10 x14 x9 x13 : Int32) : Int32 := if x3 = x10 then (if x14 = 0 then 0 else if 4 ≤ x9 then 0 else x13) else 0
def te_dn (x8 x11 x12 : Int32) : Int32 := if x8 = 0 then 0 else if x11 = 0 then 0 else if x12 = 0 then 0 else 1
def te_hd (x6 x7 x4 : Int32) : Int32 := if x6 = 0 then 0 else if x7 = 0 then 0 else x4
def te_z (x3 x6 x13 : Int32) : Int32 := if x6 = 0 then 0 else te_w x3 * x13
section
variable {post : Int32 → St0 → Prop} {mc ms kc ks : Nat} {x0 x1 x2 x3 x4 x6 x7 x8 x9 x10 x11 x12 x13 x14 x15 x16 x17 z0 z1 s : Int32} {R : Nat} {f0 f1 f2 f3 f4 f5 f6 : Int32} {a1 a2 a3 a4 a5 a6 a7 a8 a9 a10 a11 a12 a13 : Nat → Int32}
theorem te_l445 (hc : te_cfg a1 a2 a3 a4 a5 s) (e : z1 = z0) (hp : post 1 ()) : wL_lawOf_445 post mc ms z0 z1 kc ks f0 f1 f2 f3 f4 f5 f6 a1 a2 a3 a4 a5 a6 a7 a8 a9 a10 a11 a12 a13 := by
  unfold wL_lawOf_445
  exact br_t e (te_runs hc (fun _ _ _ _ _ _ _ _ _ _ _ _ => br_t rfl hp))
theorem te_l388 (hc : te_cfg a1 a2 a3 a4 a5 s) (hR : R < 512) (hr : te_res s = nI R) (hx : (x8 = 0 ∧ (x0 < 0 ∨ 3 ≤ x0)) ∨ (¬ x8 = 0 ∧ ∃ t, t < 3 ∧ x0 = nI t ∧ te_end s t = te_e x14 x9 x15)) (hp : post 1 ()) : wL_lawOf_388 post mc ms x0 x8 x9 x14 x15 (nI R) kc ks f0 f1 f2 f3 f4 f5 f6 a1 a2 a3 a4 a5 a6 a7 a8 a9 a10 a11 a12 a13 := by
  unfold wL_lawOf_388
  refine te_nextResult hc hR hr (fun _ _ _ _ _ _ _ _ _ _ _ _ => br_t rfl (te_kindsOf hc hR hr (fun _ _ _ _ _ _ _ _ _ _ _ _ => br_t rfl ?_)))
  rcases hx with ⟨h8, hb⟩ | ⟨h8, t, ht, rfl, he⟩
  · exact te_endings_bad hb (br_t h8 (te_l445 hc rfl hp))
  · refine te_endings ht hc (fun _ _ _ _ _ _ _ _ _ _ _ _ => br_f h8 (br_c (fun h14 => ?_) (fun h14 => br_c (fun h9 => ?_) (fun h9 => ?_))))
    · exact te_l445 hc (by rw [he, te_e, if_pos h14]) hp
    · exact te_l445 hc (by rw [he, te_e, if_neg h14, if_pos h9]) hp
    · exact te_l445 hc (by rw [he, te_e, if_neg h14, if_neg h9]) hp
theorem te_l359 (H : wL_lawOf_388 post mc ms x0 x8 x9 x14 x15 (te_tot z0 x14 x9 x17 x15 x16) kc ks f0 f1 f2 f3 f4 f5 f6 a1 a2 a3 a4 a5 a6 a7 a8 a9 a10 a11 a12 a13) : wL_lawOf_359 post mc ms x0 x8 x9 x14 x15 x16 x17 z0 kc ks f0 f1 f2 f3 f4 f5 f6 a1 a2 a3 a4 a5 a6 a7 a8 a9 a10 a11 a12 a13 := by
  unfold wL_lawOf_359
  rw [te_tot] at H
  refine br_c (fun h => ?_) (fun h => br_c (fun h' => ?_) (fun h' => nm_e ?_))
  · rw [if_pos h] at H
    exact H
  · rw [if_neg h, if_pos h'] at H
    exact H
  · rw [if_neg h, if_neg h'] at H
    exact H
theorem te_l343 (H : wL_lawOf_388 post mc ms x0 x8 x9 x14 x15 (te_tot (if x6 = 0 then 0 else z0 * x13) x14 x9 x17 x15 x16) kc ks f0 f1 f2 f3 f4 f5 f6 a1 a2 a3 a4 a5 a6 a7 a8 a9 a10 a11 a12 a13) : wL_lawOf_343 post mc ms x0 x6 x8 x9 x13 x14 x15 x16 x17 z0 kc ks f0 f1 f2 f3 f4 f5 f6 a1 a2 a3 a4 a5 a6 a7 a8 a9 a10 a11 a12 a13 := by
  unfold wL_lawOf_343
  refine br_c (fun h => ?_) (fun h => ?_)
  · rw [if_pos h] at H
    exact te_l359 H
  · rw [if_neg h] at H
    exact te_l359 H
theorem te_l321 (H : wL_lawOf_388 post mc ms x0 x8 x9 x14 x15 (te_tot (te_z x3 x6 x13) x14 x9 z0 x15 x16) kc ks f0 f1 f2 f3 f4 f5 f6 a1 a2 a3 a4 a5 a6 a7 a8 a9 a10 a11 a12 a13) : wL_lawOf_321 post mc ms x0 x3 x6 x8 x9 x13 x14 x15 x16 z0 kc ks f0 f1 f2 f3 f4 f5 f6 a1 a2 a3 a4 a5 a6 a7 a8 a9 a10 a11 a12 a13 := by
  unfold wL_lawOf_321
  rw [te_z, te_w] at H
  refine br_c (fun h => ?_) (fun h => br_c (fun h' => ?_) (fun h' => ?_))
  · rw [if_pos h] at H
    exact te_l343 H
  · rw [if_neg h, if_pos h'] at H
    exact te_l343 H
  · rw [if_neg h, if_neg h'] at H
    exact te_l343 H
theorem te_l297 (H : wL_lawOf_388 post mc ms x0 x8 x9 x14 x15 (te_tot (te_z x3 x6 x13) x14 x9 (te_w x10) x15 z0) kc ks f0 f1 f2 f3 f4 f5 f6 a1 a2 a3 a4 a5 a6 a7 a8 a9 a10 a11 a12 a13) : wL_lawOf_297 post mc ms x0 x3 x6 x8 x9 x10 x13 x14 x15 z0 kc ks f0 f1 f2 f3 f4 f5 f6 a1 a2 a3 a4 a5 a6 a7 a8 a9 a10 a11 a12 a13 := by
  unfold wL_lawOf_297
  have e : ∀ y, te_w x10 = y → wL_lawOf_321 post mc ms x0 x3 x6 x8 x9 x13 x14 x15 z0 y kc ks f0 f1 f2 f3 f4 f5 f6 a1 a2 a3 a4 a5 a6 a7 a8 a9 a10 a11 a12 a13 := fun y ey => te_l321 (by rw [← ey]; exact H)
  exact br_c (fun h => e _ (by rw [te_w, if_pos h])) (fun h => br_c (fun h' => e _ (by rw [te_w, if_neg h, if_pos h'])) (fun h' => e _ (by rw [te_w, if_neg h, if_neg h'])))
theorem te_l261 (H : wL_lawOf_388 post mc ms x0 x8 x9 x14 z0 (te_tot (te_z x3 x6 x13) x14 x9 (te_w x10) z0 (te_now x9 x2 z0)) kc ks f0 f1 f2 f3 f4 f5 f6 a1 a2 a3 a4 a5 a6 a7 a8 a9 a10 a11 a12 a13) : wL_lawOf_261 post mc ms x0 x2 x3 x6 x8 x9 x10 x13 x14 z0 kc ks f0 f1 f2 f3 f4 f5 f6 a1 a2 a3 a4 a5 a6 a7 a8 a9 a10 a11 a12 a13 := by
  unfold wL_lawOf_261
  have e : ∀ y, te_now x9 x2 z0 = y → wL_lawOf_297 post mc ms x0 x3 x6 x8 x9 x10 x13 x14 z0 y kc ks f0 f1 f2 f3 f4 f5 f6 a1 a2 a3 a4 a5 a6 a7 a8 a9 a10 a11 a12 a13 := fun y ey => te_l297 (by rw [← ey]; exact H)
  exact br_c (fun h => e _ (by rw [te_now, if_pos h])) (fun h => br_c (fun h' => e _ (by rw [te_now, if_neg h, if_pos h'])) (fun h' => br_c (fun h2 => e _ (by rw [te_now, if_neg h, if_neg h', if_pos h2])) (fun h2 => e _ (by rw [te_now, if_neg h, if_neg h', if_neg h2]))))
theorem te_l236 (H : ∀ y, y = te_bef x3 x10 z0 x9 x13 → wL_lawOf_388 post mc ms x0 x8 x9 z0 y (te_tot (te_z x3 x6 x13) z0 x9 (te_w x10) y (te_now x9 x2 y)) kc ks f0 f1 f2 f3 f4 f5 f6 a1 a2 a3 a4 a5 a6 a7 a8 a9 a10 a11 a12 a13) : wL_lawOf_236 post mc ms x0 x2 x3 x6 x8 x9 x10 x13 z0 kc ks f0 f1 f2 f3 f4 f5 f6 a1 a2 a3 a4 a5 a6 a7 a8 a9 a10 a11 a12 a13 := by
  unfold wL_lawOf_236
  have e : ∀ y, y = te_bef x3 x10 z0 x9 x13 → wL_lawOf_261 post mc ms x0 x2 x3 x6 x8 x9 x10 x13 z0 y kc ks f0 f1 f2 f3 f4 f5 f6 a1 a2 a3 a4 a5 a6 a7 a8 a9 a10 a11 a12 a13 := fun y ey => te_l261 (H y ey)
  exact br_c (fun h => br_c (fun h' => e _ (by rw [te_bef, if_pos h, if_pos h'])) (fun h' => br_c (fun h2 => e _ (by rw [te_bef, if_pos h, if_neg h', if_pos h2])) (fun h2 => e _ (by rw [te_bef, if_pos h, if_neg h', if_neg h2])))) (fun h => e _ (by rw [te_bef, if_neg h]))
/-- what is left to show behind the step: the answers that the law waits for -/
theorem te_l214 (H : ∀ x14 y, x14 = te_dn x8 x11 x12 → y = te_bef x3 x10 x14 x9 z0 → wL_lawOf_388 post mc ms x0 x8 x9 x14 y (te_tot (te_z x3 x6 z0) x14 x9 (te_w x10) y (te_now x9 x2 y)) kc ks f0 f1 f2 f3 f4 f5 f6 a1 a2 a3 a4 a5 a6 a7 a8 a9 a10 a11 a12 a13) : wL_lawOf_214 post mc ms x0 x2 x3 x6 x8 x9 x10 x11 x12 z0 kc ks f0 f1 f2 f3 f4 f5 f6 a1 a2 a3 a4 a5 a6 a7 a8 a9 a10 a11 a12 a13 := by
  unfold wL_lawOf_214
  have e : ∀ y, y = te_dn x8 x11 x12 → wL_lawOf_236 post mc ms x0 x2 x3 x6 x8 x9 x10 z0 y kc ks f0 f1 f2 f3 f4 f5 f6 a1 a2 a3 a4 a5 a6 a7 a8 a9 a10 a11 a12 a13 := fun y ey => te_l236 (fun b eb => H y b ey eb)
  exact br_c (fun h => e _ (by rw [te_dn, if_pos h])) (fun h => br_c (fun h' => e _ (by rw [te_dn, if_neg h, if_pos h'])) (fun h' => br_c (fun h2 => e _ (by rw [te_dn, if_neg h, if_neg h', if_pos h2])) (fun h2 => e _ (by rw [te_dn, if_neg h, if_neg h', if_neg h2]))))
theorem te_l193 (hz : z1 = z0) (H : ∀ x13 x14 y, x13 = te_hd x6 x7 x4 → x14 = te_dn x8 x11 x12 → y = te_bef x3 x10 x14 x9 x13 → wL_lawOf_388 post mc ms x0 x8 x9 x14 y (te_tot (te_z x3 x6 x13) x14 x9 (te_w x10) y (te_now x9 x2 y)) kc ks f0 f1 f2 f3 f4 f5 f6 a1 a2 a3 a4 a5 a6 a7 a8 a9 a10 a11 a12 a13) : wL_lawOf_193 post mc ms x0 x2 x3 x4 x6 x7 x8 x9 x10 x11 x12 z0 z1 kc ks f0 f1 f2 f3 f4 f5 f6 a1 a2 a3 a4 a5 a6 a7 a8 a9 a10 a11 a12 a13 := by
  unfold wL_lawOf_193
  have e : ∀ y, y = te_hd x6 x7 x4 → wL_lawOf_214 post mc ms x0 x2 x3 x6 x8 x9 x10 x11 x12 y kc ks f0 f1 f2 f3 f4 f5 f6 a1 a2 a3 a4 a5 a6 a7 a8 a9 a10 a11 a12 a13 := fun y ey => te_l214 (fun a b ea eb => H y a b ey ea eb)
  exact br_t hz (br_c (fun h => e _ (by rw [te_hd, if_pos h])) (fun h => br_c (fun h' => e _ (by rw [te_hd, if_neg h, if_pos h'])) (fun h' => e _ (by rw [te_hd, if_neg h, if_neg h']))))
/-- the start: one variable at most isn't 0, and the law knows it -/
def te_P1 (x3 x4 x6 x7 : Int32) (a5 : Nat → Int32) : Prop := ∃ v x, v < 3 ∧ x < 8 ∧ te_st a5 = te_sv v x ∧ te_z x3 x6 (te_hd x6 x7 x4) = te_w (nI v) * nI x ∧ ∀ pl, pl < 3 → (if x3 = nI pl then te_hd x6 x7 x4 else 0) = te_bv pl v x
def te_P2 (x0 x8 : Int32) : Prop := (x8 = 0 ∧ (x0 < 0 ∨ 3 ≤ x0)) ∨ (x8 = 1 ∧ ∃ t, t < 3 ∧ x0 = nI t)
def te_P3 (x1 x9 x10 x11 : Int32) : Prop := (x11 = 0 ∧ (x1 < 0 ∨ ∃ w, w < 2 ^ 31 ∧ x1 = nI w ∧ ¬ te_gw w)) ∨ (x11 = 1 ∧ ∃ w, w < 2 ^ 31 ∧ x1 = nI w ∧ te_gw w ∧ x9 = nI (w / 8) ∧ x10 = nI (w % 8))
def te_P4 (x2 x12 : Int32) : Prop := (x12 = 0 ∧ (x2 < 0 ∨ 8 ≤ x2)) ∨ (x12 = 1 ∧ ∃ k, k < 8 ∧ x2 = nI k)
theorem te_l193n (hz : z1 = z0) (P1 : te_P1 x3 x4 x6 x7 a5) (P2 : te_P2 x0 x8) (hd : te_dn x8 x11 x12 = 0) (h0 : ∀ t, t < 3 → a1 t = 0) (hp : post 1 ()) : wL_lawOf_193 post mc ms x0 x2 x3 x4 x6 x7 x8 x9 x10 x11 x12 z0 z1 kc ks f0 f1 f2 f3 f4 f5 f6 a1 a2 a3 a4 a5 a6 a7 a8 a9 a10 a11 a12 a13 := by
  obtain ⟨v, x, hv, hx, hs, hzz, _⟩ := P1
  refine te_l193 hz (fun x13 x14 y e13 e14 _ => ?_)
  rw [hd] at e14
  rw [te_tot, if_pos e14, e13, hzz, ← te_t_res v hv x hx]
  obtain ⟨R, hR, hr⟩ := te_resN (te_sv v x)
  rw [hr]
  refine te_l388 (s := te_sv v x) (Or.inl ⟨h0, hs.symm⟩) hR hr ?_ hp
  rcases P2 with ⟨h8, hb⟩ | ⟨h8, t, ht, h⟩
  · exact Or.inl ⟨h8, hb⟩
  · exact Or.inr ⟨by rw [h8]; decide, t, ht, h, by rw [te_e, if_pos e14, te_t_end t ht v hv x hx]⟩
theorem te_l193d {t op pl k : Nat} (hz : z1 = z0) (P1 : te_P1 x3 x4 x6 x7 a5) (ht : t < 3) (hop : op < 6) (hpl : pl < 3) (hk : k < 8) (h1 : a1 t = 1) (h0 : ∀ u, u < 3 → u ≠ t → a1 u = 0) (h2 : a2 (3 * t) = nI op) (h3 : a3 (3 * t) = nI pl) (h4 : a4 (3 * t) = nI k) (hp : post 1 ()) : wL_lawOf_193 post mc ms (nI t) (nI k) x3 x4 x6 x7 1 (nI op) (nI pl) 1 1 z0 z1 kc ks f0 f1 f2 f3 f4 f5 f6 a1 a2 a3 a4 a5 a6 a7 a8 a9 a10 a11 a12 a13 := by
  obtain ⟨v, x, hv, hx, hs, hzz, hbv⟩ := P1
  refine te_l193 hz (fun x13 x14 y e13 e14 ey => ?_)
  have d1 : te_dn 1 1 1 = 1 := by decide
  rw [d1] at e14
  rw [e14]
  rw [e14] at ey
  have eb : y = if 4 ≤ op then 0 else te_bv pl v x := by
    rw [ey, te_bef, e13, if_neg (show ¬ (1 : Int32) = 0 by decide)]
    by_cases h : 4 ≤ op
    · rw [if_pos h, if_pos (show (4 : Int32) ≤ nI op from nI_le (a := 4) h (by omega)), ite_self]
    · rw [if_neg h, if_neg (show ¬ (4 : Int32) ≤ nI op from nI_ge (b := 4) (by omega) (by decide))]
      exact hbv pl hpl
  obtain ⟨p1, p2⟩ := te_plain ht hop hpl hk hv hx y eb
  rw [e13, hzz, ← p1]
  obtain ⟨R, hR, hr⟩ := te_resN (te_aft (nI t) (nI op) (nI pl) (nI k) (te_sv v x))
  rw [hr]
  refine te_l388 (s := te_aft (nI t) (nI op) (nI pl) (nI k) (te_sv v x)) (Or.inr ⟨t, ht, h1, h0, ?_, ?_⟩) hR hr (Or.inr ⟨by decide, t, ht, rfl, ?_⟩) hp
  · intro _
    rw [hs, h3]
    exact te_t_lock pl hpl v hv x hx
  · rw [h2, h3, h4, hs]
  · rw [p2, te_e, if_neg (show ¬ (1 : Int32) = 0 by decide)]
theorem te_l153 (P1 : te_P1 x3 x4 x6 x7 a5) (P2 : te_P2 x0 x8) (P3 : te_P3 x1 x9 x10 x11) (P4 : te_P4 x2 x12) (h0 : ∀ t, t < 3 → a1 t = 0) (hp : post 1 ()) : wL_lawOf_153 post mc ms x0 x1 x2 x3 x4 x6 x7 x8 x9 x10 x11 x12 kc ks f0 f1 f2 f3 f4 f5 f6 a1 a2 a3 a4 a5 a6 a7 a8 a9 a10 a11 a12 a13 := by
  unfold wL_lawOf_153
  rcases P2 with ⟨h8, hb⟩ | ⟨h8, t, ht, h⟩
  · exact te_sp_bad hb (br_t h8 (te_l193n rfl P1 (Or.inl ⟨h8, hb⟩) (by rw [te_dn, if_pos h8]) h0 hp))
  have n8 : ¬ x8 = 0 := by rw [h8]; decide
  rcases P3 with ⟨h11, hb⟩ | ⟨h11, w, hw, hw1, hg, h9, h10⟩
  · rw [h]
    rcases hb with hb | ⟨w, hw, hw1, hg⟩
    · exact te_sp_neg ht hb (br_f n8 (br_t h11 (te_l193n rfl P1 (Or.inr ⟨h8, t, ht, rfl⟩) (by rw [te_dn, if_neg n8, if_pos h11]) h0 hp)))
    · rw [hw1]
      exact te_sp_bad2 ht hw hg (br_f n8 (br_t h11 (te_l193n rfl P1 (Or.inr ⟨h8, t, ht, rfl⟩) (by rw [te_dn, if_neg n8, if_pos h11]) h0 hp)))
  have n11 : ¬ x11 = 0 := by rw [h11]; decide
  rw [h, hw1]
  refine te_sp_go ht hw hg ?_
  rcases P4 with ⟨h12, hb⟩ | ⟨h12, k, hk, hk1⟩
  · exact te_sp_51b hb (br_f n8 (br_f n11 (br_t h12 (te_l193n rfl P1 (Or.inr ⟨h8, t, ht, rfl⟩) (by rw [te_dn, if_neg n8, if_neg n11, if_pos h12]) h0 hp))))
  · rw [hk1]
    refine te_sp_51 ht hk (h0 t ht) (br_f n8 (br_f n11 (br_f (by rw [h12]; decide) ?_)))
    rw [h8, h9, h10, h11, h12]
    obtain ⟨g1, g2, g3⟩ := hg
    exact te_l193d rfl P1 ht g1 g2 hk pk_us (fun u hu hn => by rw [pk_un hn]; exact h0 u hu) pk_us pk_us pk_us hp
theorem te_l136 (P1 : te_P1 x3 x4 x6 x7 a5) (P2 : te_P2 x0 x8) (P3 : te_P3 x1 x9 x10 z0) (h0 : ∀ t, t < 3 → a1 t = 0) (hp : post 1 ()) : wL_lawOf_136 post mc ms x0 x1 x2 x3 x4 x6 x7 x8 x9 x10 z0 kc ks f0 f1 f2 f3 f4 f5 f6 a1 a2 a3 a4 a5 a6 a7 a8 a9 a10 a11 a12 a13 := by
  unfold wL_lawOf_136
  rcases pk_ix x2 (n := 8) (by omega) with h | h | ⟨k, hk, h⟩
  · exact br_t h (te_l153 P1 P2 P3 (Or.inl ⟨rfl, Or.inl h⟩) h0 hp)
  · refine br_c (fun _ => te_l153 P1 P2 P3 (Or.inl ⟨rfl, Or.inr h⟩) h0 hp) (fun _ => br_t ?_ (te_l153 P1 P2 P3 (Or.inl ⟨rfl, Or.inr h⟩) h0 hp))
    have a := Int32.le_iff_toInt_le.mp h
    rw [nI_toInt (by omega)] at a
    refine Int32.lt_iff_toInt_lt.mpr ?_
    rw [show (7 : Int32).toInt = 7 from rfl]
    omega
  · rw [h]
    exact br_f (nI_pos (by omega)) (br_f (nI_nlt (b := k) (a := 7) (by omega) (by decide)) (te_l153 P1 P2 P3 (Or.inr ⟨rfl, k, hk, rfl⟩) h0 hp))
theorem te_l91 (P1 : te_P1 x3 x4 x6 x7 a5) (P2 : te_P2 x0 z0) (h0 : ∀ t, t < 3 → a1 t = 0) (hp : post 1 ()) : wL_lawOf_91 post mc ms x0 x1 x2 x3 x4 x6 x7 z0 kc ks f0 f1 f2 f3 f4 f5 f6 a1 a2 a3 a4 a5 a6 a7 a8 a9 a10 a11 a12 a13 := by
  unfold wL_lawOf_91
  by_cases h : x1 < 0
  · exact nm_e (nm_e (br_t h (te_l136 P1 P2 (Or.inl ⟨rfl, Or.inl h⟩) h0 hp)))
  obtain ⟨w, hw, rfl⟩ := nI_of h
  have B : ¬ te_gw w → wL_lawOf_135 post mc ms x0 (nI w) x2 x3 x4 x6 x7 z0 (nI (w / 8)) (nI (w % 8)) kc ks f0 f1 f2 f3 f4 f5 f6 a1 a2 a3 a4 a5 a6 a7 a8 a9 a10 a11 a12 a13 := fun hg => te_l136 P1 P2 (Or.inl ⟨rfl, Or.inr ⟨w, hw, rfl, hg⟩⟩) h0 hp
  have C : te_gw w → wL_lawOf_136 post mc ms x0 (nI w) x2 x3 x4 x6 x7 z0 (nI (w / 8)) (nI (w % 8)) 1 kc ks f0 f1 f2 f3 f4 f5 f6 a1 a2 a3 a4 a5 a6 a7 a8 a9 a10 a11 a12 a13 := fun hg => te_l136 P1 P2 (Or.inr ⟨rfl, w, hw, rfl, hg, rfl, rfl⟩) h0 hp
  refine nm_r (te_op hw) (nm_r (te_pl hw) (br_f h ?_))
  refine pk_le 6 (w / 8) (fun h1 => B (fun g => absurd g.1 (by omega))) (fun h1 => pk_le 4 (w / 8) (fun h2 => ?_) (fun h2 => ?_))
  · exact pk_le 2 (w % 8) (fun h3 => B (fun g => absurd (g.2.2 h2) (by omega))) (fun h3 => C ⟨h1, by omega, fun _ => h3⟩)
  · exact pk_le 3 (w % 8) (fun h3 => B (fun g => absurd g.2.1 (by omega))) (fun h3 => C ⟨h1, h3, fun z => absurd z (by omega)⟩)
theorem te_l72 (hz : z1 = z0) (P1 : te_P1 x3 x4 x6 x7 a5) (h0 : ∀ t, t < 3 → a1 t = 0) (hp : post 1 ()) : wL_lawOf_72 post mc ms x0 x1 x2 x3 x4 x6 x7 z0 z1 kc ks f0 f1 f2 f3 f4 f5 f6 a1 a2 a3 a4 a5 a6 a7 a8 a9 a10 a11 a12 a13 := by
  unfold wL_lawOf_72
  refine br_t hz ?_
  rcases pk_ix x0 (n := 3) (by omega) with h | h | ⟨t, ht, h⟩
  · exact br_t h (te_l91 P1 (Or.inl ⟨rfl, Or.inl h⟩) h0 hp)
  · refine br_c (fun _ => te_l91 P1 (Or.inl ⟨rfl, Or.inr h⟩) h0 hp) (fun _ => br_t ?_ (te_l91 P1 (Or.inl ⟨rfl, Or.inr h⟩) h0 hp))
    have a := Int32.le_iff_toInt_le.mp h
    rw [nI_toInt (by omega)] at a
    refine Int32.lt_iff_toInt_lt.mpr ?_
    rw [show (2 : Int32).toInt = 2 from rfl]
    omega
  · rw [h]
    exact br_f (nI_pos (by omega)) (br_f (nI_nlt (b := t) (a := 2) (by omega) (by decide)) (te_l91 P1 (Or.inr ⟨rfl, t, ht, rfl⟩) h0 hp))
end
end
section
section
variable {post : Int32 → St0 → Prop} {mc ms kc ks : Nat} {x0 x1 x2 x3 x4 x6 z0 : Int32} {f0 f1 f2 f3 f4 f5 f6 : Int32} {a2 a3 a4 a6 a7 a8 a9 a10 a11 a12 a13 : Nat → Int32}
theorem te_P1_0 {x7 : Int32} (h : te_hd x6 x7 x4 = 0) : te_P1 x3 x4 x6 x7 (fun _ => 0) :=
  ⟨0, 0, by omega, by omega, te_sv_0, by rw [te_z, h, Int32.mul_zero, ite_self]; decide, fun pl hpl => by rw [h, ite_self, te_bv]; by_cases e : pl = 0 <;> simp [e, nI_0]⟩
theorem te_l42 (h3 : (x6 = 0 ∧ (x3 < 0 ∨ 3 ≤ x3)) ∨ (x6 = 1 ∧ ∃ v, v < 3 ∧ x3 = nI v)) (h4 : (z0 = 0 ∧ (x4 < 0 ∨ 8 ≤ x4)) ∨ (z0 = 1 ∧ ∃ x, x < 8 ∧ x4 = nI x)) (hp : post 1 ()) : wL_lawOf_42 post mc ms x0 x1 x2 x3 x4 x6 z0 kc ks f0 f1 f2 f3 f4 f5 f6 (fun _ => 0) a2 a3 a4 (fun _ => 0) a6 a7 a8 a9 a10 a11 a12 a13 := by
  unfold wL_lawOf_42
  rcases h3 with ⟨h6, hb⟩ | ⟨h6, v, hv, h3⟩
  · exact te_in_bad hb (br_t h6 (te_l72 rfl (te_P1_0 (by rw [te_hd, if_pos h6])) (fun _ _ => rfl) hp))
  have n6 : ¬ x6 = 0 := by rw [h6]; decide
  rw [h3]
  rcases h4 with ⟨h7, hb⟩ | ⟨h7, x, hx, h4⟩
  · exact te_in_bad2 hv hb (br_f n6 (br_t h7 (te_l72 rfl (te_P1_0 (by rw [te_hd, if_neg n6, if_pos h7])) (fun _ _ => rfl) hp)))
  have n7 : ¬ z0 = 0 := by rw [h7]; decide
  rw [h4]
  refine te_in_ok hv hx (br_f n6 (br_f n7 (te_l72 rfl ⟨v, x, hv, hx, te_sv_u v hv x hx, ?_, fun pl hpl => ?_⟩ (fun _ _ => rfl) hp)))
  · rw [te_z, te_hd, if_neg n6, if_neg n6, if_neg n7]
  · rw [te_hd, if_neg n6, if_neg n7, te_bv]
    by_cases e : pl = v
    · rw [e, if_pos rfl, if_pos rfl]
    · rw [if_neg e, if_neg (fun z => e ((nI_eq (by omega) (by omega)).mp z).symm)]
theorem te_l23 (h3 : (z0 = 0 ∧ (x3 < 0 ∨ 3 ≤ x3)) ∨ (z0 = 1 ∧ ∃ v, v < 3 ∧ x3 = nI v)) (hp : post 1 ()) : wL_lawOf_23 post mc ms x0 x1 x2 x3 x4 z0 kc ks f0 f1 f2 f3 f4 f5 f6 (fun _ => 0) a2 a3 a4 (fun _ => 0) a6 a7 a8 a9 a10 a11 a12 a13 := by
  unfold wL_lawOf_23
  rcases pk_ix x4 (n := 8) (by omega) with h | h | ⟨x, hx, h⟩
  · exact br_t h (te_l42 h3 (Or.inl ⟨rfl, Or.inl h⟩) hp)
  · refine br_c (fun _ => te_l42 h3 (Or.inl ⟨rfl, Or.inr h⟩) hp) (fun _ => br_t ?_ (te_l42 h3 (Or.inl ⟨rfl, Or.inr h⟩) hp))
    have a := Int32.le_iff_toInt_le.mp h
    rw [nI_toInt (by omega)] at a
    refine Int32.lt_iff_toInt_lt.mpr ?_
    rw [show (7 : Int32).toInt = 7 from rfl]
    omega
  · rw [h]
    exact br_f (nI_pos (by omega)) (br_f (nI_nlt (b := x) (a := 7) (by omega) (by decide)) (te_l42 h3 (Or.inr ⟨rfl, x, hx, rfl⟩) hp))
theorem te_lawOf (hp : post 1 ()) : wpL_lawOf post 346 5536 () x0 x1 x2 x3 x4 := by
  unfold wpL_lawOf
  refine ⟨by omega, by omega, 13, 605, by omega, by omega, ?_⟩
  unfold wpX_init
  dsimp only
  refine ⟨by omega, by omega, by omega, by omega, by omega, by omega, by omega, by omega, by omega, by omega, by omega, by omega, by omega, by omega, by omega, by omega, by omega, by omega, by omega, by omega, by omega, by omega, by omega, by omega, by omega, by omega, ?_⟩
  rcases pk_ix x3 (n := 3) (by omega) with h | h | ⟨v, hv, h⟩
  · exact br_t h (te_l23 (Or.inl ⟨rfl, Or.inl h⟩) hp)
  · refine br_c (fun _ => te_l23 (Or.inl ⟨rfl, Or.inr h⟩) hp) (fun _ => br_t ?_ (te_l23 (Or.inl ⟨rfl, Or.inr h⟩) hp))
    have a := Int32.le_iff_toInt_le.mp h
    rw [nI_toInt (by omega)] at a
    refine Int32.lt_iff_toInt_lt.mpr ?_
    rw [show (2 : Int32).toInt = 2 from rfl]
    omega
  · rw [h]
    exact br_f (nI_pos (by omega)) (br_f (nI_nlt (b := v) (a := 2) (by omega) (by decide)) (te_l23 (Or.inr ⟨rfl, v, hv, rfl⟩) hp))
end
theorem te_cell {post : Int32 → Prop} {L : Nat} {xs : Nat → Int32} {p : Int32} (i : Nat) (hL : L ≤ 5) (hi : i < 5) (hq : p = nI i) (hp : ∀ r, post r) : wpL_cellAt post L xs () p := by
  unfold wpL_cellAt
  rw [hq]
  exact pk_le L i (fun _ => hp _) (fun z => ⟨pk_in i L z, hp _⟩)
theorem i_vc (xs : Nat → Int32) (L : Nat) (hL : L ≤ 5) : wpL_law (fun r => r = 1) L xs := by
  unfold wpL_law
  exact te_cell 0 hL (by omega) rfl (fun _ => te_cell 1 hL (by omega) rfl (fun _ => te_cell 2 hL (by omega) rfl (fun _ => te_cell 3 hL (by omega) rfl (fun _ => te_cell 4 hL (by omega) rfl (fun _ => ⟨346, 5536, by omega, by omega, te_lawOf rfl⟩)))))
end
