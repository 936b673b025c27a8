section
/-! ===== pure rows: the sets, colours and values of the law's two-instruction programs ===== -/
/-- the set with one variable in it -/
def gc_bit (t : Nat) : Int32 := (1 : Int32) <<< (nI t &&& 31)
/-- what instruction 0 reads: kind k (1: a move) -/
def gc_rd (k : Nat) : Int32 := if k = 1 then 8 else 40
/-- the rivals: none for a move, else 3 and 5 of each other -/
def gc_R (k j : Nat) : Int32 := if k = 1 then 0 else if j = 3 then 32 else if j = 5 then 8 else 0
/-- the colours: all 0, but variable 3 where it meets variable 5 -/
def gc_C (k j : Nat) : Nat := if k = 1 then 0 else if j = 3 then 1 else 0
/-- variables i .. 7 -/
def gc_rest (i : Nat) : Int32 := nI (256 - 2 ^ i)
/-- what instruction 0 computes -/
def gc_val (k : Nat) (p q : Int32) : Int32 := if k = 1 then p else if k = 2 then p + q else if k = 3 then p - q else if k = 4 then p * q else if q ≤ p then 0 else 1
/-- one turn of makeRivals' outer loop, at variable v -/
def gc_step (x1 x2 : Int32) (v : Nat) (b : Nat → Int32) : Nat → Int32 := fun j =>
  if ((x1 >>> (nI v &&& 31)) &&& 1) = 0 then b j
  else if (((x2 &&& (((1 : Int32) <<< (nI v &&& 31)) ^^^ (-1))) >>> (nI j &&& 31)) &&& 1) = 0 then upd b v (b v ||| (x2 &&& (((1 : Int32) <<< (nI v &&& 31)) ^^^ (-1)))) j
  else upd b v (b v ||| (x2 &&& (((1 : Int32) <<< (nI v &&& 31)) ^^^ (-1)))) j ||| ((1 : Int32) <<< (nI v &&& 31))
def gc_G (x1 x2 : Int32) (b : Nat → Int32) : Nat → Nat → Int32
  | 0 => b
  | n + 1 => gc_step x1 x2 n (gc_G x1 x2 b n)
/-- how many of the first n bits are set -/
def gc_cn (x : Int32) : Nat → Int32
  | 0 => 0
  | n + 1 => gc_cn x n + ((x >>> (nI n &&& 31)) &&& 1)
theorem gc_nb : ∀ j, j < 128 → (nI j).toInt8.toInt32 = nI j := by decide +kernel
theorem gc_G0 : ∀ k, k < 6 → ∀ j, j < 8 → gc_G (gc_rd k) (gc_rd k) (fun _ => 0) 8 j = gc_R k j := by decide +kernel
theorem gc_G1 : ∀ k, k < 6 → ∀ t, t < 8 → ∀ j, j < 8 → gc_G (gc_bit t) (gc_bit t) (gc_R k) 8 j = gc_R k j := by decide +kernel
theorem gc_G2 : ∀ k, k < 6 → ∀ j, j < 8 → gc_G 0 0 (gc_R k) 8 j = gc_R k j := by decide +kernel
theorem gc_deg : ∀ k, k < 6 → ∀ j, j < 8 → ¬ (3 : Int32) ≤ gc_cn (gc_R k j &&& gc_rest j) 8 := by decide +kernel
theorem gc_restA : ∀ j, j < 8 → gc_rest j &&& (((1 : Int32) <<< (nI j &&& 31)) ^^^ (-1)) = gc_rest (j + 1) := by decide +kernel
theorem gc_restO : ∀ j, j < 8 → gc_rest (j + 1) ||| ((1 : Int32) <<< (nI j &&& 31)) = gc_rest j := by decide +kernel
theorem gc_restL : ∀ i, i < 8 → ∀ j, j < i → ((gc_rest i >>> (nI j &&& 31)) &&& 1) = 0 := by decide +kernel
theorem gc_restB : ∀ j, j < 8 → ¬ ((gc_rest j >>> (nI j &&& 31)) &&& 1) = 0 := by decide +kernel
theorem gc_bitB : ∀ j, j < 8 → ¬ ((gc_bit j >>> (nI j &&& 31)) &&& 1) = 0 := by decide +kernel
theorem gc_bitN : ∀ j, j < 8 → ¬ gc_bit j = 0 := by decide +kernel
theorem gc_rdN : ∀ k, k < 6 → ¬ gc_rd k = 0 := by decide +kernel
theorem gc_l1 : ∀ t, t < 8 → gc_bit t ||| ((0 : Int32) &&& ((0 : Int32) ^^^ (-1))) = gc_bit t := by decide +kernel
theorem gc_l0 : ∀ k, k < 6 → ∀ t, t < 8 → gc_rd k ||| (gc_bit t &&& (gc_bit t ^^^ (-1))) = gc_rd k := by decide +kernel
theorem gc_CR : ∀ k, k < 6 → ∀ j, j < 8 → (gc_C k j = 0 ∧ gc_R k j &&& gc_rest (j + 1) = 0) ∨ (gc_C k j = 1 ∧ j = 3 ∧ gc_C k 5 = 0 ∧ gc_R k j &&& gc_rest (j + 1) = 32) := by decide +kernel
theorem gc_C2 (k j : Nat) : gc_C k j < 2 := by
  unfold gc_C
  split
  · decide
  · split <;> decide
theorem gc_at {a : Nat → Int32} {i : Nat} {x : Int32} (h : a i = x) (hi : i < 2 ^ 31) : a (nI i).toNatClampNeg = x := by
  rw [nI_clamp hi]
  exact h
end
section
/-! ===== the source: start, emit; what an instruction reads, writes, and what lives behind it ===== -/
/-- the law's program: (kind k) t 3 5; print t -/
def gc_P (k t : Nat) (a1 a2 a3 a4 : Nat → Int32) : Prop := 1 ≤ k ∧ k < 6 ∧ t < 8 ∧ a1 0 = nI k ∧ a1 1 = nI 6 ∧ a2 0 = nI t ∧ a2 1 = nI t ∧ a3 0 = nI 3 ∧ a4 0 = nI 5
section
variable {f0 f1 f2 f3 f4 f5 f6 f7 : Int32} {a1 a2 a3 a4 a5 a6 a7 a8 a9 a10 a11 a12 a13 a14 a15 a16 a17 : Nat → Int32}
theorem gc_isV {post : Int32 → Prop} {v : Nat} (hv : v < 8) (hp : post 1) : wpX_isVariable post (f0, f1, f2, f3, f4, f5, f6, f7, a1, a2, a3, a4, a5, a6, a7, a8, a9, a10, a11, a12, a13, a14, a15, a16, a17) (nI v) :=
  br_f (nI_pos (by omega)) (pk_lt 7 v (fun z => absurd z (by omega)) (fun _ => hp))
theorem gc_start {post : Int32 → St2 → Prop} {v : Nat} {x : Int32} (hv : v < 8) (hp : post 1 (f0, f1, f2, f3, f4, f5, f6, f7, a1, a2, a3, a4, upd a5 v x, a6, a7, a8, a9, a10, a11, a12, a13, a14, a15, a16, a17)) : wpX_start post (f0, f1, f2, f3, f4, f5, f6, f7, a1, a2, a3, a4, a5, a6, a7, a8, a9, a10, a11, a12, a13, a14, a15, a16, a17) (nI v) x := by
  unfold wpX_start
  dsimp only
  refine gc_isV hv (br_f (by decide) ⟨pk_in v 8 hv, nm_e ?_⟩)
  rw [nI_clamp (by omega)]
  exact hp
theorem gc_f87 {post : Int32 → Prop} {op : Nat} {x4 : Int32} (ho : op ≤ 6) (hp : post 1) : wX_fits_87 post (nI op) x4 f0 f1 f2 f3 f4 f5 f6 f7 a1 a2 a3 a4 a5 a6 a7 a8 a9 a10 a11 a12 a13 a14 a15 a16 a17 :=
  pk_eq op 9 (fun z => absurd z (by omega)) (fun _ => hp)
theorem gc_f71 {post : Int32 → Prop} {op : Nat} {x3 x4 : Int32} (ho : op ≤ 6) (hp : post 1) : wX_fits_71 post (nI op) x3 x4 f0 f1 f2 f3 f4 f5 f6 f7 a1 a2 a3 a4 a5 a6 a7 a8 a9 a10 a11 a12 a13 a14 a15 a16 a17 :=
  pk_lt op 8 (fun _ => gc_f87 ho hp) (fun z => absurd z (by omega))
theorem gc_f50 {post : Int32 → Prop} {op c : Nat} {x3 : Int32} (ho : op ≤ 6) (hc : c < 8) (hp : post 1) : wX_fits_50 post (nI op) x3 (nI c) f0 f1 f2 f3 f4 f5 f6 f7 a1 a2 a3 a4 a5 a6 a7 a8 a9 a10 a11 a12 a13 a14 a15 a16 a17 :=
  pk_lt op 2 (fun _ => gc_f71 ho hp) (fun _ => pk_lt 5 op (fun _ => gc_f71 ho hp) (fun _ => gc_isV hc (br_f (by decide) (gc_f71 ho hp))))
theorem gc_fits {post : Int32 → Prop} {op t b c : Nat} (ho : op ≤ 6) (ht : t < 8) (hb : b < 8) (hc : c < 8) (hp : post 1) : wpX_fits post (f0, f1, f2, f3, f4, f5, f6, f7, a1, a2, a3, a4, a5, a6, a7, a8, a9, a10, a11, a12, a13, a14, a15, a16, a17) (nI op) (nI t) (nI b) (nI c) := by
  unfold wpX_fits
  dsimp only
  refine pk_eq op 10 (fun z => absurd z (by omega)) (fun _ => pk_eq op 7 (fun z => absurd z (by omega)) (fun _ => gc_isV ht (br_f (by decide) ?_)))
  exact pk_lt op 1 (fun _ => gc_f50 ho hc hp) (fun _ => pk_lt 5 op (fun _ => gc_f50 ho hc hp) (fun _ => gc_isV hb (br_f (by decide) (gc_f50 ho hc hp))))
theorem gc_emit {post : Int32 → St2 → Prop} {l op t b c : Nat} (hl : l < 32) (ho : op ≤ 6) (ht : t < 8) (hb : b < 8) (hc : c < 8)
    (hp : post (nI (l + 1)) (nI (l + 1), 0, f2, f3, f4, f5, f6, f7, upd a1 l (nI op), upd a2 l (nI t), upd a3 l (nI b), upd a4 l (nI c), a5, a6, a7, a8, a9, a10, a11, a12, a13, a14, a15, a16, a17)) : wpX_emit post (nI l, f1, f2, f3, f4, f5, f6, f7, a1, a2, a3, a4, a5, a6, a7, a8, a9, a10, a11, a12, a13, a14, a15, a16, a17) (nI op) (nI t) (nI b) (nI c) := by
  unfold wpX_emit
  dsimp only
  refine pk_lt l 32 (fun _ => br_f (nI_pos (by omega)) (pk_lt 10 op (fun z => absurd z (by omega)) (fun _ => gc_fits ho ht hb hc (br_f (by decide) ?_)))) (fun z => absurd z (by omega))
  rw [nI_clamp (show l < 2 ^ 31 by omega), gc_nb op (by omega), gc_nb t (by omega), gc_nb c (by omega)]
  exact ⟨pk_in l 32 hl, nm_e ⟨pk_in l 32 hl, nm_e ⟨pk_in l 32 hl, nm_e ⟨pk_in l 32 hl, nm_e (nm_r (nI_1 l) hp)⟩⟩⟩⟩
theorem gc_lat {post : Int32 → Prop} {i : Nat} (hi : i < 2) (hp : post (a6 i)) : wpX_liveAt post (nI 2, f1, f2, f3, f4, f5, f6, f7, a1, a2, a3, a4, a5, a6, a7, a8, a9, a10, a11, a12, a13, a14, a15, a16, a17) (nI i) := by
  unfold wpX_liveAt
  dsimp only
  rw [nI_clamp (show i < 2 ^ 31 by omega)]
  exact pk_le 2 i (fun z => absurd z (by omega)) (fun _ => ⟨pk_in i 32 (by omega), hp⟩)
theorem gc_lat2 {post : Int32 → Prop} (hp : post 0) : wpX_liveAt post (nI 2, f1, f2, f3, f4, f5, f6, f7, a1, a2, a3, a4, a5, a6, a7, a8, a9, a10, a11, a12, a13, a14, a15, a16, a17) (nI 2) :=
  pk_le 2 2 (fun _ => hp) (fun z => absurd z (by omega))
theorem gc_rd0 {post : Int32 → Prop} {k t : Nat} (P : gc_P k t a1 a2 a3 a4) (hp : post (gc_rd k)) : wpX_readBy post (f0, f1, f2, f3, f4, f5, f6, f7, a1, a2, a3, a4, a5, a6, a7, a8, a9, a10, a11, a12, a13, a14, a15, a16, a17) (nI 0) := by
  obtain ⟨hk, hk', ht, h10, h11, h20, h21, h30, h40⟩ := P
  refine ⟨pk_in 0 32 (by omega), nm_r (e' := nI k) (gc_at h10 (by omega)) (pk_eq k 1 (fun z => ⟨pk_in 0 32 (by omega), ?_⟩) (fun z => pk_lt k 2 (fun z => absurd z (by omega)) (fun _ => pk_lt 5 k (fun z => absurd z (by omega)) (fun _ => ⟨pk_in 0 32 (by omega), pk_in 0 32 (by omega), ?_⟩))))⟩
  · rw [gc_at h30 (by omega)]
    rw [show gc_rd k = 8 from if_pos z] at hp
    exact hp
  · rw [gc_at h30 (by omega), gc_at h40 (by omega)]
    rw [show gc_rd k = 40 from if_neg z] at hp
    exact hp
theorem gc_rd1 {post : Int32 → Prop} {k t : Nat} (P : gc_P k t a1 a2 a3 a4) (hp : post (gc_bit t)) : wpX_readBy post (f0, f1, f2, f3, f4, f5, f6, f7, a1, a2, a3, a4, a5, a6, a7, a8, a9, a10, a11, a12, a13, a14, a15, a16, a17) (nI 1) := by
  obtain ⟨hk, hk', ht, h10, h11, h20, h21, h30, h40⟩ := P
  refine ⟨pk_in 1 32 (by omega), nm_r (e' := nI 6) (gc_at h11 (by omega)) (br_f (by decide) (br_f (by decide) (br_t (by decide) (br_t (by decide) ⟨pk_in 1 32 (by omega), ?_⟩))))⟩
  rw [gc_at h21 (by omega)]
  exact hp
theorem gc_wr0 {post : Int32 → Prop} {k t : Nat} (P : gc_P k t a1 a2 a3 a4) (hp : post (gc_bit t)) : wpX_writtenBy post (f0, f1, f2, f3, f4, f5, f6, f7, a1, a2, a3, a4, a5, a6, a7, a8, a9, a10, a11, a12, a13, a14, a15, a16, a17) (nI 0) := by
  obtain ⟨hk, hk', ht, h10, h11, h20, h21, h30, h40⟩ := P
  refine ⟨pk_in 0 32 (by omega), ?_⟩
  rw [gc_at h10 (by omega), gc_at h20 (by omega)]
  exact pk_lt 5 k (fun z => absurd z (by omega)) (fun _ => ⟨pk_in 0 32 (by omega), hp⟩)
theorem gc_wr1 {post : Int32 → Prop} {k t : Nat} (P : gc_P k t a1 a2 a3 a4) (hp : post 0) : wpX_writtenBy post (f0, f1, f2, f3, f4, f5, f6, f7, a1, a2, a3, a4, a5, a6, a7, a8, a9, a10, a11, a12, a13, a14, a15, a16, a17) (nI 1) := by
  obtain ⟨hk, hk', ht, h10, h11, h20, h21, h30, h40⟩ := P
  refine ⟨pk_in 1 32 (by omega), ?_⟩
  rw [gc_at h11 (by omega)]
  exact br_t (by decide) hp
theorem gc_la0 {post : Int32 → Prop} {k t : Nat} (P : gc_P k t a1 a2 a3 a4) (hp : post (a6 1)) : wpX_liveAfter post (nI 2, f1, f2, f3, f4, f5, f6, f7, a1, a2, a3, a4, a5, a6, a7, a8, a9, a10, a11, a12, a13, a14, a15, a16, a17) (nI 0) := by
  obtain ⟨hk, hk', ht, h10, h11, h20, h21, h30, h40⟩ := P
  unfold wpX_liveAfter
  dsimp only
  refine ⟨pk_in 0 32 (by omega), nm_r (e' := nI k) (gc_at h10 (by omega)) (pk_eq k 10 (fun z => absurd z (by omega)) (fun _ => pk_eq k 7 (fun z => absurd z (by omega)) (fun _ => ?_)))⟩
  exact gc_lat (i := 1) (by omega) (pk_eq k 8 (fun z => absurd z (by omega)) (fun _ => pk_eq k 9 (fun z => absurd z (by omega)) (fun _ => hp)))
theorem gc_la1 {post : Int32 → Prop} {k t : Nat} (P : gc_P k t a1 a2 a3 a4) (hp : post 0) : wpX_liveAfter post (nI 2, f1, f2, f3, f4, f5, f6, f7, a1, a2, a3, a4, a5, a6, a7, a8, a9, a10, a11, a12, a13, a14, a15, a16, a17) (nI 1) := by
  obtain ⟨hk, hk', ht, h10, h11, h20, h21, h30, h40⟩ := P
  unfold wpX_liveAfter
  dsimp only
  refine ⟨pk_in 1 32 (by omega), nm_r (e' := nI 6) (gc_at h11 (by omega)) (br_f (by decide) (br_f (by decide) ?_))⟩
  exact gc_lat2 (br_f (by decide) (br_f (by decide) hp))
end
end
section
/-! ===== liveness: two rounds that matter ===== -/
section
variable {f0 f1 f2 f3 f4 f5 f6 f7 : Int32} {a1 a2 a3 a4 a5 a6 a7 a8 a9 a10 a11 a12 a13 a14 a15 a16 a17 : Nat → Int32}
variable {post : St2 → Prop} {J : Int32 → Int32 → (Nat → Int32) → (Nat → Int32) → (Nat → Int32) → (Nat → Int32) → (Nat → Int32) → (Nat → Int32) → (Nat → Int32) → (Nat → Int32) → (Nat → Int32) → (Nat → Int32) → (Nat → Int32) → (Nat → Int32) → (Nat → Int32) → (Nat → Int32) → (Nat → Int32) → (Nat → Int32) → (Nat → Int32) → Prop}
/-- a round: instruction 1, then instruction 0 -/
theorem gc_round {k t : Nat} {x2 : Int32} (P : gc_P k t a1 a2 a3 a4)
    (H0 : a6 1 = gc_bit t → a6 0 = gc_rd k → ∀ s : Nat → Int32, s 0 = gc_rd k → s 1 = gc_bit t → J 0 (x2 + 1) a1 a2 a3 a4 a5 s a7 a8 a9 a10 a11 a12 a13 a14 a15 a16 a17)
    (H1 : ¬ a6 0 = gc_rd k → ∀ s : Nat → Int32, s 0 = gc_rd k → s 1 = gc_bit t → J 1 (x2 + 1) a1 a2 a3 a4 a5 s a7 a8 a9 a10 a11 a12 a13 a14 a15 a16 a17)
    (H : (a6 1 = gc_bit t ∧ a6 0 = gc_rd k) ∨ ¬ a6 0 = gc_rd k) :
    wX_findLiveness_45 post J x2 (nI 2) f1 f2 f3 f4 f5 f6 f7 3 0 (nI 1) a1 a2 a3 a4 a5 a6 a7 a8 a9 a10 a11 a12 a13 a14 a15 a16 a17 := by
  have ht := P.2.2.1
  have hk := P.2.1
  have s0 : ∀ b : Nat → Int32, upd (upd b 1 (gc_bit t)) 0 (gc_rd k) 0 = gc_rd k := fun b => pk_us
  have s1 : ∀ b : Nat → Int32, upd (upd b 1 (gc_bit t)) 0 (gc_rd k) 1 = gc_bit t := fun b => by rw [pk_un (by decide), pk_us]
  have step0 : ∀ x1 : Int32, (a6 0 = gc_rd k → J x1 (x2 + 1) a1 a2 a3 a4 a5 (upd (upd a6 1 (gc_bit t)) 0 (gc_rd k)) a7 a8 a9 a10 a11 a12 a13 a14 a15 a16 a17) → (¬ a6 0 = gc_rd k → J 1 (x2 + 1) a1 a2 a3 a4 a5 (upd (upd a6 1 (gc_bit t)) 0 (gc_rd k)) a7 a8 a9 a10 a11 a12 a13 a14 a15 a16 a17) → wX_findLiveness_45 post J x2 (nI 2) f1 f2 f3 f4 f5 f6 f7 2 x1 (nI 0) a1 a2 a3 a4 a5 (upd a6 1 (gc_bit t)) a7 a8 a9 a10 a11 a12 a13 a14 a15 a16 a17 := by
    intro x1 h h'
    refine br_f (nI_pos (by omega)) (gc_la0 P (gc_rd0 P (gc_wr0 P (nm_r (e' := gc_rd k) ?_ ⟨pk_in 0 32 (by omega), ?_⟩))))
    · rw [pk_us]
      exact gc_l0 k hk t ht
    · have e : upd a6 1 (gc_bit t) (nI 0).toNatClampNeg = a6 0 := by
        rw [nI_clamp (by omega)]
        exact pk_un (by decide)
      rw [e, nI_clamp (show 0 < 2 ^ 31 by omega)]
      refine br_c (fun z => ⟨pk_in 0 32 (by omega), nm_e (nm_e ?_)⟩) (fun z => ⟨pk_in 0 32 (by omega), nm_e (nm_e ?_)⟩)
      · exact br_t (by decide) (nm_e (h z.symm))
      · exact br_t (by decide) (nm_e (h' (fun y => z y.symm)))
  refine br_f (nI_pos (by omega)) (gc_la1 P (gc_rd1 P (gc_wr1 P (nm_r (e' := gc_bit t) (gc_l1 t ht) ⟨pk_in 1 32 (by omega), ?_⟩))))
  rw [nI_clamp (show 1 < 2 ^ 31 by omega)]
  refine br_c (fun z => ⟨pk_in 1 32 (by omega), nm_e (nm_r (e' := nI 0) (by decide) (step0 0 (fun y => H0 z.symm y _ (s0 _) (s1 _)) (fun y => H1 y _ (s0 _) (s1 _))))⟩) (fun z => ⟨pk_in 1 32 (by omega), nm_e (nm_r (e' := nI 0) (by decide) (step0 1 (fun y => ?_) (fun y => H1 y _ (s0 _) (s1 _))))⟩)
  cases H with
  | inl h => exact absurd h.1.symm z
  | inr h => exact absurd y h
theorem gc_findLiveness {k t : Nat} (P : gc_P k t a1 a2 a3 a4) (H : ∀ s : Nat → Int32, s 0 = gc_rd k → s 1 = gc_bit t → post (nI 2, f1, f2, f3, f4, f5, f6, f7, a1, a2, a3, a4, a5, s, a7, a8, a9, a10, a11, a12, a13, a14, a15, a16, a17)) : wpX_findLiveness post (nI 2, f1, f2, f3, f4, f5, f6, f7, a1, a2, a3, a4, a5, a6, a7, a8, a9, a10, a11, a12, a13, a14, a15, a16, a17) := by
  unfold wpX_findLiveness
  dsimp only
  refine pk_loop (fun n i s => wX_findLiveness_4 post 1 (nI 2) f1 f2 f3 f4 f5 f6 f7 n (nI i) a1 a2 a3 a4 a5 s a7 a8 a9 a10 a11 a12 a13 a14 a15 a16 a17) (fun i s => ∀ j, j < i → s j = 0) 32 0 a6 (by omega) (fun j hj => absurd hj (by omega)) ?_ ?_
  · intro n s h
    refine br_t (by decide) ⟨3, br_f (by decide) (br_f (by decide) (nm_r (e' := nI 1) (by decide) ⟨3, ?_⟩))⟩
    refine gc_round P (fun _ z => absurd (z.symm.trans (h 0 (by omega))) (gc_rdN k P.2.1)) (fun _ s1 h0 h1 => ?_) (Or.inr (fun z => absurd (z.symm.trans (h 0 (by omega))) (gc_rdN k P.2.1)))
    refine br_f (by decide) (br_f (by decide) (nm_r (e' := nI 1) (by decide) ⟨3, ?_⟩))
    refine gc_round P (fun _ _ s2 h20 h21 => ?_) (fun z => absurd h0 z) (Or.inl ⟨h1, h0⟩)
    exact br_f (by decide) (br_t rfl (H s2 h20 h21))
  · intro n i s hi h hw
    refine pk_le 32 i (fun z => absurd z (by omega)) (fun _ => ⟨pk_in i 32 hi, nm_e (nm_r (nI_1 i) (hw _ ?_))⟩)
    intro j hj
    rw [nI_clamp (show i < 2 ^ 31 by omega)]
    by_cases e : j = i
    · rw [e, pk_us]
    · rw [pk_un e]
      exact h j (by omega)
end
end
section
/-! ===== rivals ===== -/
section
variable {f0 f1 f2 f3 f4 f5 f6 f7 : Int32} {a1 a2 a3 a4 a5 a6 a7 a8 a9 a10 a11 a12 a13 a14 a15 a16 a17 : Nat → Int32}
variable {post : St2 → Prop} {J : Int32 → (Nat → Int32) → (Nat → Int32) → (Nat → Int32) → (Nat → Int32) → (Nat → Int32) → (Nat → Int32) → (Nat → Int32) → (Nat → Int32) → (Nat → Int32) → (Nat → Int32) → (Nat → Int32) → (Nat → Int32) → (Nat → Int32) → (Nat → Int32) → (Nat → Int32) → (Nat → Int32) → (Nat → Int32) → Prop}
/-- the inner loop: u runs over the variables -/
theorem gc_mk42 {x1 x2 x3 x4 : Int32} (H : ∀ s : Nat → Int32, (∀ j, j < 8 → s j = if ((x4 >>> (nI j &&& 31)) &&& 1) = 0 then a7 j else a7 j ||| ((1 : Int32) <<< (x3 &&& 31))) → J (x3 + 1) a1 a2 a3 a4 a5 a6 s a8 a9 a10 a11 a12 a13 a14 a15 a16 a17) :
    ∃ n, wX_makeRivals_42 post J x1 x2 x3 x4 f0 f1 f2 f3 f4 f5 f6 f7 n (nI 0) a1 a2 a3 a4 a5 a6 a7 a8 a9 a10 a11 a12 a13 a14 a15 a16 a17 := by
  refine pk_loop (fun n i s => wX_makeRivals_42 post J x1 x2 x3 x4 f0 f1 f2 f3 f4 f5 f6 f7 n (nI i) a1 a2 a3 a4 a5 a6 s a8 a9 a10 a11 a12 a13 a14 a15 a16 a17) (fun i s => ∀ j, j < 8 → s j = if j < i then (if ((x4 >>> (nI j &&& 31)) &&& 1) = 0 then a7 j else a7 j ||| ((1 : Int32) <<< (x3 &&& 31))) else a7 j) 8 0 a7 (by omega) (fun j _ => (if_neg (by omega)).symm) ?_ ?_
  · intro n s h
    refine br_t (by decide) (nm_e (H s (fun j hj => ?_)))
    rw [h j hj, if_pos hj]
  · intro n i s hi h hw
    refine pk_le 8 i (fun z => absurd z (by omega)) (fun _ => br_c (fun c => nm_r (nI_1 i) (hw s (fun j hj => ?_))) (fun c => ⟨pk_in i 8 hi, pk_in i 8 hi, nm_e (nm_r (nI_1 i) (hw _ (fun j hj => ?_)))⟩))
    · rw [h j hj]
      by_cases e : j = i
      · subst e
        rw [if_neg (show ¬ j < j by omega), if_pos (show j < j + 1 by omega), if_pos c]
      · by_cases l : j < i
        · rw [if_pos l, if_pos (show j < i + 1 by omega)]
        · rw [if_neg l, if_neg (show ¬ j < i + 1 by omega)]
    · rw [nI_clamp (show i < 2 ^ 31 by omega)]
      by_cases e : j = i
      · subst e
        rw [pk_us, h j hj, if_neg (show ¬ j < j by omega), if_pos (show j < j + 1 by omega), if_neg c]
      · rw [pk_un e, h j hj]
        by_cases l : j < i
        · rw [if_pos l, if_pos (show j < i + 1 by omega)]
        · rw [if_neg l, if_neg (show ¬ j < i + 1 by omega)]
theorem gc_updC {a b : Nat → Int32} (h : ∀ j, j < 8 → a j = b j) {v : Nat} (hv : v < 8) (m : Int32) : ∀ j, j < 8 → upd a v (a v ||| m) j = upd b v (b v ||| m) j := by
  intro j hj
  by_cases e : j = v
  · rw [e, pk_us, pk_us, h v hv]
  · rw [pk_un e, pk_un e, h j hj]
theorem gc_makeRivals {x1 x2 : Int32} {b : Nat → Int32} (h0 : ∀ j, j < 8 → a7 j = b j) (H : ∀ s : Nat → Int32, (∀ j, j < 8 → s j = gc_G x1 x2 b 8 j) → post (f0, f1, f2, f3, f4, f5, f6, f7, a1, a2, a3, a4, a5, a6, s, a8, a9, a10, a11, a12, a13, a14, a15, a16, a17)) : wpX_makeRivals post (f0, f1, f2, f3, f4, f5, f6, f7, a1, a2, a3, a4, a5, a6, a7, a8, a9, a10, a11, a12, a13, a14, a15, a16, a17) x1 x2 := by
  unfold wpX_makeRivals
  dsimp only
  refine pk_loop (fun n i s => wX_makeRivals_2 post x1 x2 f0 f1 f2 f3 f4 f5 f6 f7 n (nI i) a1 a2 a3 a4 a5 a6 s a8 a9 a10 a11 a12 a13 a14 a15 a16 a17) (fun i s => ∀ j, j < 8 → s j = gc_G x1 x2 b i j) 8 0 a7 (by omega) h0 ?_ ?_
  · intro n s h
    exact br_t (by decide) (H s h)
  · intro n i s hi h hw
    refine pk_le 8 i (fun z => absurd z (by omega)) (fun _ => br_c (fun c => nm_r (nI_1 i) (hw s (fun j hj => ?_))) (fun c => nm_e ⟨pk_in i 8 hi, pk_in i 8 hi, nm_e ?_⟩))
    · rw [h j hj]
      exact (if_pos c).symm
    · rw [nI_clamp (show i < 2 ^ 31 by omega)]
      refine gc_mk42 (fun s' h' => ?_)
      rw [nI_1]
      refine hw s' (fun j hj => ?_)
      rw [h' j hj, gc_updC h hi _ j hj]
      exact (if_neg c).symm
theorem gc_findRivals {k t : Nat} (P : gc_P k t a1 a2 a3 a4) (h60 : a6 0 = gc_rd k) (h61 : a6 1 = gc_bit t) (H : ∀ s : Nat → Int32, (∀ j, j < 8 → s j = gc_R k j) → post (nI 2, f1, f2, f3, f4, f5, f6, f7, a1, a2, a3, a4, a5, a6, s, a8, a9, a10, a11, a12, a13, a14, a15, a16, a17)) : wpX_findRivals post (nI 2, f1, f2, f3, f4, f5, f6, f7, a1, a2, a3, a4, a5, a6, a7, a8, a9, a10, a11, a12, a13, a14, a15, a16, a17) := by
  have ht := P.2.2.1
  have hk := P.2.1
  unfold wpX_findRivals
  dsimp only
  refine pk_loop (fun n i s => wX_findRivals_2 post (nI 2) f1 f2 f3 f4 f5 f6 f7 n (nI i) a1 a2 a3 a4 a5 a6 s a8 a9 a10 a11 a12 a13 a14 a15 a16 a17) (fun i s => ∀ j, j < i → s j = 0) 8 0 a7 (by omega) (fun j hj => absurd hj (by omega)) ?_ ?_
  · intro n s h
    refine br_t (by decide) (gc_lat (i := 0) (by omega) ?_)
    rw [h60]
    refine gc_makeRivals (b := fun _ => 0) h (fun s1 h1 => ⟨3, ?_⟩)
    refine br_f (by decide) (gc_wr0 P (gc_la0 P ?_))
    rw [h61]
    refine gc_makeRivals (b := gc_R k) (fun j hj => (h1 j hj).trans (gc_G0 k hk j hj)) (fun s2 h2 => nm_r (e' := nI 1) (by decide) ?_)
    refine br_f (by decide) (gc_wr1 P (gc_la1 P ?_))
    refine gc_makeRivals (b := gc_R k) (fun j hj => (h2 j hj).trans (gc_G1 k hk t ht j hj)) (fun s3 h3 => nm_r (e' := nI 2) (by decide) ?_)
    exact br_t (by decide) (H s3 (fun j hj => (h3 j hj).trans (gc_G2 k hk j hj)))
  · intro n i s hi h hw
    refine pk_le 8 i (fun z => absurd z (by omega)) (fun _ => ⟨pk_in i 8 hi, nm_e (nm_r (nI_1 i) (hw _ ?_))⟩)
    intro j hj
    rw [nI_clamp (show i < 2 ^ 31 by omega)]
    by_cases e : j = i
    · rw [e, pk_us]
    · rw [pk_un e]
      exact h j (by omega)
end
end
section
/-! ===== colours ===== -/
section
variable {f0 f1 f2 f3 f4 f5 f6 f7 : Int32} {a1 a2 a3 a4 a5 a6 a7 a8 a9 a10 a11 a12 a13 a14 a15 a16 a17 : Nat → Int32}
theorem gc_bitsIn {post : Int32 → Prop} {x : Int32} (hp : post (gc_cn x 8)) : wpX_bitsIn post (f0, f1, f2, f3, f4, f5, f6, f7, a1, a2, a3, a4, a5, a6, a7, a8, a9, a10, a11, a12, a13, a14, a15, a16, a17) x := by
  unfold wpX_bitsIn
  dsimp only
  refine pk_loop (fun n i s => wX_bitsIn_4 post x f0 f1 f2 f3 f4 f5 f6 f7 a1 a2 a3 a4 a5 a6 a7 a8 a9 a10 a11 a12 a13 a14 a15 a16 a17 n s (nI i)) (fun i s => s = gc_cn x i) 8 0 0 (by omega) rfl ?_ ?_
  · intro n s h
    subst h
    exact br_t (by decide) hp
  · intro n i s hi h hw
    subst h
    exact pk_le 8 i (fun z => absurd z (by omega)) (fun _ => nm_e (nm_r (nI_1 i) (hw _ rfl)))
theorem gc_easiest {post : Int32 → Prop} {x : Int32} {v : Nat} (hv : v < 8) (h0 : ∀ j, j < v → ((x >>> (nI j &&& 31)) &&& 1) = 0) (h1 : ¬ ((x >>> (nI v &&& 31)) &&& 1) = 0) (hd : ¬ (3 : Int32) ≤ gc_cn (a7 v &&& x) 8) (hp : post (nI v)) : wpX_easiest post (f0, f1, f2, f3, f4, f5, f6, f7, a1, a2, a3, a4, a5, a6, a7, a8, a9, a10, a11, a12, a13, a14, a15, a16, a17) x := by
  unfold wpX_easiest
  dsimp only
  refine pk_loop (σ := Unit) (fun n i _ => wX_easiest_7 post x f0 f1 f2 f3 f4 f5 f6 f7 a1 a2 a3 a4 a5 a6 a7 a8 a9 a10 a11 a12 a13 a14 a15 a16 a17 n (-1) (-1) (nI i)) (fun _ _ => True) v 0 () (by omega) trivial ?_ ?_
  · intro n _ _
    refine pk_le 8 v (fun z => absurd z (by omega)) (fun _ => br_f h1 ⟨pk_in v 8 hv, ?_⟩)
    rw [nI_clamp (show v < 2 ^ 31 by omega)]
    exact gc_bitsIn (br_f hd hp)
  · intro n i _ hi _ hw
    exact pk_le 8 i (fun z => absurd z (by omega)) (fun _ => br_t (h0 i hi) (nm_r (nI_1 i) (hw () trivial)))
theorem gc_fc0 {post : Int32 → Prop} (hp : post 0) : wpX_freeColour post (f0, f1, f2, f3, f4, f5, f6, f7, a1, a2, a3, a4, a5, a6, a7, a8, a9, a10, a11, a12, a13, a14, a15, a16, a17) 0 := by
  unfold wpX_freeColour
  dsimp only
  refine pk_loop (σ := Unit) (fun n i _ => wX_freeColour_4 post 0 f0 f1 f2 f3 f4 f5 f6 f7 a1 a2 a3 a4 a5 a6 a7 a8 a9 a10 a11 a12 a13 a14 a15 a16 a17 n 0 (nI i)) (fun _ _ => True) 8 0 () (by omega) trivial ?_ ?_
  · intro n _ _
    exact br_t (by decide) ⟨1, br_f (by decide) (br_t (by decide) hp)⟩
  · intro n i _ hi _ hw
    have z0 : ∀ j, j < 8 → (((0 : Int32) >>> (nI j &&& 31)) &&& 1) = 0 := by decide +kernel
    exact pk_le 8 i (fun z => absurd z (by omega)) (fun _ => br_t (z0 i hi) (nm_r (nI_1 i) (hw () trivial)))
theorem gc_fc5 {post : Int32 → Prop} (h5 : a8 5 = nI 0) (hp : post 1) : wpX_freeColour post (f0, f1, f2, f3, f4, f5, f6, f7, a1, a2, a3, a4, a5, a6, a7, a8, a9, a10, a11, a12, a13, a14, a15, a16, a17) 32 := by
  unfold wpX_freeColour
  dsimp only
  refine pk_loop (fun n i s => wX_freeColour_4 post 32 f0 f1 f2 f3 f4 f5 f6 f7 a1 a2 a3 a4 a5 a6 a7 a8 a9 a10 a11 a12 a13 a14 a15 a16 a17 n s (nI i)) (fun i s => s = if i ≤ 5 then 0 else 1) 8 0 0 (by omega) rfl ?_ ?_
  · intro n s h
    subst h
    exact br_t (by decide) ⟨2, br_f (by decide) (br_f (by decide) (nm_r (e' := nI 1) (by decide) (br_f (by decide) (br_t (by decide) hp))))⟩
  · intro n i s hi h hw
    subst h
    have z0 : ∀ j, j < 8 → j ≠ 5 → (((32 : Int32) >>> (nI j &&& 31)) &&& 1) = 0 := by decide +kernel
    refine pk_le 8 i (fun z => absurd z (by omega)) (fun _ => ?_)
    by_cases e : i = 5
    · subst e
      refine br_f (by decide) ⟨pk_in 5 8 (by omega), ?_⟩
      rw [gc_at h5 (by omega)]
      exact nm_e (nm_r (nI_1 5) (hw _ (by decide)))
    · refine br_t (z0 i hi e) (nm_r (nI_1 i) (hw _ ?_))
      by_cases l : i ≤ 5
      · rw [if_pos l, if_pos (by omega)]
      · rw [if_neg l, if_neg (by omega)]
variable {post : St2 → Prop}
/-- the second loop: variables 7 down to 0 are coloured -/
theorem gc_cv45 {k : Nat} (hk : k < 6) (h7 : ∀ j, j < 8 → a7 j = gc_R k j) (h9 : ∀ j, j < 8 → a9 j = nI j) (H : ∀ s : Nat → Int32, (∀ j, j < 8 → s j = nI (gc_C k j)) → post (f0, f1, f2, f3, f4, f5, f6, f7, a1, a2, a3, a4, a5, a6, a7, s, a9, a10, a11, a12, a13, a14, a15, a16, a17)) :
    wX_colourVariables_45 post f0 f1 f2 f3 f4 f5 f6 f7 9 (gc_rest 8) (nI 8 + (-1)) a1 a2 a3 a4 a5 a6 a7 a8 a9 a10 a11 a12 a13 a14 a15 a16 a17 := by
  refine pk_loopD (σ := Nat → Int32) (fun n i s => wX_colourVariables_45 post f0 f1 f2 f3 f4 f5 f6 f7 n (gc_rest i) (nI i + (-1)) a1 a2 a3 a4 a5 a6 a7 s a9 a10 a11 a12 a13 a14 a15 a16 a17) (fun i s => i ≤ 8 ∧ ∀ j, i ≤ j → j < 8 → s j = nI (gc_C k j)) ?_ ?_ 8 a8 ⟨by omega, fun j h h' => absurd h (by omega)⟩
  · intro n s h
    exact br_t (by decide) (H s (fun j hj => h.2 j (by omega) hj))
  · intro n i s h hw
    have hi : i < 8 := by have := h.1; omega
    show wX_colourVariables_45 post f0 f1 f2 f3 f4 f5 f6 f7 (n + 1) (gc_rest (i + 1)) (nI (i + 1) + (-1)) a1 a2 a3 a4 a5 a6 a7 s a9 a10 a11 a12 a13 a14 a15 a16 a17
    rw [pk_m1]
    refine br_f (nI_pos (by omega)) ⟨pk_in i 8 hi, nm_r (e' := nI i) (gc_at (h9 i hi) (by omega)) ⟨pk_in i 8 hi, ?_⟩⟩
    rw [gc_at (h7 i hi) (by omega)]
    have fin : ∀ c : Nat, c < 2 → gc_C k i = c → (vp_in (nI i) 8 ∧ ∀ b : Nat → Int32, b = upd s (nI i).toNatClampNeg (nI c).toInt8.toInt32 → (vp_in (nI i) 8 ∧ (((b (nI i).toNatClampNeg < 0 → (∀ x3 : Int32, x3 = nI i + (-1) → wX_colourVariables_45 post f0 f1 f2 f3 f4 f5 f6 f7 n (gc_rest (i + 1)) x3 a1 a2 a3 a4 a5 a6 a7 b a9 a10 a11 a12 a13 a14 a15 a16 a17)) ∧ (¬ b (nI i).toNatClampNeg < 0 → (∀ x2 : Int32, x2 = gc_rest (i + 1) ||| ((1 : Int32) <<< (nI i &&& 31)) → (∀ x3 : Int32, x3 = nI i + (-1) → wX_colourVariables_45 post f0 f1 f2 f3 f4 f5 f6 f7 n x2 x3 a1 a2 a3 a4 a5 a6 a7 b a9 a10 a11 a12 a13 a14 a15 a16 a17))))))) := by
      intro c hc hC
      rw [nI_clamp (show i < 2 ^ 31 by omega), gc_nb c (by omega)]
      refine ⟨pk_in i 8 hi, nm_e ⟨pk_in i 8 hi, br_f ?_ (nm_r (gc_restO i hi) (nm_e (hw _ ⟨by omega, fun j hj hj' => ?_⟩)))⟩⟩
      · rw [pk_us]
        exact nI_pos (by omega)
      · by_cases e : j = i
        · rw [e, pk_us, hC]
        · rw [pk_un e]
          exact h.2 j (by omega) hj'
    cases gc_CR k hk i hi with
    | inl g =>
      rw [g.2]
      exact gc_fc0 (fin 0 (by omega) g.1)
    | inr g =>
      rw [g.2.2.2]
      have h5 : s 5 = nI 0 := by
        have e := h.2 5 (by have := g.2.1; omega) (by omega)
        rw [g.2.2.1] at e
        exact e
      exact gc_fc5 h5 (fin 1 (by omega) g.1)
theorem gc_colourVariables {k : Nat} (hk : k < 6) (h7 : ∀ j, j < 8 → a7 j = gc_R k j) (H : ∀ s s' : Nat → Int32, (∀ j, j < 8 → s j = nI (gc_C k j)) → post (f0, f1, f2, f3, f4, f5, f6, f7, a1, a2, a3, a4, a5, a6, a7, s, s', a10, a11, a12, a13, a14, a15, a16, a17)) : wpX_colourVariables post (f0, f1, f2, f3, f4, f5, f6, f7, a1, a2, a3, a4, a5, a6, a7, a8, a9, a10, a11, a12, a13, a14, a15, a16, a17) := by
  unfold wpX_colourVariables
  dsimp only
  refine pk_loop (fun n i s => wX_colourVariables_6 post f0 f1 f2 f3 f4 f5 f6 f7 n (gc_rest i) (nI i) a1 a2 a3 a4 a5 a6 a7 a8 s a10 a11 a12 a13 a14 a15 a16 a17) (fun i s => ∀ j, j < i → s j = nI j) 8 0 a9 (by omega) (fun j hj => absurd hj (by omega)) ?_ ?_
  · intro n s h
    exact br_t (by decide) ⟨9, gc_cv45 hk h7 h (fun s' h' => H s' s h')⟩
  · intro n i s hi h hw
    refine pk_le 8 i (fun z => absurd z (by omega)) (fun _ => gc_easiest hi (gc_restL i hi) (gc_restB i hi) (by rw [h7 i hi]; exact gc_deg k hk i hi) ⟨pk_in i 8 hi, nm_e (nm_r (gc_restA i hi) (nm_r (nI_1 i) (hw _ ?_)))⟩)
    intro j hj
    rw [nI_clamp (show i < 2 ^ 31 by omega), gc_nb i (by omega)]
    by_cases e : j = i
    · rw [e, pk_us]
    · rw [pk_un e]
      exact h j (by omega)
end
end
section
/-! ===== the target code ===== -/
/-- operations o, targets x, left y, right z -/
def gc_code (k t : Nat) (o x y z : Nat → Int32) : Prop :=
  (k = 1 → o 0 = nI 11 ∧ o 1 = nI 11 ∧ o 2 = nI 6 ∧ x 2 = nI (gc_C k t) ∧ o 3 = nI 10) ∧
  (k ≠ 1 → o 0 = nI 11 ∧ o 1 = nI k ∧ x 1 = nI (gc_C k t) ∧ y 1 = nI (gc_C k 3) ∧ z 1 = nI (gc_C k 5) ∧ o 2 = nI 11 ∧ o 3 = nI 6 ∧ x 3 = nI (gc_C k t) ∧ o 4 = nI 10)
section
variable {f0 f1 f2 f3 f4 f5 f6 f7 : Int32} {a1 a2 a3 a4 a5 a6 a7 a8 a9 a10 a11 a12 a13 a14 a15 a16 a17 : Nat → Int32}
theorem gc_write {post : St2 → Prop} {e op x : Nat} {y z : Int32} (he : e < 224) (ho : op < 128) (hx : x < 128) (hp : post (f0, f1, nI (e + 1), f3, f4, f5, f6, f7, a1, a2, a3, a4, a5, a6, a7, a8, a9, upd a10 e (nI op), upd a11 e (nI x), upd a12 e y, upd a13 e z, a14, a15, a16, a17)) : wpX_write post (f0, f1, nI e, f3, f4, f5, f6, f7, a1, a2, a3, a4, a5, a6, a7, a8, a9, a10, a11, a12, a13, a14, a15, a16, a17) (nI op) (nI x) y z := by
  unfold wpX_write
  dsimp only
  rw [nI_clamp (show e < 2 ^ 31 by omega), gc_nb op ho, gc_nb x hx]
  exact ⟨pk_in e 224 he, nm_e ⟨pk_in e 224 he, nm_e ⟨pk_in e 224 he, nm_e ⟨pk_in e 224 he, nm_e (nm_r (nI_1 e) hp)⟩⟩⟩⟩
theorem gc_fetched {post : Int32 → St2 → Prop} {v c : Nat} {sc : Int32} (hv : v < 8) (hc : c < 2) (h8 : a8 v = nI c) (hp : post (nI c) (f0, f1, f2, f3, f4, f5, f6, f7, a1, a2, a3, a4, a5, a6, a7, a8, a9, a10, a11, a12, a13, a14, a15, a16, a17)) : wpX_fetched post (f0, f1, f2, f3, f4, f5, f6, f7, a1, a2, a3, a4, a5, a6, a7, a8, a9, a10, a11, a12, a13, a14, a15, a16, a17) (nI v) sc := by
  refine ⟨pk_in v 8 hv, ?_⟩
  rw [gc_at h8 (by omega)]
  exact br_f (nI_pos (by omega)) ⟨pk_in v 8 hv, hp⟩
variable {post : St2 → Prop} {k t : Nat}
theorem gc_131 {x4 : Int32} (ht : t < 8) (h8 : ∀ j, j < 8 → a8 j = nI (gc_C k j)) (hp : post (f0, f1, f2, f3, f4, f5, f6, f7, a1, a2, a3, a4, a5, a6, a7, a8, a9, a10, a11, a12, a13, a14, a15, a16, a17)) : wX_compileAssignment_131 post (nI t) x4 f0 f1 f2 f3 f4 f5 f6 f7 a1 a2 a3 a4 a5 a6 a7 a8 a9 a10 a11 a12 a13 a14 a15 a16 a17 := by
  have c := gc_C2 k t
  refine ⟨pk_in t 8 ht, ?_⟩
  rw [gc_at (h8 t ht) (by omega)]
  exact br_t (nI_pos' (by omega)) hp
theorem gc_46a {e : Nat} (P : gc_P k t a1 a2 a3 a4) (h8 : ∀ j, j < 8 → a8 j = nI (gc_C k j)) (he : e < 200) (hk1 : k = 1) (H : post (f0, f1, nI e, f3, f4, f5, f6, f7, a1, a2, a3, a4, a5, a6, a7, a8, a9, a10, a11, a12, a13, a14, a15, a16, a17)) : wX_compileAssignment_46 post (nI 0) (nI k) (nI t) (nI (gc_C k t)) f0 f1 (nI e) f3 f4 f5 f6 f7 a1 a2 a3 a4 a5 a6 a7 a8 a9 a10 a11 a12 a13 a14 a15 a16 a17 := by
  obtain ⟨hk, hk', ht, h10, h11, h20, h21, h30, h40⟩ := P
  have e3 : gc_C k 3 = gc_C k t := by
    rw [hk1]
    rfl
  unfold wX_compileAssignment_46
  refine br_f (nI_ne0 (by omega) (by omega)) ⟨pk_in 0 32 (by omega), ?_⟩
  rw [gc_at h30 (by omega)]
  refine gc_fetched (by omega) (gc_C2 k 3) (h8 3 (by omega)) ?_
  exact br_t (by rw [hk1]; rfl) (br_t (by rw [e3]) (gc_131 ht h8 H))
theorem gc_46b {e : Nat} (P : gc_P k t a1 a2 a3 a4) (h8 : ∀ j, j < 8 → a8 j = nI (gc_C k j)) (he : e < 200) (hk1 : k ≠ 1)
    (H : post (f0, f1, nI (e + 1), f3, f4, f5, f6, f7, a1, a2, a3, a4, a5, a6, a7, a8, a9, upd a10 e (nI k), upd a11 e (nI (gc_C k t)), upd a12 e (nI (gc_C k 3)), upd a13 e (nI (gc_C k 5)), a14, a15, a16, a17)) : wX_compileAssignment_46 post (nI 0) (nI k) (nI t) (nI (gc_C k t)) f0 f1 (nI e) f3 f4 f5 f6 f7 a1 a2 a3 a4 a5 a6 a7 a8 a9 a10 a11 a12 a13 a14 a15 a16 a17 := by
  obtain ⟨hk, hk', ht, h10, h11, h20, h21, h30, h40⟩ := P
  have c := gc_C2 k t
  unfold wX_compileAssignment_46
  refine br_f (nI_ne0 (by omega) (by omega)) ⟨pk_in 0 32 (by omega), ?_⟩
  rw [gc_at h30 (by omega)]
  refine gc_fetched (by omega) (gc_C2 k 3) (h8 3 (by omega)) ?_
  refine pk_eq k 1 (fun z => absurd z hk1) (fun _ => ⟨pk_in 0 32 (by omega), ?_⟩)
  rw [gc_at h40 (by omega)]
  refine gc_fetched (by omega) (gc_C2 k 5) (h8 5 (by omega)) ?_
  exact gc_write (by omega) (by omega) (by omega) (gc_131 ht h8 H)
theorem gc_asg {e : Nat} (P : gc_P k t a1 a2 a3 a4) (h61 : a6 1 = gc_bit t) (h8 : ∀ j, j < 8 → a8 j = nI (gc_C k j)) (he : e < 200) (H1 : k = 1 → post (nI 2, f1, nI e, f3, f4, f5, f6, f7, a1, a2, a3, a4, a5, a6, a7, a8, a9, a10, a11, a12, a13, a14, a15, a16, a17))
    (H2 : k ≠ 1 → post (nI 2, f1, nI (e + 1), f3, f4, f5, f6, f7, a1, a2, a3, a4, a5, a6, a7, a8, a9, upd a10 e (nI k), upd a11 e (nI (gc_C k t)), upd a12 e (nI (gc_C k 3)), upd a13 e (nI (gc_C k 5)), a14, a15, a16, a17)) : wpX_compileAssignment post (nI 2, f1, nI e, f3, f4, f5, f6, f7, a1, a2, a3, a4, a5, a6, a7, a8, a9, a10, a11, a12, a13, a14, a15, a16, a17) (nI 0) := by
  have c := gc_C2 k t
  have ht := P.2.2.1
  have h10 := P.2.2.2.1
  have h20 := P.2.2.2.2.2.1
  unfold wpX_compileAssignment
  dsimp only
  refine ⟨pk_in 0 32 (by omega), nm_r (e' := nI k) (gc_at h10 (by omega)) ⟨pk_in 0 32 (by omega), nm_r (e' := nI t) (gc_at h20 (by omega)) (gc_la0 P ?_)⟩⟩
  rw [h61, gc_at (h8 t ht) (by omega)]
  refine br_f (gc_bitB t ht) ⟨pk_in t 8 ht, br_f (nI_pos (by omega)) ⟨pk_in t 8 ht, ?_⟩⟩
  by_cases z : k = 1
  · exact gc_46a P h8 he z (H1 z)
  · exact gc_46b P h8 he z (H2 z)
theorem gc_one0 {e : Nat} (P : gc_P k t a1 a2 a3 a4) (h61 : a6 1 = gc_bit t) (h8 : ∀ j, j < 8 → a8 j = nI (gc_C k j)) (he : e < 200) (H1 : k = 1 → post (nI 2, f1, nI e, f3, f4, f5, f6, f7, a1, a2, a3, a4, a5, a6, a7, a8, a9, a10, a11, a12, a13, a14, a15, a16, a17))
    (H2 : k ≠ 1 → post (nI 2, f1, nI (e + 1), f3, f4, f5, f6, f7, a1, a2, a3, a4, a5, a6, a7, a8, a9, upd a10 e (nI k), upd a11 e (nI (gc_C k t)), upd a12 e (nI (gc_C k 3)), upd a13 e (nI (gc_C k 5)), a14, a15, a16, a17)) : wpX_compileOne post (nI 2, f1, nI e, f3, f4, f5, f6, f7, a1, a2, a3, a4, a5, a6, a7, a8, a9, a10, a11, a12, a13, a14, a15, a16, a17) (nI 0) := by
  have hk := P.2.1
  have h10 := P.2.2.2.1
  unfold wpX_compileOne
  dsimp only
  exact ⟨pk_in 0 32 (by omega), nm_r (e' := nI k) (gc_at h10 (by omega)) ⟨pk_in 0 32 (by omega), nm_e (pk_lt 5 k (fun z => absurd z (by omega)) (fun _ => gc_asg P h61 h8 he H1 H2))⟩⟩
theorem gc_one1 {e : Nat} (P : gc_P k t a1 a2 a3 a4) (h8 : ∀ j, j < 8 → a8 j = nI (gc_C k j)) (he : e < 200)
    (H : post (nI 2, f1, nI (e + 1), f3, f4, f5, f6, f7, a1, a2, a3, a4, a5, a6, a7, a8, a9, upd a10 e (nI 6), upd a11 e (nI (gc_C k t)), upd a12 e 0, upd a13 e 0, a14, a15, a16, a17)) : wpX_compileOne post (nI 2, f1, nI e, f3, f4, f5, f6, f7, a1, a2, a3, a4, a5, a6, a7, a8, a9, a10, a11, a12, a13, a14, a15, a16, a17) (nI 1) := by
  have c := gc_C2 k t
  obtain ⟨hk, hk', ht, h10, h11, h20, h21, h30, h40⟩ := P
  unfold wpX_compileOne
  dsimp only
  refine ⟨pk_in 1 32 (by omega), nm_r (e' := nI 6) (gc_at h11 (by omega)) ⟨pk_in 1 32 (by omega), nm_r (e' := nI t) (gc_at h21 (by omega)) (br_t (by decide) (br_f (by decide) (br_f (by decide) ?_)))⟩⟩
  refine gc_fetched ht c (h8 t ht) (br_t (by decide) ?_)
  exact gc_write (op := 6) (x := gc_C k t) (by omega) (by omega) (by omega) H
theorem gc_c76 {e : Nat} (he : e < 224) (H : ∀ s : Nat → Int32, post (f0, f1, nI (e + 1), f3, f4, f5, f6, f7, a1, a2, a3, a4, a5, a6, a7, a8, a9, upd a10 e (nI 10), upd a11 e (nI 0), upd a12 e 0, upd a13 e 0, s, a15, a16, a17)) : ∃ n, wX_compile_76 post f0 f1 (nI e) f3 f4 f5 f6 f7 n (nI 2) a1 a2 a3 a4 a5 a6 a7 a8 a9 a10 a11 a12 a13 a14 a15 a16 a17 := by
  refine pk_loop (fun n i s => wX_compile_76 post f0 f1 (nI e) f3 f4 f5 f6 f7 n (nI i) a1 a2 a3 a4 a5 a6 a7 a8 a9 a10 a11 a12 a13 s a15 a16 a17) (fun _ _ => True) 36 2 a14 (by omega) trivial ?_ ?_
  · intro n s _
    exact br_t (by decide) (gc_write (op := 10) (x := 0) he (by omega) (by omega) (H s))
  · intro n i s hi _ hw
    exact pk_le 36 i (fun z => absurd z (by omega)) (fun _ => ⟨pk_in i 36 hi, nm_e (nm_r (nI_1 i) (hw _ trivial))⟩)
/-- instruction 1 and the end, from place e on -/
theorem gc_c32b {e : Nat} (P : gc_P k t a1 a2 a3 a4) (h8 : ∀ j, j < 8 → a8 j = nI (gc_C k j)) (he : e < 190)
    (H : ∀ s : Nat → Int32, post (nI 2, f1, nI (e + 1 + 1 + 1), f3, f4, f5, f6, f7, a1, a2, a3, a4, a5, a6, a7, a8, a9, upd (upd (upd a10 e (nI 11)) (e + 1) (nI 6)) (e + 1 + 1) (nI 10), upd (upd (upd a11 e (nI 0)) (e + 1) (nI (gc_C k t))) (e + 1 + 1) (nI 0), upd (upd (upd a12 e 0) (e + 1) 0) (e + 1 + 1) 0, upd (upd (upd a13 e 0) (e + 1) 0) (e + 1 + 1) 0, s, a15, a16, a17)) :
    wX_compile_32 post 2 (nI 1) (nI 2) f1 (nI e) f3 f4 f5 f6 f7 a1 a2 a3 a4 a5 a6 a7 a8 a9 a10 a11 a12 a13 a14 a15 a16 a17 := by
  refine br_f (by decide) ⟨pk_in 1 36 (by omega), nm_e (gc_write (by omega) (op := 11) (x := 0) (by omega) (by omega) ?_)⟩
  refine gc_one1 P h8 (by omega) (nm_r (e' := nI 2) (by decide) ?_)
  exact br_t (by decide) (gc_c76 (by omega) H)
theorem gc_c32 (P : gc_P k t a1 a2 a3 a4) (h61 : a6 1 = gc_bit t) (h8 : ∀ j, j < 8 → a8 j = nI (gc_C k j))
    (H : ∀ (e : Int32) (b10 b11 b12 b13 b14 : Nat → Int32), gc_code k t b10 b11 b12 b13 → post (nI 2, f1, e, f3, f4, f5, f6, f7, a1, a2, a3, a4, a5, a6, a7, a8, a9, b10, b11, b12, b13, b14, a15, a16, a17)) :
    ∃ n, wX_compile_32 post n (nI 0) (nI 2) f1 (nI 0) f3 f4 f5 f6 f7 a1 a2 a3 a4 a5 a6 a7 a8 a9 a10 a11 a12 a13 a14 a15 a16 a17 := by
  refine ⟨3, br_f (by decide) ⟨pk_in 0 36 (by omega), nm_e (gc_write (by omega) (op := 11) (x := 0) (by omega) (by omega) ?_)⟩⟩
  refine gc_one0 P h61 h8 (by omega) (fun z => nm_r (e' := nI 1) (by decide) (gc_c32b P h8 (by omega) (fun s => H _ _ _ _ _ _ ⟨fun _ => ?_, fun y => absurd z y⟩))) (fun z => nm_r (e' := nI 1) (by decide) (gc_c32b P h8 (by omega) (fun s => H _ _ _ _ _ _ ⟨fun y => absurd y z, fun _ => ?_⟩)))
  · exact ⟨rfl, rfl, rfl, rfl, rfl⟩
  · exact ⟨rfl, rfl, rfl, rfl, rfl, rfl, rfl, rfl, rfl⟩
theorem gc_compile (P : gc_P k t a1 a2 a3 a4)
    (H : ∀ (e : Int32) (b6 b7 b8 b9 b10 b11 b12 b13 b14 : Nat → Int32), b6 0 = gc_rd k → b6 1 = gc_bit t → (∀ j, j < 8 → b8 j = nI (gc_C k j)) → gc_code k t b10 b11 b12 b13 → post (nI 2, nI 1, e, f3, f4, f5, f6, f7, a1, a2, a3, a4, a5, b6, b7, b8, b9, b10, b11, b12, b13, b14, a15, a16, a17)) :
    wpX_compile post (nI 2, nI 0, f2, f3, f4, f5, f6, f7, a1, a2, a3, a4, a5, a6, a7, a8, a9, a10, a11, a12, a13, a14, a15, a16, a17) := by
  unfold wpX_compile
  dsimp only
  refine br_t (by decide) (gc_findLiveness P (fun s6 h60 h61 => gc_findRivals P h60 h61 (fun s7 h7 => gc_colourVariables P.2.1 h7 (fun s8 s9 h8 => ?_))))
  exact gc_c32 P h61 h8 (fun e b10 b11 b12 b13 b14 hc => H e s6 s7 s8 s9 b10 b11 b12 b13 b14 h60 h61 h8 hc)
end
end
section
/-! ===== the target machine ===== -/
/-- how a run ends: outcome o, executed ex, printed pr, the printed values b -/
def gc_out (g : Nat) (v o ex pr : Int32) (b : Nat → Int32) : Prop :=
  (g = 0 ∧ o = nI 2 ∧ ex = nI 0 ∧ pr = nI 0) ∨ (g = 1 ∧ o = nI 2 ∧ ex = nI 1 ∧ pr = nI 0) ∨ (2 ≤ g ∧ o = nI 1 ∧ ex = nI 2 ∧ pr = nI 1 ∧ b 0 = v)
/-- the fuel that a run takes -/
def gc_fu (x : Int32) (g : Nat) : Prop := (0 ≤ x ∧ x ≤ 250 ∧ x = nI g ∧ g ≤ 250) ∨ (0 ≤ x ∧ ¬ x ≤ 250 ∧ g = 250) ∨ (¬ 0 ≤ x ∧ g = 0)
theorem gc_injD : ∀ k, k < 6 → ∀ v, v < 8 → ∀ i, i < 8 → (v = i ∨ ((gc_rd k >>> (nI v &&& 31)) &&& 1) = 0 ∨ ((gc_rd k >>> (nI i &&& 31)) &&& 1) = 0 ∨ ¬ gc_C k v = gc_C k i) := by decide +kernel
theorem gc_inj {k v i : Nat} (hk : k < 6) (hv : v < 8) (hi : i < 8) (h : ¬ v = i) (h1 : ¬ ((gc_rd k >>> (nI v &&& 31)) &&& 1) = 0) (h2 : ¬ ((gc_rd k >>> (nI i &&& 31)) &&& 1) = 0) : gc_C k v ≠ gc_C k i := by
  rcases gc_injD k hk v hv i hi with z | z | z | z
  · exact absurd z h
  · exact absurd z h1
  · exact absurd z h2
  · exact z
theorem gc_rdB3 : ∀ k, k < 6 → ¬ ((gc_rd k >>> (nI 3 &&& 31)) &&& 1) = 0 := by decide +kernel
theorem gc_rdB5 : ∀ k, k < 6 → k ≠ 1 → ¬ ((gc_rd k >>> (nI 5 &&& 31)) &&& 1) = 0 := by decide +kernel
section
variable {f0 f1 f2 f3 f4 f5 f6 f7 : Int32} {a1 a2 a3 a4 a5 a6 a7 a8 a9 a10 a11 a12 a13 a14 a15 a16 a17 : Nat → Int32}
theorem gc_compute {post : Int32 → Prop} {k : Nat} {p q : Int32} (hk : 2 ≤ k) (hk' : k < 6) (hp : post (gc_val k p q)) : wpX_compute post (f0, f1, f2, f3, f4, f5, f6, f7, a1, a2, a3, a4, a5, a6, a7, a8, a9, a10, a11, a12, a13, a14, a15, a16, a17) (nI k) p q := by
  unfold gc_val at hp
  rw [if_neg (by omega)] at hp
  refine pk_eq k 2 (fun z => ?_) (fun z => pk_eq k 3 (fun z3 => ?_) (fun z3 => pk_eq k 4 (fun z4 => ?_) (fun z4 => ?_)))
  · rw [if_pos z] at hp
    exact hp
  · rw [if_neg z, if_pos z3] at hp
    exact hp
  · rw [if_neg z, if_neg z3, if_pos z4] at hp
    exact hp
  · rw [if_neg z, if_neg z3, if_neg z4] at hp
    refine br_c (fun c => ?_) (fun c => ?_)
    · rw [if_pos c] at hp
      exact hp
    · rw [if_neg c] at hp
      exact hp
section
variable {post : St2 → Prop} {pc : Nat}
theorem gc_xt0 (hpc : pc < 224) (h : a10 pc = nI 11) (hp : post (f0, f1, f2, nI (pc + 1), nI 0, nI 2, f6, f7, a1, a2, a3, a4, a5, a6, a7, a8, a9, a10, a11, a12, a13, a14, a15, a16, a17)) : wpX_execute post (f0, f1, f2, nI pc, nI 0, f5, f6, f7, a1, a2, a3, a4, a5, a6, a7, a8, a9, a10, a11, a12, a13, a14, a15, a16, a17) := by
  unfold wpX_execute
  dsimp only
  exact ⟨pk_in pc 224 hpc, nm_r (e' := nI 11) (gc_at h (by omega)) ⟨pk_in pc 224 hpc, nm_e ⟨pk_in pc 224 hpc, nm_e (nm_r (nI_1 pc) (br_t (by decide) (br_t (by decide) hp)))⟩⟩⟩
theorem gc_xt1 {g e : Nat} (hpc : pc < 224) (hg : g < 250) (h : a10 pc = nI 11) (hp : post (f0, f1, f2, nI (pc + 1), nI g, f5, nI (e + 1), f7, a1, a2, a3, a4, a5, a6, a7, a8, a9, a10, a11, a12, a13, a14, a15, a16, a17)) : wpX_execute post (f0, f1, f2, nI pc, nI (g + 1), f5, nI e, f7, a1, a2, a3, a4, a5, a6, a7, a8, a9, a10, a11, a12, a13, a14, a15, a16, a17) := by
  unfold wpX_execute
  dsimp only
  exact ⟨pk_in pc 224 hpc, nm_r (e' := nI 11) (gc_at h (by omega)) ⟨pk_in pc 224 hpc, nm_e ⟨pk_in pc 224 hpc, nm_e (nm_r (nI_1 pc) (br_t (by decide) (br_f (nI_ne0 (by omega) (by omega)) (nm_r (nI_pred g) (nm_r (nI_1 e) hp)))))⟩⟩⟩
theorem gc_xop {k x y z : Nat} (hpc : pc < 224) (hk : 2 ≤ k) (hk' : k < 6) (hx : x < 6) (hy : y < 6) (hz : z < 6) (h : a10 pc = nI k) (h1 : a11 pc = nI x) (h2 : a12 pc = nI y) (h3 : a13 pc = nI z)
    (hp : post (f0, f1, f2, nI (pc + 1), f4, f5, f6, f7, a1, a2, a3, a4, a5, a6, a7, a8, a9, a10, a11, a12, a13, a14, upd a15 x (gc_val k (a15 y) (a15 z)), a16, a17)) : wpX_execute post (f0, f1, f2, nI pc, f4, f5, f6, f7, a1, a2, a3, a4, a5, a6, a7, a8, a9, a10, a11, a12, a13, a14, a15, a16, a17) := by
  unfold wpX_execute
  dsimp only
  refine ⟨pk_in pc 224 hpc, nm_r (e' := nI k) (gc_at h (by omega)) ⟨pk_in pc 224 hpc, nm_r (e' := nI x) (gc_at h1 (by omega)) ⟨pk_in pc 224 hpc, nm_r (e' := nI y) (gc_at h2 (by omega)) (nm_r (nI_1 pc) ?_)⟩⟩⟩
  refine pk_eq k 11 (fun z => absurd z (by omega)) (fun _ => pk_eq k 0 (fun z => absurd z (by omega)) (fun _ => pk_eq k 1 (fun z => absurd z (by omega)) (fun _ => pk_lt 5 k (fun z => absurd z (by omega)) (fun _ => ⟨pk_in y 6 hy, pk_in pc 224 hpc, ?_⟩))))
  rw [gc_at h3 (by omega), nI_clamp (show z < 2 ^ 31 by omega), nI_clamp (show y < 2 ^ 31 by omega), nI_clamp (show x < 2 ^ 31 by omega)]
  exact ⟨pk_in z 6 hz, gc_compute hk hk' ⟨pk_in x 6 hx, nm_e hp⟩⟩
theorem gc_xw {x : Nat} (hpc : pc < 224) (hx : x < 6) (h : a10 pc = nI 6) (h1 : a11 pc = nI x) (hp : post (f0, f1, f2, nI (pc + 1), f4, f5, f6, nI 1, a1, a2, a3, a4, a5, a6, a7, a8, a9, a10, a11, a12, a13, a14, a15, a16, upd a17 0 (a15 x))) : wpX_execute post (f0, f1, f2, nI pc, f4, f5, f6, nI 0, a1, a2, a3, a4, a5, a6, a7, a8, a9, a10, a11, a12, a13, a14, a15, a16, a17) := by
  unfold wpX_execute
  dsimp only
  refine ⟨pk_in pc 224 hpc, nm_r (e' := nI 6) (gc_at h (by omega)) ⟨pk_in pc 224 hpc, nm_r (e' := nI x) (gc_at h1 (by omega)) ⟨pk_in pc 224 hpc, nm_e (nm_r (nI_1 pc) ?_)⟩⟩⟩
  refine br_f (by decide) (br_f (by decide) (br_f (by decide) (br_t (by decide) (br_f (by decide) (br_f (by decide) (br_t (by decide) ⟨pk_in x 6 hx, ?_⟩))))))
  rw [nI_clamp (show x < 2 ^ 31 by omega)]
  exact br_f (by decide) ⟨pk_in 0 32 (by omega), nm_e (nm_r (e' := nI 1) (by decide) hp)⟩
theorem gc_xh (hpc : pc < 224) (h : a10 pc = nI 10) (hp : post (f0, f1, f2, nI (pc + 1), f4, nI 1, f6, f7, a1, a2, a3, a4, a5, a6, a7, a8, a9, a10, a11, a12, a13, a14, a15, a16, a17)) : wpX_execute post (f0, f1, f2, nI pc, f4, f5, f6, f7, a1, a2, a3, a4, a5, a6, a7, a8, a9, a10, a11, a12, a13, a14, a15, a16, a17) := by
  unfold wpX_execute
  dsimp only
  refine ⟨pk_in pc 224 hpc, nm_r (e' := nI 10) (gc_at h (by omega)) ⟨pk_in pc 224 hpc, nm_e ⟨pk_in pc 224 hpc, nm_e (nm_r (nI_1 pc) ?_)⟩⟩⟩
  exact br_f (by decide) (br_f (by decide) (br_f (by decide) (br_t (by decide) (br_f (by decide) (br_f (by decide) (br_f (by decide) (br_t (by decide) hp)))))))
end
variable {post : Int32 → St2 → Prop} {k t g : Nat} {v : Int32}
/-- a run of a move -/
theorem gc_119a (hk1 : k = 1) (hg : g ≤ 250) (C : gc_code k t a10 a11 a12 a13) (hv : a15 (gc_C k t) = v)
    (H : ∀ (o pl fl ex pr : Int32) (b15 b17 : Nat → Int32), gc_out g v o ex pr b17 → post o (f0, f1, f2, pl, fl, o, ex, pr, a1, a2, a3, a4, a5, a6, a7, a8, a9, a10, a11, a12, a13, a14, b15, a16, b17)) :
    ∃ n, wX_run_119 post n (nI 0) f0 f1 f2 (nI 0) (nI g) (nI 0) (nI 0) (nI 0) a1 a2 a3 a4 a5 a6 a7 a8 a9 a10 a11 a12 a13 a14 a15 a16 a17 := by
  obtain ⟨c0, c1, c2, cx, c3⟩ := C.1 hk1
  have c := gc_C2 k t
  by_cases g0 : g = 0
  · subst g0
    exact ⟨2, br_f (by decide) (br_t (by decide) (gc_xt0 (by omega) c0 (nm_r (e' := nI 1) (by decide) (br_f (by decide) (br_f (by decide) (H _ _ _ _ _ _ _ (Or.inl ⟨rfl, rfl, rfl, rfl⟩)))))))⟩
  obtain ⟨g1, rfl⟩ : ∃ g1, g = g1 + 1 := ⟨g - 1, by omega⟩
  by_cases g0 : g1 = 0
  · subst g0
    refine ⟨3, br_f (by decide) (br_t (by decide) (gc_xt1 (g := 0) (e := 0) (by omega) (by omega) c0 (nm_r (e' := nI 1) (by decide) (br_f (by decide) (br_t (by decide) ?_)))))⟩
    exact gc_xt0 (pc := 1) (by omega) c1 (nm_r (e' := nI 2) (by decide) (br_f (by decide) (br_f (by decide) (H _ _ _ _ _ _ _ (Or.inr (Or.inl ⟨rfl, rfl, rfl, rfl⟩))))))
  obtain ⟨g2, rfl⟩ : ∃ g2, g1 = g2 + 1 := ⟨g1 - 1, by omega⟩
  refine ⟨5, br_f (by decide) (br_t (by decide) (gc_xt1 (g := g2 + 1) (e := 0) (by omega) (by omega) c0 (nm_r (e' := nI 1) (by decide) (br_f (by decide) (br_t (by decide) ?_)))))⟩
  refine gc_xt1 (pc := 1) (g := g2) (e := 1) (by omega) (by omega) c1 (nm_r (e' := nI 2) (by decide) (br_f (by decide) (br_t (by decide) ?_)))
  refine gc_xw (pc := 2) (by omega) (by omega) c2 cx (nm_r (e' := nI 3) (by decide) (br_f (by decide) (br_t (by decide) ?_)))
  refine gc_xh (pc := 3) (by omega) c3 (nm_r (e' := nI 4) (by decide) (br_f (by decide) (br_f (by decide) (H _ _ _ _ _ _ _ (Or.inr (Or.inr ⟨by omega, rfl, rfl, rfl, ?_⟩))))))
  rw [pk_us]
  exact hv
/-- a run of any other kind -/
theorem gc_119b (hk : 1 ≤ k) (hk' : k < 6) (hk1 : k ≠ 1) (hg : g ≤ 250) (C : gc_code k t a10 a11 a12 a13) (hv : gc_val k (a15 (gc_C k 3)) (a15 (gc_C k 5)) = v)
    (H : ∀ (o pl fl ex pr : Int32) (b15 b17 : Nat → Int32), gc_out g v o ex pr b17 → post o (f0, f1, f2, pl, fl, o, ex, pr, a1, a2, a3, a4, a5, a6, a7, a8, a9, a10, a11, a12, a13, a14, b15, a16, b17)) :
    ∃ n, wX_run_119 post n (nI 0) f0 f1 f2 (nI 0) (nI g) (nI 0) (nI 0) (nI 0) a1 a2 a3 a4 a5 a6 a7 a8 a9 a10 a11 a12 a13 a14 a15 a16 a17 := by
  obtain ⟨c0, c1, cx, cy, cz, c2, c3, cw, c4⟩ := C.2 hk1
  have c := gc_C2 k t
  have d := gc_C2 k 3
  have d' := gc_C2 k 5
  by_cases g0 : g = 0
  · subst g0
    exact ⟨2, br_f (by decide) (br_t (by decide) (gc_xt0 (by omega) c0 (nm_r (e' := nI 1) (by decide) (br_f (by decide) (br_f (by decide) (H _ _ _ _ _ _ _ (Or.inl ⟨rfl, rfl, rfl, rfl⟩)))))))⟩
  obtain ⟨g1, rfl⟩ : ∃ g1, g = g1 + 1 := ⟨g - 1, by omega⟩
  by_cases g0 : g1 = 0
  · subst g0
    refine ⟨4, br_f (by decide) (br_t (by decide) (gc_xt1 (g := 0) (e := 0) (by omega) (by omega) c0 (nm_r (e' := nI 1) (by decide) (br_f (by decide) (br_t (by decide) ?_)))))⟩
    refine gc_xop (pc := 1) (by omega) (by omega) hk' (by omega) (by omega) (by omega) c1 cx cy cz (nm_r (e' := nI 2) (by decide) (br_f (by decide) (br_t (by decide) ?_)))
    exact gc_xt0 (pc := 2) (by omega) c2 (nm_r (e' := nI 3) (by decide) (br_f (by decide) (br_f (by decide) (H _ _ _ _ _ _ _ (Or.inr (Or.inl ⟨rfl, rfl, rfl, rfl⟩))))))
  obtain ⟨g2, rfl⟩ : ∃ g2, g1 = g2 + 1 := ⟨g1 - 1, by omega⟩
  refine ⟨6, br_f (by decide) (br_t (by decide) (gc_xt1 (g := g2 + 1) (e := 0) (by omega) (by omega) c0 (nm_r (e' := nI 1) (by decide) (br_f (by decide) (br_t (by decide) ?_)))))⟩
  refine gc_xop (pc := 1) (by omega) (by omega) hk' (by omega) (by omega) (by omega) c1 cx cy cz (nm_r (e' := nI 2) (by decide) (br_f (by decide) (br_t (by decide) ?_)))
  refine gc_xt1 (pc := 2) (g := g2) (e := 1) (by omega) (by omega) c2 (nm_r (e' := nI 3) (by decide) (br_f (by decide) (br_t (by decide) ?_)))
  refine gc_xw (pc := 3) (by omega) (by omega) c3 cw (nm_r (e' := nI 4) (by decide) (br_f (by decide) (br_t (by decide) ?_)))
  refine gc_xh (pc := 4) (by omega) c4 (nm_r (e' := nI 5) (by decide) (br_f (by decide) (br_f (by decide) (H _ _ _ _ _ _ _ (Or.inr (Or.inr ⟨by omega, rfl, rfl, rfl, ?_⟩))))))
  rw [pk_us, pk_us]
  exact hv
/-- the registers are set, then the run -/
theorem gc_52 (hk' : k < 6) (h60 : a6 0 = gc_rd k) (h8 : ∀ j, j < 8 → a8 j = nI (gc_C k j))
    (H : ∀ s : Nat → Int32, (∀ w, w < 8 → ¬ ((gc_rd k >>> (nI w &&& 31)) &&& 1) = 0 → s (gc_C k w) = a5 w) → ∃ n, wX_run_119 post n (nI 0) (nI 2) f1 f2 f3 f4 f5 f6 f7 a1 a2 a3 a4 a5 a6 a7 a8 a9 a10 a11 a12 a13 a14 s a16 a17) :
    ∃ n, wX_run_52 post (nI 2) f1 f2 f3 f4 f5 f6 f7 n (nI 0) a1 a2 a3 a4 a5 a6 a7 a8 a9 a10 a11 a12 a13 a14 a15 a16 a17 := by
  refine pk_loop (fun n i s => wX_run_52 post (nI 2) f1 f2 f3 f4 f5 f6 f7 n (nI i) a1 a2 a3 a4 a5 a6 a7 a8 a9 a10 a11 a12 a13 a14 s a16 a17) (fun i s => ∀ w, w < i → ¬ ((gc_rd k >>> (nI w &&& 31)) &&& 1) = 0 → s (gc_C k w) = a5 w) 8 0 a15 (by omega) (fun w hw => absurd hw (by omega)) ?_ ?_
  · intro n s h
    exact br_t (by decide) (H s h)
  · intro n i s hi h hw
    have c := gc_C2 k i
    refine pk_le 8 i (fun z => absurd z (by omega)) (fun _ => ⟨pk_in i 8 hi, ?_⟩)
    rw [gc_at (h8 i hi) (by omega), nI_clamp (show i < 2 ^ 31 by omega), nI_clamp (show gc_C k i < 2 ^ 31 by omega)]
    refine br_t (nI_pos' (by omega)) (gc_lat (i := 0) (by omega) ?_)
    rw [h60]
    refine br_c (fun z => nm_r (nI_1 i) (hw s (fun w hw' hb => ?_))) (fun z => ⟨pk_in i 8 hi, pk_in i 8 hi, pk_in (gc_C k i) 6 (by omega), nm_e (nm_r (nI_1 i) (hw _ (fun w hw' hb => ?_)))⟩)
    · by_cases e : w = i
      · rw [e] at hb
        exact absurd z hb
      · exact h w (by omega) hb
    · by_cases e : w = i
      · rw [e, pk_us]
      · rw [pk_un (gc_inj hk' (by omega) hi e hb z)]
        exact h w (by omega) hb
theorem gc_27 (P : gc_P k t a1 a2 a3 a4) (hg : g ≤ 250) (h60 : a6 0 = gc_rd k) (h8 : ∀ j, j < 8 → a8 j = nI (gc_C k j)) (C : gc_code k t a10 a11 a12 a13)
    (H : ∀ (o pl fl ex pr : Int32) (b15 b17 : Nat → Int32), gc_out g (gc_val k (a5 3) (a5 5)) o ex pr b17 → post o (nI 2, f1, f2, pl, fl, o, ex, pr, a1, a2, a3, a4, a5, a6, a7, a8, a9, a10, a11, a12, a13, a14, b15, a16, b17)) :
    wX_run_27 post (nI g) (nI 2) f1 f2 f3 f4 f5 f6 f7 a1 a2 a3 a4 a5 a6 a7 a8 a9 a10 a11 a12 a13 a14 a15 a16 a17 := by
  unfold wX_run_27
  refine gc_52 P.2.1 h60 h8 (fun s hs => ?_)
  have e3 := hs 3 (by omega) (gc_rdB3 k P.2.1)
  by_cases z : k = 1
  · refine gc_119a z hg C ?_ H
    rw [show gc_C k t = gc_C k 3 from by rw [z]; rfl, e3, z]
    rfl
  · refine gc_119b P.1 P.2.1 z hg C ?_ H
    rw [e3, hs 5 (by omega) (gc_rdB5 k P.2.1 z)]
theorem gc_run {x : Int32} (P : gc_P k t a1 a2 a3 a4) (hf : gc_fu x g)
    (H : ∀ (e o pl fl ex pr : Int32) (b6 b7 b8 b9 b10 b11 b12 b13 b14 b15 b17 : Nat → Int32), b6 0 = gc_rd k → b6 1 = gc_bit t → gc_out g (gc_val k (a5 3) (a5 5)) o ex pr b17 → post o (nI 2, nI 1, e, pl, fl, o, ex, pr, a1, a2, a3, a4, a5, b6, b7, b8, b9, b10, b11, b12, b13, b14, b15, a16, b17)) :
    wpX_run post (nI 2, nI 0, f2, f3, f4, f5, f6, f7, a1, a2, a3, a4, a5, a6, a7, a8, a9, a10, a11, a12, a13, a14, a15, a16, a17) x := by
  unfold wpX_run
  dsimp only
  refine gc_compile P (fun e b6 b7 b8 b9 b10 b11 b12 b13 b14 h60 h61 h8 hc => ?_)
  have go : g ≤ 250 → wX_run_27 post (nI g) (nI 2) (nI 1) e f3 f4 f5 f6 f7 a1 a2 a3 a4 a5 b6 b7 b8 b9 b10 b11 b12 b13 b14 a15 a16 a17 := fun hg => gc_27 P hg h60 h8 hc (fun o pl fl ex pr b15 b17 ho => H e o pl fl ex pr b6 b7 b8 b9 b10 b11 b12 b13 b14 b15 b17 h60 h61 ho)
  rcases hf with ⟨f1, f2, f3, f4⟩ | ⟨f1, f2, f3⟩ | ⟨f1, f3⟩
  · subst f3
    exact br_t f1 (br_t f2 (go f4))
  · subst f3
    exact br_t f1 (br_f f2 (go (by omega)))
  · subst f3
    exact br_f f1 (go (by omega))
end
end
section
/-! ===== the law ===== -/
section
variable {f0 f1 f2 f3 f4 f5 f6 f7 : Int32} {a1 a2 a3 a4 a5 a6 a7 a8 a9 a10 a11 a12 a13 a14 a15 a16 a17 : Nat → Int32}
variable {post : Int32 → St0 → Prop} {mc ms kc ks : Nat} {x9 : Int32} {k t g : Nat} {v : Int32}
theorem gc_live {post : Int32 → St2 → Prop} {i : Nat} (hi : i < 2) (hp : post (a6 i) (nI 2, nI 1, f2, f3, f4, f5, f6, f7, a1, a2, a3, a4, a5, a6, a7, a8, a9, a10, a11, a12, a13, a14, a15, a16, a17)) : wpX_live post (nI 2, nI 1, f2, f3, f4, f5, f6, f7, a1, a2, a3, a4, a5, a6, a7, a8, a9, a10, a11, a12, a13, a14, a15, a16, a17) (nI i) := by
  unfold wpX_live
  dsimp only
  refine br_f (nI_pos (by omega)) (pk_lt i 2 (fun _ => br_f (by decide) ⟨pk_in i 32 (by omega), ?_⟩) (fun z => absurd z (by omega)))
  rw [nI_clamp (show i < 2 ^ 31 by omega)]
  exact hp
theorem gc_254 {z0 z1 : Int32} (hz : z1 = z0) (h60 : a6 0 = x9) (h61 : a6 1 = gc_bit t) (hp : post 1 ()) : wL_lawOf_254 post mc ms (nI t) x9 z0 z1 kc ks (nI 2) (nI 1) f2 f3 f4 f5 f6 f7 a1 a2 a3 a4 a5 a6 a7 a8 a9 a10 a11 a12 a13 a14 a15 a16 a17 :=
  br_t hz (gc_live (i := 0) (by omega) (br_t h60 (gc_live (i := 1) (by omega) (br_t h61 hp))))
theorem gc_231a (h60 : a6 0 = x9) (h61 : a6 1 = gc_bit t) (h17 : a17 0 = v) (hp : post 1 ()) : wL_lawOf_231 post mc ms (nI t) v (nI 2) x9 1 (nI 1) kc ks (nI 2) (nI 1) f2 f3 f4 f5 f6 (nI 1) a1 a2 a3 a4 a5 a6 a7 a8 a9 a10 a11 a12 a13 a14 a15 a16 a17 := by
  refine br_t (by decide) (br_f (by decide) (br_f (by decide) (br_t (by decide) ⟨pk_in 0 32 (by omega), br_t (by decide) (gc_254 ?_ h60 h61 hp)⟩)))
  exact h17
theorem gc_231b {x8 : Int32} (h8 : ¬ x8 = 2) (h60 : a6 0 = x9) (h61 : a6 1 = gc_bit t) (hp : post 1 ()) : wL_lawOf_231 post mc ms (nI t) v x8 x9 0 (nI 0) kc ks (nI 2) (nI 1) f2 f3 f4 f5 f6 (nI 0) a1 a2 a3 a4 a5 a6 a7 a8 a9 a10 a11 a12 a13 a14 a15 a16 a17 :=
  br_t (by decide) (br_f (by decide) (br_t (by decide) (br_f h8 (gc_254 rfl h60 h61 hp))))
theorem gc_198 {o ex pr : Int32} (h60 : a6 0 = x9) (h61 : a6 1 = gc_bit t) (ho : gc_out g v o ex pr a17) (hp : post 1 ()) :
    (nI (min g 2) = 2 → wL_lawOf_198 post mc ms (nI t) v (nI (min g 2)) x9 1 o kc ks (nI 2) (nI 1) f2 f3 f4 f5 ex pr a1 a2 a3 a4 a5 a6 a7 a8 a9 a10 a11 a12 a13 a14 a15 a16 a17) ∧ (¬ nI (min g 2) = 2 → wL_lawOf_198 post mc ms (nI t) v (nI (min g 2)) x9 2 o kc ks (nI 2) (nI 1) f2 f3 f4 f5 ex pr a1 a2 a3 a4 a5 a6 a7 a8 a9 a10 a11 a12 a13 a14 a15 a16 a17) := by
  rcases ho with ⟨rfl, rfl, rfl, rfl⟩ | ⟨rfl, rfl, rfl, rfl⟩ | ⟨h2, rfl, rfl, rfl, h17⟩
  · exact br_f (by decide) (br_t (by decide) (br_t (by decide) (br_f (by decide) (gc_231b (by decide) h60 h61 hp))))
  · exact br_f (by decide) (br_t (by decide) (br_t (by decide) (br_f (by decide) (gc_231b (by decide) h60 h61 hp))))
  · rw [show min g 2 = 2 by omega]
    exact br_t (by decide) (br_t (by decide) (br_t (by decide) (br_t (by decide) (gc_231a h60 h61 h17 hp))))
end
section
variable {post : Int32 → St0 → Prop} {k t g : Nat} {p q x4 : Int32}
theorem gc_111 (hk : 1 ≤ k) (hk' : k < 6) (ht : t < 8) (hf : gc_fu x4 g) (hp : post 1 ()) : wL_lawOf_111 post 414 6624 p q x4 (nI k) (nI t) (gc_val k p q) (nI (min g 2)) (gc_rd k) 0 0 := by
  refine ⟨by decide, by decide, 17, 1170, by decide, by decide, by decide, by decide, by decide, by decide, by decide, by decide, by decide, by decide, by decide, by decide, by decide, by decide, by decide, by decide, by decide, by decide, by decide, by decide, by decide, by decide, by decide, by decide, by decide, by decide, by decide, by decide, by decide, by decide, by decide, by decide, by decide, by decide, by decide, by decide, ?_⟩
  refine gc_start (v := 3) (by omega) (br_f (by decide) (gc_start (v := 5) (by omega) (br_f (by decide) ?_)))
  refine gc_emit (l := 0) (b := 3) (c := 5) (by omega) (by omega) ht (by omega) (by omega) (br_t (by decide) ?_)
  refine gc_emit (l := 1) (op := 6) (b := 0) (c := 0) (by omega) (by omega) ht (by omega) (by omega) (br_t (by decide) ?_)
  refine gc_run (k := k) (t := t) (g := g) ⟨hk, hk', ht, rfl, rfl, rfl, rfl, rfl, rfl⟩ hf (fun e o pl fl ex pr b6 b7 b8 b9 b10 b11 b12 b13 b14 b15 b17 h60 h61 ho => ?_)
  exact gc_198 h60 h61 ho hp
theorem gc_96 (hk : 1 ≤ k) (hk' : k < 6) (ht : t < 8) (hf : gc_fu x4 g) (hp : post 1 ()) : wL_lawOf_96 post 414 6624 p q x4 (nI k) (nI t) (gc_val k p q) (nI (min g 2)) 0 0 := by
  have h := gc_111 (p := p) (q := q) hk hk' ht hf hp
  refine pk_eq k 1 (fun z => ?_) (fun z => ?_)
  · rw [show gc_rd k = 8 from if_pos z] at h
    exact h
  · rw [show gc_rd k = 40 from if_neg z] at h
    exact h
theorem gc_73 (hk : 1 ≤ k) (hk' : k < 6) (ht : t < 8) (hp : post 1 ()) : wL_lawOf_73 post 414 6624 p q x4 (nI k) (nI t) (gc_val k p q) 0 0 := by
  refine br_c (fun c => ?_) (fun c => gc_96 (g := 0) hk hk' ht (Or.inr (Or.inr ⟨c, rfl⟩)) hp)
  have c' : ¬ x4 < 0 := Int32.not_lt.mpr c
  by_cases d : x4 ≤ 250
  · obtain ⟨j, hj, e⟩ := nI_of2 (M := 250) (n := 250) (by decide) c' d
    have hf : gc_fu x4 j := Or.inl ⟨c, d, e, hj⟩
    refine br_c (fun d2 => ?_) (fun d2 => ?_)
    · obtain ⟨i, hi, e2⟩ := nI_of2 (M := 2) (n := 2) (by decide) c' d2
      have ij : j = i := (nI_eq (by omega) (by omega)).mp (e.symm.trans e2)
      have h := gc_96 (p := p) (q := q) hk hk' ht hf hp
      rw [show min j 2 = j by omega, ← e] at h
      exact h
    · have j2 : 2 ≤ j := by
        rcases Nat.lt_or_ge j 2 with z | z
        · exact absurd (show x4 ≤ 2 from by rw [e]; exact nI_le (b := 2) (by omega) (by omega)) d2
        · exact z
      have h := gc_96 (p := p) (q := q) hk hk' ht hf hp
      rw [show min j 2 = 2 by omega] at h
      exact h
  · refine br_f (fun d2 => d (Int32.le_trans d2 (by decide))) ?_
    exact gc_96 (g := 250) hk hk' ht (Or.inr (Or.inl ⟨c, d, rfl⟩)) hp
theorem gc_lawOf {p0 p3 : Int32} (hp : post 1 ()) : wpL_lawOf post 414 6624 () p0 p q p3 x4 := by
  obtain ⟨j, hj, ej⟩ := pk_andE p0 (m := 255) 8 (by decide)
  obtain ⟨t, ht, et⟩ := pk_andE p3 (m := 7) 3 (by decide)
  have e5 : 1 + ((p0 &&& 255) - (p0 &&& 255) / 5 * 5) = nI (1 + j % 5) := by
    rw [ej]
    have h := pk_rem (a := j) (d := 5) (by omega) (by omega) (by omega)
    have h' : nI j - nI j / 5 * 5 = nI (j % 5) := h
    rw [h']
    exact nI_add 1 (j % 5)
  have h := gc_73 (post := post) (k := 1 + j % 5) (t := t) (p := p) (q := q) (x4 := x4) (by omega) (by omega) ht hp
  unfold gc_val at h
  refine ⟨by decide, nm_r e5 (nm_r et ?_)⟩
  refine pk_eq (1 + j % 5) 1 (fun z => ?_) (fun z => pk_eq (1 + j % 5) 2 (fun z2 => ?_) (fun z2 => pk_eq (1 + j % 5) 3 (fun z3 => ?_) (fun z3 => pk_eq (1 + j % 5) 4 (fun z4 => ?_) (fun z4 => ?_))))
  · rw [if_pos z] at h
    exact h
  · rw [if_neg z, if_pos z2] at h
    exact h
  · rw [if_neg z, if_neg z2, if_pos z3] at h
    exact h
  · rw [if_neg z, if_neg z2, if_neg z3, if_pos z4] at h
    exact h
  · rw [if_neg z, if_neg z2, if_neg z3, if_neg z4] at h
    refine br_c (fun c => ?_) (fun c => ?_)
    · rw [if_pos c] at h
      exact h
    · rw [if_neg c] at h
      exact h
theorem gc_cell {post : Int32 → Prop} {L : Nat} {xs : Nat → Int32} {i : Nat} (hi : i < 5) (hL : L ≤ 5) (hp : ∀ r, post r) : wpL_cellAt post L xs () (nI i) :=
  pk_le L i (fun _ => hp _) (fun z => ⟨pk_in i L z, hp _⟩)
end
theorem i_vc (xs : Nat → Int32) (L : Nat) (hL : L ≤ 5) : wpL_law (fun r => r = 1) L xs := by
  unfold wpL_law
  refine gc_cell (i := 0) (by omega) hL (fun r1 => gc_cell (i := 1) (by omega) hL (fun r2 => gc_cell (i := 2) (by omega) hL (fun r3 => gc_cell (i := 3) (by omega) hL (fun r4 => gc_cell (i := 4) (by omega) hL (fun r5 => ⟨414, 6624, by decide, by decide, ?_⟩)))))
  exact gc_lawOf rfl
end
