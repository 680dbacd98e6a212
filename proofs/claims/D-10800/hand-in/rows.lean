section
/-- an index of two sizes -/
theorem jp_ix (b k i : Nat) : nI b * nI k + nI i = nI (b * k + i) := by
  rw [pk_mul, nI_add]
/-- a store's place, by the three numbers behind -/
theorem jp_ix3 (b k v m i : Nat) : nI b * nI k + nI v * nI m + nI i = nI (b * k + v * m + i) := by
  rw [pk_mul, pk_mul, nI_add, nI_add]
theorem jp_ix3b (c v m i : Nat) : nI c + nI v * nI m + nI i = nI (c + v * m + i) := by
  rw [pk_mul, nI_add, nI_add]
/-- every wave is read inside its quarter -/
theorem jp_wave {post : Int32 → Prop} {u : St2} {x y : Int32} (H : ∀ r, post r) : wpX_wave post u x y := by
  obtain ⟨nq, ni, qu, iv, len, cnt, pr, bb, bc, ra, dc, a1, a2, a3, a4, a5, a6, a7, a8, a9, a10, a11, a12, a13, a14, a15, a16, a17⟩ := u
  unfold wpX_wave
  dsimp only
  obtain ⟨j, hj, ej⟩ := pk_andE ((2 * y + 1) * x) (m := 31) 5 (by decide)
  have hj' : j < 32 := hj
  refine nm_r ej ?_
  exact pk_lt 8 j
    (fun h1 => pk_lt 16 j
      (fun h2 => pk_lt 24 j
        (fun h3 => ⟨pk_in (32 - j) 9 (by omega) (pk_sub (a := 32) (by omega)), H _⟩)
        (fun h3 => ⟨pk_in (j - 16) 9 (by omega) (pk_sub (b := 16) (by omega)), H _⟩))
      (fun h2 => ⟨pk_in (16 - j) 9 (by omega) (pk_sub (a := 16) (by omega)), H _⟩))
    (fun h1 => ⟨pk_in j 9 (by omega), H _⟩)
theorem jp_unf19 {post : Int64 → Prop} {a s : Nat} {z : Int32} {nq ni qu iv len cnt pr bb bc ra dc : Int32} {a1 a2 a3 a4 a5 a6 a7 a8 a9 a10 a11 a12 a13 a14 a15 a16 : Nat → Int32} {a17 : Nat → Int64} (h : a + 7 * s < 64) (H : ∀ r, post r) (v : Int64) : ∃ n, wX_unfolded_19 post (nI a) (nI s) z nq ni qu iv len cnt pr bb bc ra dc a1 a2 a3 a4 a5 a6 a7 a8 a9 a10 a11 a12 a13 a14 a15 a16 a17 n v 1 :=
  pk_loop (fun n i v => wX_unfolded_19 post (nI a) (nI s) z nq ni qu iv len cnt pr bb bc ra dc a1 a2 a3 a4 a5 a6 a7 a8 a9 a10 a11 a12 a13 a14 a15 a16 a17 n v (nI i)) (fun _ _ => True) 8 1 v (by omega) trivial
    (fun n v _ => pk_le 8 8 (fun _ => H v) (fun z => absurd z (by omega)))
    (fun n i v hi _ hw => pk_le 8 i (fun z => absurd z (by omega)) (fun _ => ⟨pk_in (a + i * s) 64 (by have := Nat.mul_le_mul_right s (show i ≤ 7 by omega); omega) (by rw [pk_mul, nI_add]), jp_wave (fun r => nm_e (nm_r (nI_1 i) (hw _ trivial)))⟩))
theorem jp_unf {post : Int64 → Prop} {u : St2} {p q z : Int32} (a s : Nat) (h : a + 7 * s < 64) (H : ∀ r, post r) (hp : p = nI a := by rfl) (hq : q = nI s := by rfl) : wpX_unfolded post u p q z := by
  obtain ⟨nq, ni, qu, iv, len, cnt, pr, bb, bc, ra, dc, a1, a2, a3, a4, a5, a6, a7, a8, a9, a10, a11, a12, a13, a14, a15, a16, a17⟩ := u
  subst hp hq
  exact ⟨pk_in a 64 (by omega), jp_wave (fun r => nm_e (jp_unf19 h H _))⟩
theorem jp_clamp {post : Int32 → Prop} {u : St2} {x : Int32} (H : ∀ r, post r) : wpX_clamp post u x := by
  obtain ⟨nq, ni, qu, iv, len, cnt, pr, bb, bc, ra, dc, a1, a2, a3, a4, a5, a6, a7, a8, a9, a10, a11, a12, a13, a14, a15, a16, a17⟩ := u
  exact br_c (fun _ => br_c (fun _ => H _) (fun _ => H _)) (fun _ => H _)
theorem jp_step {post : Int32 → Prop} {u : St2} {x y : Int32} (H : ∀ r, post r) : wpX_step post u x y := by
  obtain ⟨nq, ni, qu, iv, len, cnt, pr, bb, bc, ra, dc, a1, a2, a3, a4, a5, a6, a7, a8, a9, a10, a11, a12, a13, a14, a15, a16, a17⟩ := u
  exact H _
theorem jp_corner {post : Int32 → Prop} {u : St2} {b : Nat} (hb : b < 4) (H : ∀ c, c ≤ 136 → post (nI c)) : wpX_corner post u (nI b) := by
  obtain ⟨nq, ni, qu, iv, len, cnt, pr, bb, bc, ra, dc, a1, a2, a3, a4, a5, a6, a7, a8, a9, a10, a11, a12, a13, a14, a15, a16, a17⟩ := u
  have e1 : nI b >>> ((1 : Int32) &&& 31) = nI (b / 2) := pk_shrN (by omega) _ 1 (by decide)
  have e2 : nI b &&& 1 = nI (b % 2) := pk_andN (by omega) 1 (by decide)
  have e : nI b >>> ((1 : Int32) &&& 31) * 8 * 16 + (nI b &&& 1) * 8 = nI (b / 2 * 8 * 16 + b % 2 * 8) := by
    rw [e1, e2]
    show nI (b / 2) * nI 8 * nI 16 + nI (b % 2) * nI 8 = _
    rw [pk_mul, pk_mul, pk_mul, nI_add]
  show post (nI b >>> ((1 : Int32) &&& 31) * 8 * 16 + (nI b &&& 1) * 8)
  rw [e]
  exact H _ (by omega)
theorem jp_ucol {post : St2 → Prop} {nq ni qu iv len cnt pr bb bc ra dc : Int32} {a1 a2 a3 a4 a5 a6 a7 a8 a9 a10 a11 a12 a13 a14 a15 a16 : Nat → Int32} {a17 : Nat → Int64} {c : Nat} (hc : c < 8) (H : ∀ s, post (nq, ni, qu, iv, len, cnt, pr, bb, bc, ra, dc, a1, a2, a3, a4, a5, a6, a7, a8, a9, a10, a11, a12, a13, a14, a15, a16, s)) : wpX_unfoldColumn post (nq, ni, qu, iv, len, cnt, pr, bb, bc, ra, dc, a1, a2, a3, a4, a5, a6, a7, a8, a9, a10, a11, a12, a13, a14, a15, a16, a17) (nI c) := by
  unfold wpX_unfoldColumn
  exact jp_unf c 8 (by omega) (fun _ => jp_unf c 8 (by omega) (fun _ => jp_unf c 8 (by omega) (fun _ => jp_unf c 8 (by omega) (fun _ =>
  jp_unf c 8 (by omega) (fun _ => jp_unf c 8 (by omega) (fun _ => jp_unf c 8 (by omega) (fun _ => jp_unf c 8 (by omega) (fun _ =>
    ⟨pk_in c 64 (by omega), nm_e ⟨pk_in (8 + c) 64 (by omega) (nI_add 8 c), nm_e ⟨pk_in (16 + c) 64 (by omega) (nI_add 16 c), nm_e ⟨pk_in (24 + c) 64 (by omega) (nI_add 24 c), nm_e ⟨pk_in (32 + c) 64 (by omega) (nI_add 32 c), nm_e ⟨pk_in (40 + c) 64 (by omega) (nI_add 40 c), nm_e ⟨pk_in (48 + c) 64 (by omega) (nI_add 48 c), nm_e ⟨pk_in (56 + c) 64 (by omega) (nI_add 56 c), nm_e (H _)⟩⟩⟩⟩⟩⟩⟩⟩))))))))
theorem jp_sb100 {post : St2 → Prop} {J : Int32 → (Nat → Int32) → (Nat → Int32) → (Nat → Int32) → (Nat → Int32) → (Nat → Int32) → (Nat → Int32) → (Nat → Int32) → (Nat → Int32) → (Nat → Int32) → (Nat → Int32) → (Nat → Int32) → (Nat → Int32) → (Nat → Int32) → (Nat → Int32) → (Nat → Int32) → (Nat → Int32) → (Nat → Int64) → Prop} {nq ni qu iv len cnt pr bb bc ra dc : Int32} {a1 a2 a3 a4 a5 a6 a7 a8 a9 a10 a11 a12 a13 a14 a15 a16 : Nat → Int32} {a17 : Nat → Int64} {c v : Nat} (hc : c ≤ 136) (hv : v < 8) (H : ∀ s, J (nI (v + 1)) a1 a2 a3 a4 a5 a6 a7 a8 a9 a10 a11 a12 a13 s a15 a16 a17) : ∃ n, wX_showBlock_100 post J (nI c) (nI v) nq ni qu iv len cnt pr bb bc ra dc n 0 a1 a2 a3 a4 a5 a6 a7 a8 a9 a10 a11 a12 a13 a14 a15 a16 a17 :=
  pk_loop (fun n i s => wX_showBlock_100 post J (nI c) (nI v) nq ni qu iv len cnt pr bb bc ra dc n (nI i) a1 a2 a3 a4 a5 a6 a7 a8 a9 a10 a11 a12 a13 s a15 a16 a17) (fun _ _ => True) 8 0 a14 (by omega) trivial
    (fun n s _ => pk_le 8 8 (fun _ => nm_r (nI_1 v) (H s)) (fun z => absurd z (by omega)))
    (fun n i s hi _ hw => pk_le 8 i (fun z => absurd z (by omega)) (fun _ => jp_unf (v * 8) 1 (by omega) (fun r => nm_e (jp_clamp (fun r => ⟨pk_in (c + v * 16 + i) 256 (by omega) (jp_ix3b c v 16 i), nm_e (nm_r (nI_1 i) (hw _ trivial))⟩))) (pk_mul v 8)))
theorem jp_sb91 {post : St2 → Prop} {nq ni qu iv len cnt pr bb bc ra dc : Int32} {a1 a2 a3 a4 a5 a6 a7 a8 a9 a10 a11 a12 a13 a14 a15 a16 : Nat → Int32} {a17 : Nat → Int64} {c : Nat} (hc : c ≤ 136) (H : ∀ s, post (nq, ni, qu, iv, len, cnt, pr, bb, bc, ra, dc, a1, a2, a3, a4, a5, a6, a7, a8, a9, a10, a11, a12, a13, s, a15, a16, a17)) : ∃ n, wX_showBlock_91 post (nI c) nq ni qu iv len cnt pr bb bc ra dc n 0 a1 a2 a3 a4 a5 a6 a7 a8 a9 a10 a11 a12 a13 a14 a15 a16 a17 :=
  pk_loop (fun n i s => wX_showBlock_91 post (nI c) nq ni qu iv len cnt pr bb bc ra dc n (nI i) a1 a2 a3 a4 a5 a6 a7 a8 a9 a10 a11 a12 a13 s a15 a16 a17) (fun _ _ => True) 8 0 a14 (by omega) trivial
    (fun n s _ => pk_le 8 8 (fun _ => H s) (fun z => absurd z (by omega)))
    (fun n i s hi _ hw => pk_le 8 i (fun z => absurd z (by omega)) (fun _ => jp_sb100 hc hi (fun s => hw s trivial)))
theorem jp_sb66 {post : St2 → Prop} {nq ni qu iv len cnt pr bb bc ra dc : Int32} {a1 a2 a3 a4 a5 a6 a7 a8 a9 a10 a11 a12 a13 a14 a15 a16 : Nat → Int32} {a17 : Nat → Int64} {b : Nat} (hb : b < 4) (H : ∀ s t, post (nq, ni, qu, iv, len, cnt, pr, bb, bc, ra, dc, a1, a2, a3, a4, a5, a6, a7, a8, a9, a10, a11, a12, a13, s, a15, a16, t)) : ∃ n, wX_showBlock_66 post (nI b) n 0 nq ni qu iv len cnt pr bb bc ra dc a1 a2 a3 a4 a5 a6 a7 a8 a9 a10 a11 a12 a13 a14 a15 a16 a17 :=
  pk_loop (fun n i s => wX_showBlock_66 post (nI b) n (nI i) nq ni qu iv len cnt pr bb bc ra dc a1 a2 a3 a4 a5 a6 a7 a8 a9 a10 a11 a12 a13 a14 a15 a16 s) (fun _ _ => True) 8 0 a17 (by omega) trivial
    (fun n s _ => pk_le 8 8 (fun _ => jp_corner hb (fun c hc => jp_sb91 hc (fun t => H t s))) (fun z => absurd z (by omega)))
    (fun n i s hi _ hw => pk_le 8 i (fun z => absurd z (by omega)) (fun _ => jp_ucol hi (fun s => nm_r (nI_1 i) (hw s trivial))))
theorem jp_sb10 {post : St2 → Prop} {J : Int32 → (Nat → Int32) → (Nat → Int32) → (Nat → Int32) → (Nat → Int32) → (Nat → Int32) → (Nat → Int32) → (Nat → Int32) → (Nat → Int32) → (Nat → Int32) → (Nat → Int32) → (Nat → Int32) → (Nat → Int32) → (Nat → Int32) → (Nat → Int32) → (Nat → Int32) → (Nat → Int32) → (Nat → Int64) → Prop} {nq ni qu iv len cnt pr bb bc ra dc : Int32} {a1 a2 a3 a4 a5 a6 a7 a8 a9 a10 a11 a12 a13 a14 a15 a16 : Nat → Int32} {a17 : Nat → Int64} {b v : Nat} (hb : b < 4) (hv : v < 8) (H : ∀ s, J (nI (v + 1)) a1 a2 a3 a4 a5 a6 a7 a8 a9 a10 a11 a12 a13 a14 a15 a16 s) : ∃ n, wX_showBlock_10 post J (nI b) (nI v) nq ni qu iv len cnt pr bb bc ra dc n 0 a1 a2 a3 a4 a5 a6 a7 a8 a9 a10 a11 a12 a13 a14 a15 a16 a17 :=
  pk_loop (fun n i s => wX_showBlock_10 post J (nI b) (nI v) nq ni qu iv len cnt pr bb bc ra dc n (nI i) a1 a2 a3 a4 a5 a6 a7 a8 a9 a10 a11 a12 a13 a14 a15 a16 s) (fun _ _ => True) 8 0 a17 (by omega) trivial
    (fun n s _ => pk_le 8 8 (fun _ => nm_r (nI_1 v) (H s)) (fun z => absurd z (by omega)))
    (fun n i s hi _ hw => pk_le 8 i (fun z => absurd z (by omega)) (fun _ => ⟨pk_in (b * 64 + v * 8 + i) 256 (by omega) (jp_ix3 b 64 v 8 i), jp_step (fun r => ⟨pk_in (v * 8 + i) 64 (by omega) (jp_ix v 8 i), nm_e (nm_r (nI_1 i) (hw _ trivial))⟩)⟩))
theorem jp_sb2 {post : St2 → Prop} {nq ni qu iv len cnt pr bb bc ra dc : Int32} {a1 a2 a3 a4 a5 a6 a7 a8 a9 a10 a11 a12 a13 a14 a15 a16 : Nat → Int32} {a17 : Nat → Int64} {b : Nat} (hb : b < 4) (H : ∀ s t, post (nq, ni, qu, iv, len, cnt, pr, bb, bc, ra, dc, a1, a2, a3, a4, a5, a6, a7, a8, a9, a10, a11, a12, a13, s, a15, a16, t)) : ∃ n, wX_showBlock_2 post (nI b) nq ni qu iv len cnt pr bb bc ra dc n 0 a1 a2 a3 a4 a5 a6 a7 a8 a9 a10 a11 a12 a13 a14 a15 a16 a17 :=
  pk_loop (fun n i s => wX_showBlock_2 post (nI b) nq ni qu iv len cnt pr bb bc ra dc n (nI i) a1 a2 a3 a4 a5 a6 a7 a8 a9 a10 a11 a12 a13 a14 a15 a16 s) (fun _ _ => True) 8 0 a17 (by omega) trivial
    (fun n s _ => pk_le 8 8 (fun _ => jp_sb66 hb H) (fun z => absurd z (by omega)))
    (fun n i s hi _ hw => pk_le 8 i (fun z => absurd z (by omega)) (fun _ => jp_sb10 hb hi (fun s => hw s trivial)))
/-- a block is shown: the shown pixels and the wide sums alone change -/
theorem jp_show {post : St2 → Prop} {nq ni qu iv len cnt pr bb bc ra dc : Int32} {a1 a2 a3 a4 a5 a6 a7 a8 a9 a10 a11 a12 a13 a14 a15 a16 : Nat → Int32} {a17 : Nat → Int64} {b : Nat} (hb : b < 4) (H : ∀ s t, post (nq, ni, qu, iv, len, cnt, pr, bb, bc, ra, dc, a1, a2, a3, a4, a5, a6, a7, a8, a9, a10, a11, a12, a13, s, a15, a16, t)) : wpX_showBlock post (nq, ni, qu, iv, len, cnt, pr, bb, bc, ra, dc, a1, a2, a3, a4, a5, a6, a7, a8, a9, a10, a11, a12, a13, a14, a15, a16, a17) (nI b) :=
  jp_sb2 hb H
end
section
/-- the stored picture is the first one: one segment without bytes, its mark; what was decoded of it is nothing -/
def jp_K (u : St2) : Prop := match u with
  | (nq, ni, qu, iv, len, cnt, pr, bb, bc, ra, dc, a1, a2, a3, a4, a5, a6, a7, a8, a9, a10, a11, a12, a13, a14, a15, a16, a17) => iv = 4 ∧ len = 2 ∧ a5 0 = 255 ∧ a5 1 = 208 ∧ (dc = 0 ∨ ∀ j, j < 256 → a13 j = 0)
/-- the same, and decoded -/
def jp_Z (u : St2) : Prop := match u with
  | (nq, ni, qu, iv, len, cnt, pr, bb, bc, ra, dc, a1, a2, a3, a4, a5, a6, a7, a8, a9, a10, a11, a12, a13, a14, a15, a16, a17) => iv = 4 ∧ len = 2 ∧ a5 0 = 255 ∧ a5 1 = 208 ∧ (∀ j, j < 256 → a13 j = 0)
theorem jp_ZK {u : St2} (h : jp_Z u) : jp_K u := by
  obtain ⟨nq, ni, qu, iv, len, cnt, pr, bb, bc, ra, dc, a1, a2, a3, a4, a5, a6, a7, a8, a9, a10, a11, a12, a13, a14, a15, a16, a17⟩ := u
  obtain ⟨h1, h2, h3, h4, h5⟩ := h
  exact ⟨h1, h2, h3, h4, Or.inr h5⟩
theorem jp_fill {s : Nat → Int32} {i k : Nat} {x : Int32} (hk : k = i) (h : ∀ j, j < i → s j = x) : ∀ j, j < i + 1 → upd s k x j = x := by
  intro j hj
  rw [hk]
  by_cases e : j = i
  · rw [e, pk_us]
  · rw [pk_un e]
    exact h j (by omega)
theorem jp_mark {post : Int32 → Prop} {nq ni qu iv cnt pr bb bc ra dc : Int32} {a1 a2 a3 a4 a5 a6 a7 a8 a9 a10 a11 a12 a13 a14 a15 a16 : Nat → Int32} {a17 : Nat → Int64} (h0 : a5 0 = 255) (h1 : a5 1 = 208) (H : post 1) : wpX_markAt post (nq, ni, qu, iv, 2, cnt, pr, bb, bc, ra, dc, a1, a2, a3, a4, a5, a6, a7, a8, a9, a10, a11, a12, a13, a14, a15, a16, a17) 0 :=
  pk_le 2 1 (fun z => absurd z (by omega)) (fun _ => ⟨pk_in 0 1900 (by omega), br_t h0 ⟨pk_in 1 1900 (by omega), br_f (show ¬ a5 1 < 208 by rw [h1]; decide) H⟩⟩)
theorem jp_d121 {post : St2 → Prop} {nq ni qu iv len cnt pr bb bc ra dc : Int32} {a1 a2 a3 a4 a5 a6 a7 a8 a9 a10 a11 a12 a13 a14 a15 a16 : Nat → Int32} {a17 : Nat → Int64} (H : ∀ s t, post (nq, ni, qu, iv, len, cnt, pr, bb, bc, ra, 1, a1, a2, a3, a4, a5, a6, a7, a8, a9, a10, a11, a12, a13, s, a15, a16, t)) : ∃ n, wX_decode_121 post n 0 nq ni qu iv len cnt pr bb bc ra dc a1 a2 a3 a4 a5 a6 a7 a8 a9 a10 a11 a12 a13 a14 a15 a16 a17 :=
  pk_loop (fun n i (s : (Nat → Int32) × (Nat → Int64)) => wX_decode_121 post n (nI i) nq ni qu iv len cnt pr bb bc ra dc a1 a2 a3 a4 a5 a6 a7 a8 a9 a10 a11 a12 a13 s.1 a15 a16 s.2) (fun _ _ => True) 4 0 (a14, a17) (by omega) trivial
    (fun n s _ => pk_le 4 4 (fun _ => H s.1 s.2) (fun z => absurd z (by omega)))
    (fun n i s hi _ hw => pk_le 4 i (fun z => absurd z (by omega)) (fun _ => jp_show hi (fun s t => nm_r (nI_1 i) (hw (s, t) trivial))))
theorem jp_dn {i : Nat} (h : i < 4) : nI (4 - i) + (-1) = nI (4 - (i + 1)) := by
  rw [show 4 - i = (4 - (i + 1)) + 1 by omega]
  exact pk_m1 _
theorem jp_d58 {post : St2 → Prop} {nq ni qu iv len cnt pr bb bc ra dc : Int32} {a1 a2 a3 a4 a5 a6 a7 a8 a9 a10 a11 a12 a13 a14 a15 a16 : Nat → Int32} {a17 : Nat → Int64} (H : ∀ s t, post (nq, ni, qu, iv, len, cnt, pr, bb, bc, ra, 1, a1, a2, a3, a4, a5, a6, a7, a8, a9, a10, a11, a12, a13, s, a15, a16, t)) : ∃ n, wX_decode_58 post n 4 1 0 nq ni qu iv len cnt pr bb bc ra dc a1 a2 a3 a4 a5 a6 a7 a8 a9 a10 a11 a12 a13 a14 a15 a16 a17 :=
  pk_loop (σ := Unit) (fun n i _ => wX_decode_58 post n (nI (4 - i)) 1 (nI i) nq ni qu iv len cnt pr bb bc ra dc a1 a2 a3 a4 a5 a6 a7 a8 a9 a10 a11 a12 a13 a14 a15 a16 a17) (fun _ _ => True) 4 0 () (by omega) trivial
    (fun n _ _ => pk_le 4 4 (fun _ => jp_d121 H) (fun z => absurd z (by omega)))
    (fun n i _ hi _ hw => pk_le 4 i (fun z => absurd z (by omega)) (fun _ => br_f (nI_ne0 (by omega) (by omega)) (br_f (by decide) (nm_r (jp_dn hi) (nm_r (nI_1 i) (hw () trivial))))))
theorem jp_d10 {post : St2 → Prop} {nq ni qu cnt pr bb bc ra dc : Int32} {a1 a2 a3 a4 a5 a6 a7 a8 a9 a10 a11 a12 a13 a14 a15 a16 : Nat → Int32} {a17 : Nat → Int64} (h0 : a5 0 = 255) (h1 : a5 1 = 208) (H : ∀ r s t, (∀ j, j < 256 → r j = 0) → post (nq, ni, qu, 4, 2, cnt, 0, bb, 0, 0, 1, a1, a2, a3, a4, a5, a6, a7, a8, a9, a10, a11, a12, r, s, a15, a16, t)) : ∃ n, wX_decode_10 post nq ni qu 4 2 cnt pr bb bc ra dc n 0 a1 a2 a3 a4 a5 a6 a7 a8 a9 a10 a11 a12 a13 a14 a15 a16 a17 :=
  pk_loop (fun n i s => wX_decode_10 post nq ni qu 4 2 cnt pr bb bc ra dc n (nI i) a1 a2 a3 a4 a5 a6 a7 a8 a9 a10 a11 a12 s a14 a15 a16 a17) (fun i s => ∀ j, j < i → s j = 0) 256 0 a13 (by omega) (fun j hj => absurd hj (by omega))
    (fun n s h => pk_le 256 256 (fun _ => jp_mark h0 h1 (jp_d58 (fun t t' => H s t t' h))) (fun z => absurd z (by omega)))
    (fun n i s hi h hw => pk_le 256 i (fun z => absurd z (by omega)) (fun _ => ⟨pk_in i 256 (by omega), nm_e (nm_r (nI_1 i) (hw _ (jp_fill (nI_clamp (by omega)) h)))⟩))
theorem jp_decode {post : St2 → Prop} {u : St2} (h : jp_K u) (H : ∀ u', jp_Z u' → post u') : wpX_decode post u := by
  obtain ⟨nq, ni, qu, iv, len, cnt, pr, bb, bc, ra, dc, a1, a2, a3, a4, a5, a6, a7, a8, a9, a10, a11, a12, a13, a14, a15, a16, a17⟩ := u
  obtain ⟨h1, h2, h3, h4, h5⟩ := h
  subst h1 h2
  exact br_c (fun _ => jp_d10 h3 h4 (fun r s t hz => H _ ⟨rfl, rfl, h3, h4, hz⟩)) (fun z => H _ ⟨rfl, rfl, h3, h4, h5.resolve_left z⟩)
theorem jp_w20 {post : Int32 → St2 → Prop} {nq ni qu iv len cnt pr bb bc ra dc : Int32} {a1 a2 a3 a4 a5 a6 a7 a8 a9 a10 a11 a12 a13 a14 a15 a16 : Nat → Int32} {a17 : Nat → Int64} {b : Nat} (hb : b < 4) (hz : ∀ j, j < 256 → a13 j = 0) (H : post 0 (nq, ni, qu, iv, len, cnt, pr, bb, bc, ra, dc, a1, a2, a3, a4, a5, a6, a7, a8, a9, a10, a11, a12, a13, a14, a15, a16, a17)) : ∃ n, wX_weight_20 post (nI b) nq ni qu iv len cnt pr bb bc ra dc a1 a2 a3 a4 a5 a6 a7 a8 a9 a10 a11 a12 a13 a14 a15 a16 a17 n 0 0 :=
  pk_loop (σ := Unit) (fun n i _ => wX_weight_20 post (nI b) nq ni qu iv len cnt pr bb bc ra dc a1 a2 a3 a4 a5 a6 a7 a8 a9 a10 a11 a12 a13 a14 a15 a16 a17 n 0 (nI i)) (fun _ _ => True) 64 0 () (by omega) trivial
    (fun n _ _ => pk_le 64 64 (fun _ => H) (fun z => absurd z (by omega)))
    (fun n i _ hi _ hw => pk_le 64 i (fun z => absurd z (by omega)) (fun _ => ⟨pk_in (b * 64 + i) 256 (by omega) (jp_ix b 64 i), br_t ((congrArg a13 (pk_cl (b * 64 + i) (jp_ix b 64 i))).trans (hz _ (by omega))) (nm_r (nI_1 i) (hw () trivial))⟩))
theorem jp_weight {post : Int32 → St2 → Prop} {u : St2} {b : Nat} (hb : b < 4) (h : jp_K u) (H : ∀ u', jp_Z u' → post 0 u') : wpX_weight post u (nI b) := by
  obtain ⟨nq, ni, qu, iv, len, cnt, pr, bb, bc, ra, dc, a1, a2, a3, a4, a5, a6, a7, a8, a9, a10, a11, a12, a13, a14, a15, a16, a17⟩ := u
  refine br_f (nI_pos (by omega)) (pk_le b 3 (fun _ => ?_) (fun z => absurd z (by omega)))
  refine jp_decode h (fun u' hz => ?_)
  obtain ⟨nq, ni, qu, iv, len, cnt, pr, bb, bc, ra, dc, a1, a2, a3, a4, a5, a6, a7, a8, a9, a10, a11, a12, a13, a14, a15, a16, a17⟩ := u'
  have hz' := hz
  obtain ⟨_, _, _, _, h5⟩ := hz'
  exact jp_w20 hb h5 (H _ hz)
theorem jp_seg {post : Int32 → Prop} {u : St2} {b : Nat} (hb : b < 4) (h : jp_K u) (H : post 0) : wpX_segmentOf post u (nI b) := by
  obtain ⟨nq, ni, qu, iv, len, cnt, pr, bb, bc, ra, dc, a1, a2, a3, a4, a5, a6, a7, a8, a9, a10, a11, a12, a13, a14, a15, a16, a17⟩ := u
  obtain ⟨h1, _, _, _, _⟩ := h
  subst h1
  exact pk_loop (σ := Unit) (fun n i _ => wX_segmentOf_4 post (nI b) nq ni qu 4 len cnt pr bb bc ra dc a1 a2 a3 a4 a5 a6 a7 a8 a9 a10 a11 a12 a13 a14 a15 a16 a17 n 0 (nI i)) (fun _ _ => True) 4 0 () (by omega) trivial
    (fun n _ _ => pk_le 4 4 (fun _ => H) (fun z => absurd z (by omega)))
    (fun n i _ hi _ hw => pk_le 4 i (fun z => absurd z (by omega)) (fun _ => pk_lt b 4 (fun _ => nm_r (nI_1 i) (hw () trivial)) (fun z => absurd z (by omega)) rfl (by decide)))
end
section
theorem jp_same {s : Nat → Int32} {k i j : Nat} (hk : k = i) {x : Int32} (hx : x = s i) : upd s k x j = s j := by
  rw [hk, hx]
  by_cases e : j = i
  · rw [e, pk_us]
  · rw [pk_un e]
theorem jp_l141 {post : Int32 → St2 → Prop} {nq ni qu iv cnt pr bb bc ra dc : Int32} {a1 a2 a3 a4 a5 a6 a7 a8 a9 a10 a11 a12 a13 a14 a15 a16 : Nat → Int32} {a17 : Nat → Int64} (h0 : a5 0 = 255) (h1 : a5 1 = 208) (H : ∀ s : Nat → Int32, s 0 = 255 → s 1 = 208 → post 0 (nq, ni, qu, iv, 2, cnt, pr, bb, bc, ra, 0, a1, a2, a3, a4, s, a6, a7, a8, a9, a10, a11, a12, a13, a14, a15, a16, a17)) : ∃ n, wX_lose_141 post 0 0 nq ni qu iv 2 cnt pr bb bc ra dc n 0 a1 a2 a3 a4 a5 a6 a7 a8 a9 a10 a11 a12 a13 a14 a15 a16 a17 :=
  pk_loop (fun n i s => wX_lose_141 post 0 0 nq ni qu iv 2 cnt pr bb bc ra dc n (nI i) a1 a2 a3 a4 s a6 a7 a8 a9 a10 a11 a12 a13 a14 a15 a16 a17) (fun _ s => s 0 = 255 ∧ s 1 = 208) 2 0 a5 (by omega) ⟨h0, h1⟩
    (fun n s h => pk_le 2 2 (fun _ => nm_r (show (2 : Int32) - 0 = 2 by decide) (H s h.1 h.2)) (fun z => absurd z (by omega)))
    (fun n i s hi h hw => pk_le 2 i (fun z => absurd z (by omega)) (fun _ => ⟨pk_in i 1900 (by omega), pk_in i 1900 (by omega) (pk_sub (b := 0) (by omega)), nm_e (nm_r (nI_1 i) (hw _
      ⟨(jp_same (i := i) (pk_cl i (pk_sub (b := 0) (by omega))) (congrArg s (nI_clamp (by omega)))).trans h.1, (jp_same (i := i) (pk_cl i (pk_sub (b := 0) (by omega))) (congrArg s (nI_clamp (by omega)))).trans h.2⟩))⟩))
theorem jp_l70 {post : Int32 → St2 → Prop} {nq ni qu iv cnt pr bb bc ra dc : Int32} {a1 a2 a3 a4 a5 a6 a7 a8 a9 a10 a11 a12 a13 a14 a15 a16 : Nat → Int32} {a17 : Nat → Int64} (h0 : a5 0 = 255) (h1 : a5 1 = 208) (H : ∀ s : Nat → Int32, s 0 = 255 → s 1 = 208 → post 0 (nq, ni, qu, iv, 2, cnt, pr, bb, bc, ra, 0, a1, a2, a3, a4, s, a6, a7, a8, a9, a10, a11, a12, a13, a14, a15, a16, a17)) : ∃ n, wX_lose_70 post 0 0 nq ni qu iv 2 cnt pr bb bc ra dc a1 a2 a3 a4 a5 a6 a7 a8 a9 a10 a11 a12 a13 a14 a15 a16 a17 n 0 0 0 0 := by
  refine ⟨0 + 1 + 1, ?_⟩
  refine pk_le 2 0 (fun z => absurd z (by omega)) (fun _ => br_f (by decide) (jp_mark h0 h1 (br_f (by decide) (nm_r (e' := 1) (by decide) (br_f (by decide) (br_t (by decide) (nm_r (e' := 1) (by decide) ?_)))))))
  exact pk_le 2 1 (fun z => absurd z (by omega)) (fun _ => br_t (by decide) (nm_r (e' := 0) (by decide) (jp_l141 h0 h1 H)))
theorem jp_l23 {post : Int32 → St2 → Prop} (H : ∀ u', jp_K u' → post 0 u') {u : St2} (h : jp_K u) : ∃ n, (fun (n i : Nat) (u : St2) => match u with | (nq, ni, qu, iv, len, cnt, pr, bb, bc, ra, dc, a1, a2, a3, a4, a5, a6, a7, a8, a9, a10, a11, a12, a13, a14, a15, a16, a17) => wX_lose_23 post 0 n 0 (nI i) nq ni qu iv len cnt pr bb bc ra dc a1 a2 a3 a4 a5 a6 a7 a8 a9 a10 a11 a12 a13 a14 a15 a16 a17) n 0 u := by
  refine pk_loop (fun (n i : Nat) (u : St2) => match u with | (nq, ni, qu, iv, len, cnt, pr, bb, bc, ra, dc, a1, a2, a3, a4, a5, a6, a7, a8, a9, a10, a11, a12, a13, a14, a15, a16, a17) => wX_lose_23 post 0 n 0 (nI i) nq ni qu iv len cnt pr bb bc ra dc a1 a2 a3 a4 a5 a6 a7 a8 a9 a10 a11 a12 a13 a14 a15 a16 a17) (fun _ u => jp_K u) 4 0 u (by omega) h ?_ ?_
  · intro n u hu
    obtain ⟨nq, ni, qu, iv, len, cnt, pr, bb, bc, ra, dc, a1, a2, a3, a4, a5, a6, a7, a8, a9, a10, a11, a12, a13, a14, a15, a16, a17⟩ := u
    obtain ⟨h1, h2, h3, h4, h5⟩ := hu
    subst h1 h2
    exact pk_le 4 4 (fun _ => jp_l70 h3 h4 (fun s e0 e1 => H _ ⟨rfl, rfl, e0, e1, Or.inl rfl⟩)) (fun z => absurd z (by omega))
  · intro n i u hi hu hw
    obtain ⟨nq, ni, qu, iv, len, cnt, pr, bb, bc, ra, dc, a1, a2, a3, a4, a5, a6, a7, a8, a9, a10, a11, a12, a13, a14, a15, a16, a17⟩ := u
    refine pk_le 4 i (fun z => absurd z (by omega)) (fun _ => jp_seg hi hu (br_t rfl (jp_weight hi hu (fun u' hz => ?_))))
    have hw' := hw u' (jp_ZK hz)
    obtain ⟨nq, ni, qu, iv, len, cnt, pr, bb, bc, ra, dc, a1, a2, a3, a4, a5, a6, a7, a8, a9, a10, a11, a12, a13, a14, a15, a16, a17⟩ := u'
    exact nm_r (e' := 0) (by decide) (nm_r (nI_1 i) hw')
theorem jp_rng {x M : Int32} {A B : Prop} (n : Nat) (hM : M.toInt + 1 = n) (f : ¬ vp_in x n → A) (g : vp_in x n → B) : (x < 0 → A) ∧ (¬ x < 0 → ((M < x → A) ∧ (¬ M < x → B))) := by
  have e0 : x < 0 ↔ x.toInt < 0 := Int32.lt_iff_toInt_lt
  have e1 : M < x ↔ M.toInt < x.toInt := Int32.lt_iff_toInt_lt
  rw [vp_in_iff] at f g
  rw [e0, e1]
  exact ⟨fun z => f (by omega), fun z => ⟨fun z2 => f (by omega), fun z2 => g (by omega)⟩⟩
theorem jp_rle {x M : Int32} {A B : Prop} (n : Nat) (hM : M.toInt + 1 = n) (f : ¬ vp_in x n → A) (g : vp_in x n → B) : (x < 0 → A) ∧ (¬ x < 0 → ((x ≤ M → B) ∧ (¬ x ≤ M → A))) := by
  have e0 : x < 0 ↔ x.toInt < 0 := Int32.lt_iff_toInt_lt
  have e1 : x ≤ M ↔ x.toInt ≤ M.toInt := Int32.le_iff_toInt_le
  rw [vp_in_iff] at f g
  rw [e0, e1]
  exact ⟨fun z => f (by omega), fun z => ⟨fun z2 => g (by omega), fun z2 => f (by omega)⟩⟩
theorem jp_rlt {x M : Int32} {A B : Prop} (n : Nat) (hM : M.toInt = n) (f : ¬ vp_in x n → A) (g : vp_in x n → B) : (x < 0 → A) ∧ (¬ x < 0 → ((x < M → B) ∧ (¬ x < M → A))) := by
  have e0 : x < 0 ↔ x.toInt < 0 := Int32.lt_iff_toInt_lt
  have e1 : x < M ↔ x.toInt < M.toInt := Int32.lt_iff_toInt_lt
  rw [vp_in_iff] at f g
  rw [e0, e1]
  exact ⟨fun z => f (by omega), fun z => ⟨fun z2 => g (by omega), fun z2 => f (by omega)⟩⟩
theorem jp_lose {post : Int32 → St2 → Prop} {u : St2} {x : Int32} (h : jp_K u) (H : ∀ o u', jp_K u' → (¬ vp_in x 4 → o = -1000000) → (vp_in x 4 → o = 0) → post o u') : wpX_lose post u x := by
  obtain ⟨nq, ni, qu, iv, len, cnt, pr, bb, bc, ra, dc, a1, a2, a3, a4, a5, a6, a7, a8, a9, a10, a11, a12, a13, a14, a15, a16, a17⟩ := u
  refine jp_rle 4 (by decide) (fun z => H _ _ h (fun _ => rfl) (fun t => absurd t z)) (fun z => ?_)
  obtain ⟨j, hj, rfl⟩ := vp_in_of z (by decide)
  exact jp_seg hj h (jp_l23 (fun u' hu' => H _ u' hu' (fun t => absurd z t) (fun _ => rfl)) h)
theorem jp_level {post : Int32 → St2 → Prop} {u : St2} {b x y : Int32} (h : jp_K u) (H : ∀ o u', (¬ (vp_in b 4 ∧ vp_in x 8 ∧ vp_in y 8) → o = -1000000) → (vp_in b 4 → vp_in x 8 → vp_in y 8 → o = 0) → post o u') : wpX_level post u b x y := by
  obtain ⟨nq, ni, qu, iv, len, cnt, pr, bb, bc, ra, dc, a1, a2, a3, a4, a5, a6, a7, a8, a9, a10, a11, a12, a13, a14, a15, a16, a17⟩ := u
  have no : ¬ (vp_in b 4 ∧ vp_in x 8 ∧ vp_in y 8) → post (-1000000) (nq, ni, qu, iv, len, cnt, pr, bb, bc, ra, dc, a1, a2, a3, a4, a5, a6, a7, a8, a9, a10, a11, a12, a13, a14, a15, a16, a17) := fun z => H _ _ (fun _ => rfl) (fun t1 t2 t3 => absurd ⟨t1, t2, t3⟩ z)
  refine jp_rng 4 (by decide) (fun g => no (fun t => g t.1)) (fun g1 => ?_)
  refine jp_rng 8 (by decide) (fun g => no (fun t => g t.2.1)) (fun g2 => ?_)
  refine jp_rle 8 (by decide) (fun g => no (fun t => g t.2.2)) (fun g3 => ?_)
  refine jp_decode h (fun u' hz => ?_)
  obtain ⟨nq, ni, qu, iv, len, cnt, pr, bb, bc, ra, dc, a1, a2, a3, a4, a5, a6, a7, a8, a9, a10, a11, a12, a13, a14, a15, a16, a17⟩ := u'
  obtain ⟨_, _, _, _, h5⟩ := hz
  have H' : ∀ u', post 0 u' := fun u' => H _ u' (fun t => absurd ⟨g1, g2, g3⟩ t) (fun _ _ _ => rfl)
  obtain ⟨i, hi, rfl⟩ := vp_in_of g1 (by decide)
  obtain ⟨j, hj, rfl⟩ := vp_in_of g2 (by decide)
  obtain ⟨k, hk, rfl⟩ := vp_in_of g3 (by decide)
  have e : nI i * 64 + nI k * 8 + nI j = nI (i * 64 + k * 8 + j) := jp_ix3 i 64 k 8 j
  refine ⟨pk_in (i * 64 + k * 8 + j) 256 (by omega) e, ?_⟩
  rw [pk_cl _ e, h5 _ (by omega)]
  exact H' _
end
section
/-- the wave number of step k on diagonal d -/
def jp_v (d k : Nat) : Nat := if d % 2 = 0 then 7 - k else k
/-- step m (diagonal m / 8, place m % 8) is a place of the block -/
def jp_ok (m : Nat) : Bool := decide (jp_v (m / 8) (m % 8) ≤ m / 8 ∧ m / 8 < jp_v (m / 8) (m % 8) + 8)
/-- how many places come ahead of step m -/
def jp_c : Nat → Nat
  | 0 => 0
  | m + 1 => jp_c m + (if jp_ok m then 1 else 0)
theorem jp_cb : ∀ m, m < 120 → jp_ok m = true → jp_c m < 64 := by decide +kernel
theorem jp_cs (m : Nat) (h : jp_ok m = true) : jp_c (m + 1) = jp_c m + 1 := by
  show jp_c m + (if jp_ok m then 1 else 0) = _
  rw [if_pos h]
theorem jp_cn (m : Nat) (h : ¬ jp_ok m = true) : jp_c (m + 1) = jp_c m := by
  show jp_c m + (if jp_ok m then 1 else 0) = _
  rw [if_neg h]
  rfl
theorem jp_okI {d k : Nat} (hk : k < 8) : jp_ok (d * 8 + k) = true ↔ (jp_v d k ≤ d ∧ d < jp_v d k + 8) := by
  have e1 : (d * 8 + k) / 8 = d := by omega
  have e2 : (d * 8 + k) % 8 = k := by omega
  unfold jp_ok
  rw [e1, e2]
  exact decide_eq_true_iff
theorem jp_i271 {post : St2 → Prop} {mc ms kc ks : Nat} {J' J : Int32 → Int32 → (Nat → Int32) → (Nat → Int32) → (Nat → Int32) → (Nat → Int32) → (Nat → Int32) → (Nat → Int32) → (Nat → Int32) → (Nat → Int32) → (Nat → Int32) → (Nat → Int32) → (Nat → Int32) → (Nat → Int32) → (Nat → Int32) → (Nat → Int32) → (Nat → Int32) → (Nat → Int32) → (Nat → Int64) → Prop} {nq ni qu iv len cnt pr bb bc ra dc : Int32} {a1 a2 a3 a4 a5 a6 a7 a8 a9 a10 a11 a12 a13 a14 a15 a16 : Nat → Int32} {a17 : Nat → Int64} {c d k v : Nat} (hd : d < 15) (hv : v < 8) (hc : (v ≤ d ∧ d < v + 8) → c < 64) (H0 : ¬ (v ≤ d ∧ d < v + 8) → J (nI c) (nI (k + 1)) a1 a2 a3 a4 a5 a6 a7 a8 a9 a10 a11 a12 a13 a14 a15 a16 a17) (H1 : (v ≤ d ∧ d < v + 8) → ∀ s, J (nI (c + 1)) (nI (k + 1)) a1 a2 s a4 a5 a6 a7 a8 a9 a10 a11 a12 a13 a14 a15 a16 a17) : wX_init_271 post mc ms J' J (nI c) (nI d) (nI k) (nI v) kc ks nq ni qu iv len cnt pr bb bc ra dc a1 a2 a3 a4 a5 a6 a7 a8 a9 a10 a11 a12 a13 a14 a15 a16 a17 := by
  unfold wX_init_271
  by_cases hvd : v ≤ d
  · exact nm_r (pk_sub hvd) (br_f (nI_pos (by omega)) (pk_le 8 (d - v) (fun z => nm_r (nI_1 k) (H0 (by omega))) (fun z => ⟨pk_in c 64 (hc (by omega)), nm_e (nm_r (nI_1 c) (nm_r (nI_1 k) (H1 (by omega) _)))⟩)))
  · exact nm_e (br_t (pk_sneg (by omega) (by omega)) (nm_r (nI_1 k) (H0 (by omega))))
theorem jp_i251 {post : St2 → Prop} {mc ms kc ks : Nat} {J : Int32 → Int32 → (Nat → Int32) → (Nat → Int32) → (Nat → Int32) → (Nat → Int32) → (Nat → Int32) → (Nat → Int32) → (Nat → Int32) → (Nat → Int32) → (Nat → Int32) → (Nat → Int32) → (Nat → Int32) → (Nat → Int32) → (Nat → Int32) → (Nat → Int32) → (Nat → Int32) → (Nat → Int32) → (Nat → Int64) → Prop} {nq ni qu iv len cnt pr bb bc ra dc : Int32} {a1 a2 a3 a4 a5 a6 a7 a8 a9 a10 a11 a12 a13 a14 a15 a16 : Nat → Int32} {a17 : Nat → Int64} {d : Nat} (hd : d < 15) (H : ∀ s, J (nI (jp_c (d * 8 + 8))) (nI (d + 1)) a1 a2 s a4 a5 a6 a7 a8 a9 a10 a11 a12 a13 a14 a15 a16 a17) : ∃ n, wX_init_251 post mc ms J (nI d) kc ks nq ni qu iv len cnt pr bb bc ra dc n (nI (jp_c (d * 8))) 0 a1 a2 a3 a4 a5 a6 a7 a8 a9 a10 a11 a12 a13 a14 a15 a16 a17 := by
  refine pk_loop (fun n i s => wX_init_251 post mc ms J (nI d) kc ks nq ni qu iv len cnt pr bb bc ra dc n (nI (jp_c (d * 8 + i))) (nI i) a1 a2 s a4 a5 a6 a7 a8 a9 a10 a11 a12 a13 a14 a15 a16 a17) (fun _ _ => True) 8 0 a3 (by omega) trivial ?_ ?_
  · intro n s _
    exact pk_le 8 8 (fun _ => nm_r (nI_1 d) (H s)) (fun z => absurd z (by omega))
  · intro n i s hi _ hw
    have key : ∀ v, v = jp_v d i → v < 8 → wX_init_271 post mc ms J (wX_init_251 post mc ms J (nI d) kc ks nq ni qu iv len cnt pr bb bc ra dc n) (nI (jp_c (d * 8 + i))) (nI d) (nI i) (nI v) kc ks nq ni qu iv len cnt pr bb bc ra dc a1 a2 s a4 a5 a6 a7 a8 a9 a10 a11 a12 a13 a14 a15 a16 a17 := by
      intro v ev hv
      have ho := jp_okI (d := d) hi
      rw [← ev] at ho
      refine jp_i271 hd hv (fun z => jp_cb _ (by omega) (ho.mpr z)) (fun z => ?_) (fun z s => ?_)
      · have t : wX_init_251 post mc ms J (nI d) kc ks nq ni qu iv len cnt pr bb bc ra dc n (nI (jp_c (d * 8 + i + 1))) (nI (i + 1)) a1 a2 s a4 a5 a6 a7 a8 a9 a10 a11 a12 a13 a14 a15 a16 a17 := hw s trivial
        rw [jp_cn _ (fun g => z (ho.mp g))] at t
        exact t
      · have t : wX_init_251 post mc ms J (nI d) kc ks nq ni qu iv len cnt pr bb bc ra dc n (nI (jp_c (d * 8 + i + 1))) (nI (i + 1)) a1 a2 s a4 a5 a6 a7 a8 a9 a10 a11 a12 a13 a14 a15 a16 a17 := hw s trivial
        rw [jp_cs _ (ho.mpr z)] at t
        exact t
    have e1 : nI d &&& 1 = nI (d % 2) := pk_andN (by omega) 1 (by decide)
    have e2 : (7 : Int32) - nI i = nI (7 - i) := pk_sub (a := 7) (by omega)
    refine pk_le 8 i (fun z => absurd z (by omega)) (fun _ => pk_eq (d % 2) 0 (fun z => ?_) (fun z => ?_) e1)
    · rw [e2]
      exact key (7 - i) (by unfold jp_v; rw [if_pos z]) (by omega)
    · exact key i (by unfold jp_v; rw [if_neg z]) hi
theorem jp_i243 {post : St2 → Prop} {mc ms kc ks : Nat} {nq ni qu iv len cnt pr bb bc ra dc : Int32} {a1 a2 a3 a4 a5 a6 a7 a8 a9 a10 a11 a12 a13 a14 a15 a16 : Nat → Int32} {a17 : Nat → Int64} (H : ∀ s, post (1, 4, 1, 4, 2, cnt, pr, bb, bc, ra, dc, a1, a2, s, a4, upd (upd a5 0 255) 1 208, a6, a7, a8, a9, a10, a11, a12, a13, a14, a15, a16, a17)) : ∃ n, wX_init_243 post mc ms kc ks nq ni qu iv len cnt pr bb bc ra dc n 0 0 a1 a2 a3 a4 a5 a6 a7 a8 a9 a10 a11 a12 a13 a14 a15 a16 a17 := by
  refine pk_loop (fun n i s => wX_init_243 post mc ms kc ks nq ni qu iv len cnt pr bb bc ra dc n (nI (jp_c (i * 8))) (nI i) a1 a2 s a4 a5 a6 a7 a8 a9 a10 a11 a12 a13 a14 a15 a16 a17) (fun _ _ => True) 15 0 a3 (by omega) trivial ?_ ?_
  · intro n s _
    exact pk_le 15 15 (fun _ => nm_e (nm_e (H s))) (fun z => absurd z (by omega))
  · intro n i s hi _ hw
    refine pk_le 15 i (fun z => absurd z (by omega)) (fun _ => jp_i251 hi (fun s => ?_))
    have t : wX_init_243 post mc ms kc ks nq ni qu iv len cnt pr bb bc ra dc n (nI (jp_c ((i + 1) * 8))) (nI (i + 1)) a1 a2 s a4 a5 a6 a7 a8 a9 a10 a11 a12 a13 a14 a15 a16 a17 := hw s trivial
    rw [show (i + 1) * 8 = i * 8 + 8 by omega] at t
    exact t
theorem jp_i151 {post : St2 → Prop} {mc ms kc ks : Nat} {nq ni qu iv len cnt pr bb bc ra dc : Int32} {a1 a2 a3 a4 a5 a6 a7 a8 a9 a10 a11 a12 a13 a14 a15 a16 : Nat → Int32} {a17 : Nat → Int64} (H : ∀ r q s, (∀ j, j < 256 → r j = 128) → post (1, 4, 1, 4, 2, cnt, pr, bb, bc, ra, dc, r, q, s, a4, upd (upd a5 0 255) 1 208, a6, a7, a8, a9, a10, a11, a12, a13, a14, a15, a16, a17)) : ∃ n, wX_init_151 post mc ms kc ks nq ni qu iv len cnt pr bb bc ra dc n 0 a1 a2 a3 a4 a5 a6 a7 a8 a9 a10 a11 a12 a13 a14 a15 a16 a17 :=
  pk_loop (fun n i s => wX_init_151 post mc ms kc ks nq ni qu iv len cnt pr bb bc ra dc n (nI i) s a2 a3 a4 a5 a6 a7 a8 a9 a10 a11 a12 a13 a14 a15 a16 a17) (fun i s => ∀ j, j < i → s j = 128) 256 0 a1 (by omega) (fun j hj => absurd hj (by omega))
    (fun n s h => pk_le 256 256 (fun _ => nm_e (nm_e (nm_e (nm_e (nm_e (nm_e (nm_e (nm_e (jp_i243 (fun t => H s _ t h)))))))))) (fun z => absurd z (by omega)))
    (fun n i s hi h hw => pk_le 256 i (fun z => absurd z (by omega)) (fun _ => ⟨pk_in i 256 (by omega), nm_e (nm_r (nI_1 i) (hw _ (jp_fill (nI_clamp (by omega)) h)))⟩))
/-- a new object -/
def jp_I (u : St2) : Prop := match u with
  | (nq, ni, qu, iv, len, cnt, pr, bb, bc, ra, dc, a1, a2, a3, a4, a5, a6, a7, a8, a9, a10, a11, a12, a13, a14, a15, a16, a17) => jp_K (nq, ni, qu, iv, len, cnt, pr, bb, bc, ra, dc, a1, a2, a3, a4, a5, a6, a7, a8, a9, a10, a11, a12, a13, a14, a15, a16, a17) ∧ nq = 1 ∧ ni = 4 ∧ ∀ j, j < 256 → a1 j = 128
theorem jp_init {post : St2 → Prop} (H : ∀ u, jp_I u → post u) : wpX_init post 17 4939 (0, 0, 0, 0, 0, 0, 0, 0, 0, 0, 0) :=
  ⟨by decide, by decide, by decide, by decide, by decide, by decide, by decide, by decide, by decide, by decide, by decide, by decide, by decide, by decide, by decide, by decide, by decide, by decide, by decide, by decide, by decide, by decide, by decide, by decide, by decide, by decide, by decide, by decide, by decide, by decide, by decide, by decide, by decide, by decide,
    jp_i151 (fun r q s hr => H _ ⟨⟨rfl, rfl, by rw [pk_un (by decide), pk_us], pk_us, Or.inl rfl⟩, rfl, rfl, hr⟩)⟩
end
section
theorem jp_off {post : Int32 → Prop} {u : St2} {x : Int32} (H0 : vp_in x 16 → post 0) (H1 : ¬ vp_in x 16 → post 1) : wpX_off post u x := by
  obtain ⟨nq, ni, qu, iv, len, cnt, pr, bb, bc, ra, dc, a1, a2, a3, a4, a5, a6, a7, a8, a9, a10, a11, a12, a13, a14, a15, a16, a17⟩ := u
  exact jp_rlt 16 (by decide) H1 H0
theorem jp_bad {post : Int32 → Prop} {u : St2} {x : Int32} (H0 : vp_in x 256 → post 0) (H1 : ¬ vp_in x 256 → post 1) : wpX_badGrey post u x := by
  obtain ⟨nq, ni, qu, iv, len, cnt, pr, bb, bc, ra, dc, a1, a2, a3, a4, a5, a6, a7, a8, a9, a10, a11, a12, a13, a14, a15, a16, a17⟩ := u
  exact jp_rle 256 (by decide) H1 H0
/-- the place of a pixel -/
theorem jp_at {x y : Int32} (hx : vp_in x 16) (hy : vp_in y 16) : vp_in (y * 16 + x) 256 := by
  obtain ⟨i, hi, rfl⟩ := vp_in_of hx (by decide)
  obtain ⟨j, hj, rfl⟩ := vp_in_of hy (by decide)
  exact pk_in (j * 16 + i) 256 (by omega) (jp_ix j 16 i)
/-- behind put: what it answered, and what the pixel is -/
def jp_P (x y g r : Int32) (u : St2) : Prop := match u with
  | (nq, ni, qu, iv, len, cnt, pr, bb, bc, ra, dc, a1, a2, a3, a4, a5, a6, a7, a8, a9, a10, a11, a12, a13, a14, a15, a16, a17) => jp_K (nq, ni, qu, iv, len, cnt, pr, bb, bc, ra, dc, a1, a2, a3, a4, a5, a6, a7, a8, a9, a10, a11, a12, a13, a14, a15, a16, a17) ∧ nq = 1 ∧ ni = 4 ∧ ((vp_in x 16 ∧ vp_in y 16) ∧ vp_in g 256 → r = 128 ∧ a1 (y * 16 + x).toNatClampNeg = g) ∧ (¬ ((vp_in x 16 ∧ vp_in y 16) ∧ vp_in g 256) → r = -1000000 ∧ (vp_in x 16 ∧ vp_in y 16 → a1 (y * 16 + x).toNatClampNeg = 128))
theorem jp_cl256 {x : Int32} (h : vp_in x 256) : x.toNatClampNeg < 256 := by
  obtain ⟨i, hi, rfl⟩ := vp_in_of h (by decide)
  rw [nI_clamp (by omega)]
  exact hi
theorem jp_put {post : Int32 → St2 → Prop} {u : St2} {x y g : Int32} (h : jp_I u) (H : ∀ r u', jp_P x y g r u' → post r u') : wpX_put post u x y g := by
  obtain ⟨nq, ni, qu, iv, len, cnt, pr, bb, bc, ra, dc, a1, a2, a3, a4, a5, a6, a7, a8, a9, a10, a11, a12, a13, a14, a15, a16, a17⟩ := u
  obtain ⟨hK, h1, h2, h3⟩ := h
  have B : ¬ ((vp_in x 16 ∧ vp_in y 16) ∧ vp_in g 256) → post (-1000000) (nq, ni, qu, iv, len, cnt, pr, bb, bc, ra, dc, a1, a2, a3, a4, a5, a6, a7, a8, a9, a10, a11, a12, a13, a14, a15, a16, a17) := fun z => H _ _ ⟨hK, h1, h2, fun t => absurd t z, fun _ => ⟨rfl, fun t => h3 _ (jp_cl256 (jp_at t.1 t.2))⟩⟩
  unfold wpX_put
  refine jp_off (fun hx => br_t rfl (jp_off (fun hy => br_t rfl (jp_bad (fun hg => br_t rfl ?_) (fun z => br_f (by decide) (B (fun t => z t.2))))) (fun z => br_f (by decide) (B (fun t => z t.1.2))))) (fun z => br_f (by decide) (B (fun t => z t.1.1)))
  exact ⟨jp_at hx hy, nm_r (h3 _ (jp_cl256 (jp_at hx hy))) ⟨jp_at hx hy, nm_e (H _ _ ⟨hK, h1, h2, fun _ => ⟨rfl, pk_us⟩, fun z => absurd ⟨⟨hx, hy⟩, hg⟩ z⟩)⟩⟩
theorem jp_pixel {post : Int32 → Prop} {nq ni qu iv len cnt pr bb bc ra dc : Int32} {a1 a2 a3 a4 a5 a6 a7 a8 a9 a10 a11 a12 a13 a14 a15 a16 : Nat → Int32} {a17 : Nat → Int64} {x y : Int32} (H : ∀ o, (¬ (vp_in x 16 ∧ vp_in y 16) → o = -1000000) → (vp_in x 16 ∧ vp_in y 16 → o = a1 (y * 16 + x).toNatClampNeg) → post o) : wpX_pixel post (nq, ni, qu, iv, len, cnt, pr, bb, bc, ra, dc, a1, a2, a3, a4, a5, a6, a7, a8, a9, a10, a11, a12, a13, a14, a15, a16, a17) x y := by
  unfold wpX_pixel
  exact jp_off (fun hx => br_t rfl (jp_off (fun hy => br_t rfl ⟨jp_at hx hy, H _ (fun z => absurd ⟨hx, hy⟩ z) (fun _ => rfl)⟩) (fun z => br_f (by decide) (H _ (fun _ => rfl) (fun t => absurd t.2 z))))) (fun z => br_f (by decide) (H _ (fun _ => rfl) (fun t => absurd t.1 z)))
theorem jp_quality {post : Int32 → St2 → Prop} {nq ni qu iv len cnt pr bb bc ra dc : Int32} {a1 a2 a3 a4 a5 a6 a7 a8 a9 a10 a11 a12 a13 a14 a15 a16 : Nat → Int32} {a17 : Nat → Int64} {q : Int32} (H : ∀ o n, ((q < 1 ∨ 8 < q) → o = -1000000) → (¬ q < 1 → ¬ 8 < q → o = nq) → post o (n, ni, qu, iv, len, cnt, pr, bb, bc, ra, dc, a1, a2, a3, a4, a5, a6, a7, a8, a9, a10, a11, a12, a13, a14, a15, a16, a17)) : wpX_quality post (nq, ni, qu, iv, len, cnt, pr, bb, bc, ra, dc, a1, a2, a3, a4, a5, a6, a7, a8, a9, a10, a11, a12, a13, a14, a15, a16, a17) q :=
  br_c (fun z => H _ _ (fun _ => rfl) (fun t _ => absurd z t)) (fun z => br_c (fun z2 => H _ _ (fun t => absurd t (fun s => s.elim z (Int32.not_lt.mpr z2))) (fun _ _ => rfl)) (fun z2 => H _ _ (fun _ => rfl) (fun _ t => absurd (Int32.not_le.mp z2) t)))
theorem jp_interval {post : Int32 → St2 → Prop} {nq ni qu iv len cnt pr bb bc ra dc : Int32} {a1 a2 a3 a4 a5 a6 a7 a8 a9 a10 a11 a12 a13 a14 a15 a16 : Nat → Int32} {a17 : Nat → Int64} {q : Int32} (H : ∀ o n, ((q < 1 ∨ 4 < q) → o = -1000000) → (¬ q < 1 → ¬ 4 < q → o = ni) → post o (nq, n, qu, iv, len, cnt, pr, bb, bc, ra, dc, a1, a2, a3, a4, a5, a6, a7, a8, a9, a10, a11, a12, a13, a14, a15, a16, a17)) : wpX_interval post (nq, ni, qu, iv, len, cnt, pr, bb, bc, ra, dc, a1, a2, a3, a4, a5, a6, a7, a8, a9, a10, a11, a12, a13, a14, a15, a16, a17) q :=
  br_c (fun z => H _ _ (fun _ => rfl) (fun t _ => absurd z t)) (fun z => br_c (fun z2 => H _ _ (fun t => absurd t (fun s => s.elim z (Int32.not_lt.mpr z2))) (fun _ _ => rfl)) (fun z2 => H _ _ (fun _ => rfl) (fun _ t => absurd (Int32.not_le.mp z2) t)))
theorem jp_284 {post : Int32 → St0 → Prop} {mc ms kc ks : Nat} {z0 z1 : Int32} (hp : post 1 ()) (h : z1 = z0) : wL_lawOf_284 post mc ms z0 z1 kc ks := br_t h hp
theorem jp_268 {post : Int32 → St0 → Prop} {mc ms kc ks : Nat} {x12 x16 z0 z1 : Int32} (hp : post 1 ()) (h : z1 = z0) (e0 : x16 = 0 → x12 = -1000000) (e1 : ¬ x16 = 0 → x12 = 0) : wL_lawOf_268 post mc ms x12 x16 z0 z1 kc ks :=
  br_t h (br_c (fun c => jp_284 hp (e0 c)) (fun c => jp_284 hp (e1 c)))
theorem jp_252 {post : Int32 → St0 → Prop} {mc ms kc ks : Nat} {x11 x12 x15 x16 z0 z1 : Int32} (hp : post 1 ()) (h : z1 = z0) (d0 : x15 = 0 → x11 = -1000000) (d1 : ¬ x15 = 0 → x11 = 0) (e0 : x16 = 0 → x12 = -1000000) (e1 : ¬ x16 = 0 → x12 = 0) : wL_lawOf_252 post mc ms x11 x12 x15 x16 z0 z1 kc ks :=
  br_t h (br_c (fun c => jp_268 hp (d0 c) e0 e1) (fun c => jp_268 hp (d1 c) e0 e1))
theorem jp_229 {post : Int32 → St0 → Prop} {mc ms kc ks : Nat} {x4 x10 x11 x12 x15 x16 z0 z1 : Int32} (hp : post 1 ()) (h : z1 = z0) (c0 : (x4 < 1 ∨ 4 < x4) → x10 = -1000000) (c1 : ¬ x4 < 1 → ¬ 4 < x4 → x10 = 4) (d0 : x15 = 0 → x11 = -1000000) (d1 : ¬ x15 = 0 → x11 = 0) (e0 : x16 = 0 → x12 = -1000000) (e1 : ¬ x16 = 0 → x12 = 0) : wL_lawOf_229 post mc ms x4 x10 x11 x12 x15 x16 z0 z1 kc ks :=
  br_t h (br_c (fun a => jp_252 hp (c0 (Or.inl a)) d0 d1 e0 e1) (fun a => br_c (fun b => jp_252 hp (c0 (Or.inr b)) d0 d1 e0 e1) (fun b => jp_252 hp (c1 a b) d0 d1 e0 e1)))
theorem jp_207 {post : Int32 → St0 → Prop} {mc ms kc ks : Nat} {x3 x4 x9 x10 x11 x12 x15 x16 z0 z1 : Int32} (hp : post 1 ()) (h : z1 = z0) (b0 : (x3 < 1 ∨ 8 < x3) → x9 = -1000000) (b1 : ¬ x3 < 1 → ¬ 8 < x3 → x9 = 1) (c0 : (x4 < 1 ∨ 4 < x4) → x10 = -1000000) (c1 : ¬ x4 < 1 → ¬ 4 < x4 → x10 = 4) (d0 : x15 = 0 → x11 = -1000000) (d1 : ¬ x15 = 0 → x11 = 0) (e0 : x16 = 0 → x12 = -1000000) (e1 : ¬ x16 = 0 → x12 = 0) : wL_lawOf_207 post mc ms x3 x4 x9 x10 x11 x12 x15 x16 z0 z1 kc ks :=
  br_t h (br_c (fun a => jp_229 hp (b0 (Or.inl a)) c0 c1 d0 d1 e0 e1) (fun a => br_c (fun b => jp_229 hp (b0 (Or.inr b)) c0 c1 d0 d1 e0 e1) (fun b => jp_229 hp (b1 a b) c0 c1 d0 d1 e0 e1)))
theorem jp_163 {post : Int32 → St0 → Prop} {mc ms kc ks : Nat} {x2 x3 x4 x7 x8 x9 x10 x11 x12 x13 x14 x15 z0 : Int32} (hp : post 1 ()) (f0 : x14 = 0 → x7 = -1000000) (f1 : ¬ x14 = 0 → x7 = 128) (g0 : x13 = 0 → x8 = -1000000) (g1 : ¬ x13 = 0 → x14 = 0 → x8 = 128) (g2 : ¬ x13 = 0 → ¬ x14 = 0 → x8 = x2) (b0 : (x3 < 1 ∨ 8 < x3) → x9 = -1000000) (b1 : ¬ x3 < 1 → ¬ 8 < x3 → x9 = 1) (c0 : (x4 < 1 ∨ 4 < x4) → x10 = -1000000) (c1 : ¬ x4 < 1 → ¬ 4 < x4 → x10 = 4) (d0 : x15 = 0 → x11 = -1000000) (d1 : ¬ x15 = 0 → x11 = 0) (e0 : z0 = 0 → x12 = -1000000) (e1 : ¬ z0 = 0 → x12 = 0) : wL_lawOf_163 post mc ms x2 x3 x4 x7 x8 x9 x10 x11 x12 x13 x14 x15 z0 kc ks := by
  have R : ∀ z, x7 = z → wL_lawOf_180 post mc ms x2 x3 x4 x8 x9 x10 x11 x12 x13 x14 x15 z0 z x7 kc ks := fun z hz =>
    br_t hz (br_c (fun a => jp_207 hp (g0 a) b0 b1 c0 c1 d0 d1 e0 e1) (fun a => br_c (fun b => jp_207 hp (g1 a b) b0 b1 c0 c1 d0 d1 e0 e1) (fun b => jp_207 hp (g2 a b) b0 b1 c0 c1 d0 d1 e0 e1)))
  exact br_c (fun a => R _ (f0 a)) (fun a => R _ (f1 a))
/-- the law's checks, behind all calls: the flags pixel, put, block, place are met one by one -/
theorem jp_checks {post : Int32 → St0 → Prop} {mc ms kc ks : Nat} {x y g q r b o1 o2 o3 o4 o5 o6 : Int32} (hp : post 1 ())
    (f0 : ¬ ((vp_in x 16 ∧ vp_in y 16) ∧ vp_in g 256) → o1 = -1000000) (f1 : (vp_in x 16 ∧ vp_in y 16) ∧ vp_in g 256 → o1 = 128)
    (g0 : ¬ (vp_in x 16 ∧ vp_in y 16) → o2 = -1000000) (g1 : vp_in x 16 ∧ vp_in y 16 → ¬ vp_in g 256 → o2 = 128) (g2 : vp_in x 16 ∧ vp_in y 16 → vp_in g 256 → o2 = g)
    (b0 : (q < 1 ∨ 8 < q) → o3 = -1000000) (b1 : ¬ q < 1 → ¬ 8 < q → o3 = 1) (c0 : (r < 1 ∨ 4 < r) → o4 = -1000000) (c1 : ¬ r < 1 → ¬ 4 < r → o4 = 4)
    (d0 : ¬ vp_in b 4 → o5 = -1000000) (d1 : vp_in b 4 → o5 = 0) (e0 : ¬ (vp_in b 4 ∧ vp_in x 8 ∧ vp_in y 8) → o6 = -1000000) (e1 : vp_in b 4 → vp_in x 8 → vp_in y 8 → o6 = 0) :
    ((x < 0 → (wL_lawOf_89 post mc ms x y g q r b o1 o2 o3 o4 o5 o6 kc ks)) ∧ (¬ x < 0 → (((15 < x → (wL_lawOf_89 post mc ms x y g q r b o1 o2 o3 o4 o5 o6 kc ks)) ∧ (¬ 15 < x → (((y < 0 → (wL_lawOf_89 post mc ms x y g q r b o1 o2 o3 o4 o5 o6 kc ks)) ∧ (¬ y < 0 → (((15 < y → (wL_lawOf_89 post mc ms x y g q r b o1 o2 o3 o4 o5 o6 kc ks)) ∧ (¬ 15 < y → (wL_lawOf_90 post mc ms x y g q r b o1 o2 o3 o4 o5 o6 1 kc ks)))))))))))) := by
  have N : ¬ (1 : Int32) = 0 := by decide
  have S131 : ∀ x13 x14 x15 : Int32, (x14 = 0 → o1 = -1000000) → (¬ x14 = 0 → o1 = 128) → (x13 = 0 → o2 = -1000000) → (¬ x13 = 0 → x14 = 0 → o2 = 128) → (¬ x13 = 0 → ¬ x14 = 0 → o2 = g) → (x15 = 0 ∧ ¬ vp_in b 4 ∨ x15 = 1 ∧ vp_in b 4) → wL_lawOf_131 post mc ms x y g q r o1 o2 o3 o4 o5 o6 x13 x14 x15 kc ks := by
    intro x13 x14 x15 F0 F1 G0 G1 G2 hb
    have D0 : x15 = 0 → o5 = -1000000 := fun z => hb.elim (fun t => d0 t.2) (fun t => absurd (t.1.symm.trans z) N)
    have D1 : ¬ x15 = 0 → o5 = 0 := fun z => hb.elim (fun t => absurd t.1 z) (fun t => d1 t.2)
    have no : ¬ (vp_in b 4 ∧ vp_in x 8 ∧ vp_in y 8) → wL_lawOf_162 post mc ms g q r o1 o2 o3 o4 o5 o6 x13 x14 x15 kc ks := fun z =>
      jp_163 hp F0 F1 G0 G1 G2 b0 b1 c0 c1 D0 D1 (fun _ => e0 z) (fun t => absurd rfl t)
    refine br_c (fun z => no (fun t => hb.elim (fun s => s.2 t.1) (fun s => absurd (s.1.symm.trans z) N))) (fun z => ?_)
    have hb' : vp_in b 4 := hb.elim (fun t => absurd t.1 z) (fun t => t.2)
    refine jp_rng 8 (by decide) (fun t => no (fun s => t s.2.1)) (fun hx => ?_)
    exact jp_rng 8 (by decide) (fun t => no (fun s => t s.2.2)) (fun hy => jp_163 hp F0 F1 G0 G1 G2 b0 b1 c0 c1 D0 D1 (fun t => absurd t N) (fun _ => e1 hb' hx hy))
  have S113 : ∀ x13 x14 : Int32, (x14 = 0 → o1 = -1000000) → (¬ x14 = 0 → o1 = 128) → (x13 = 0 → o2 = -1000000) → (¬ x13 = 0 → x14 = 0 → o2 = 128) → (¬ x13 = 0 → ¬ x14 = 0 → o2 = g) → wL_lawOf_113 post mc ms x y g q r b o1 o2 o3 o4 o5 o6 x13 x14 kc ks := fun x13 x14 F0 F1 G0 G1 G2 =>
    jp_rng 4 (by decide) (fun t => S131 x13 x14 0 F0 F1 G0 G1 G2 (Or.inl ⟨rfl, t⟩)) (fun t => S131 x13 x14 1 F0 F1 G0 G1 G2 (Or.inr ⟨rfl, t⟩))
  have no : ¬ (vp_in x 16 ∧ vp_in y 16) → wL_lawOf_89 post mc ms x y g q r b o1 o2 o3 o4 o5 o6 kc ks := fun z =>
    br_t rfl (S113 0 0 (fun _ => f0 (fun t => z t.1)) (fun t => absurd rfl t) (fun _ => g0 z) (fun t => absurd rfl t) (fun t => absurd rfl t))
  refine jp_rng 16 (by decide) (fun t => no (fun s => t s.1)) (fun hx => ?_)
  refine jp_rng 16 (by decide) (fun t => no (fun s => t s.2)) (fun hy => ?_)
  have bad : ¬ vp_in g 256 → wL_lawOf_112 post mc ms x y g q r b o1 o2 o3 o4 o5 o6 1 kc ks := fun z =>
    S113 1 0 (fun _ => f0 (fun t => z t.2)) (fun t => absurd rfl t) (fun t => absurd t N) (fun _ _ => g1 ⟨hx, hy⟩ z) (fun _ t => absurd rfl t)
  exact br_f N (jp_rng 256 (by decide) bad (fun hg => S113 1 1 (fun t => absurd t N) (fun _ => f1 ⟨⟨hx, hy⟩, hg⟩) (fun t => absurd t N) (fun _ t => absurd t N) (fun _ _ => g2 ⟨hx, hy⟩ hg)))
theorem jp_law {post : Int32 → St0 → Prop} {x y g q r b : Int32} (hp : post 1 ()) : wpL_lawOf post 18 4967 () x y g q r b := by
  refine ⟨by decide, by decide, 17, 4939, by decide, by decide, jp_init (fun u hu => ?_)⟩
  obtain ⟨nq, ni, qu, iv, len, cnt, pr, bb, bc, ra, dc, a1, a2, a3, a4, a5, a6, a7, a8, a9, a10, a11, a12, a13, a14, a15, a16, a17⟩ := u
  refine jp_put hu (fun o1 u hu => ?_)
  obtain ⟨nq, ni, qu, iv, len, cnt, pr, bb, bc, ra, dc, a1, a2, a3, a4, a5, a6, a7, a8, a9, a10, a11, a12, a13, a14, a15, a16, a17⟩ := u
  obtain ⟨hK, h1, h2, h3, h4⟩ := hu
  subst h1 h2
  refine jp_pixel (fun o2 p0 p1 => ?_)
  refine jp_quality (fun o3 n b0 b1 => ?_)
  refine jp_interval (fun o4 n c0 c1 => ?_)
  refine jp_lose hK (fun o5 u hu d0 d1 => ?_)
  obtain ⟨nq, ni, qu, iv, len, cnt, pr, bb, bc, ra, dc, a1, a2, a3, a4, a5, a6, a7, a8, a9, a10, a11, a12, a13, a14, a15, a16, a17⟩ := u
  refine jp_level hu (fun o6 u e0 e1 => ?_)
  obtain ⟨nq, ni, qu, iv, len, cnt, pr, bb, bc, ra, dc, a1, a2, a3, a4, a5, a6, a7, a8, a9, a10, a11, a12, a13, a14, a15, a16, a17⟩ := u
  exact jp_checks hp (fun t => (h4 t).1) (fun t => (h3 t).1) p0 (fun t z => (p1 t).trans ((h4 (fun s => z s.2)).2 t)) (fun t z => (p1 t).trans (h3 ⟨t, z⟩).2) b0 b1 c0 c1 d0 d1 e0 e1
theorem jp_cell {post : Int32 → Prop} {L : Nat} {xs : Nat → Int32} {u : St0} {p : Int32} (k : Nat) (hk : k < 2 ^ 31) (hL : L ≤ 6) (H : ∀ r, post r) (hp : p = nI k := by rfl) : wpL_cellAt post L xs u p :=
  pk_le L k (fun _ => H _) (fun h => ⟨pk_in k L h hp, H _⟩) rfl hp
theorem i_vc (xs : Nat → Int32) (L : Nat) (hL : L ≤ 6) : wpL_law (fun r => r = 1) L xs :=
  jp_cell 0 (by decide) hL (fun _ => jp_cell 1 (by decide) hL (fun _ => jp_cell 2 (by decide) hL (fun _ => jp_cell 3 (by decide) hL (fun _ => jp_cell 4 (by decide) hL (fun _ => jp_cell 5 (by decide) hL (fun _ =>
    ⟨18, 4967, by decide, by decide, jp_law rfl⟩))))))
end
