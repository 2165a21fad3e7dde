section
/-! the picture of a meter: kind rate burst span granted denied tokens filled due head size running, the ring's times, the ring's costs -/
abbrev rl_V : Type := Int32 × Int32 × Int32 × Int32 × Int32 × Int32 × Int32 × Int32 × Int32 × Int32 × Int32 × Int32 × (Nat → Int32) × (Nat → Int32)
def rl_vw (u : St1) (q : Nat) : rl_V := match u with
  | (_, a1, a2, a3, a4, a5, a6, a7, a8, a9, a10, a11, a12, a13, a14) => (a1 q, a2 q, a3 q, a4 q, a5 q, a6 q, a7 q, a8 q, a9 q, a10 q, a11 q, a12 q, fun j => a13 (q * 32 + j % 32), fun j => a14 (q * 32 + j % 32))
def rl_set (V : Nat → rl_V) (p : Nat) (x : rl_V) : Nat → rl_V := fun q => if q = p then x else V q
def rl_hd (v : rl_V) : Prop := match v with
  | (_, _, _, _, _, _, _, _, _, h, _, _, _, _) => ∃ hN : Nat, hN < 32 ∧ h = nI hN
def rl_pop (now s : Int32) (G C : Nat → Int32) : Nat → Int32 → Int32 → Int32 → Int32 × Int32 × Int32
  | 0, h, z, n => (h, z, n)
  | i + 1, h, z, n => if z ≤ 0 then (h, z, n) else if now - s < G h.toNatClampNeg then (h, z, n) else rl_pop now s G C i ((h + 1) &&& 31) (z - 1) (n - C h.toNatClampNeg)
def rl_catch (now : Int32) (v : rl_V) : rl_V := match v with
  | (k, r, b, s, g, d, t, f, u, h, z, n, G, C) => (k, r, b, s, g, d, (if b ≤ t + r * (now - f) then b else t + r * (now - f)), now, u, (rl_pop now s G C 32 h z n).1, (rl_pop now s G C 32 h z n).2.1, (rl_pop now s G C 32 h z n).2.2, G, C)
def rl_base (now u : Int32) : Int32 := if u ≤ now then now else u
def rl_room (now : Int32) (v : rl_V) : Int32 := match v with
  | (k, r, b, s, g, d, t, f, u, h, z, n, G, C) => if k = 0 then t else if k = 1 then b - n else if 0 ≤ b * s - (rl_base now u - now) then (if s ≤ 0 then (b * s - (rl_base now u - now)) / 1 else (b * s - (rl_base now u - now)) / s) else 0
def rl_grant (now c : Int32) (v : rl_V) : rl_V := match v with
  | (k, r, b, s, g, d, t, f, u, h, z, n, G, C) => if k = 0 then (k, r, b, s, g + c, d, t - c, f, u, h, z, n, G, C)
    else if k = 1 then (k, r, b, s, g + c, d, t, f, u, h, z + 1, n + c, (fun j => if j % 32 = ((h + z) &&& 31).toNatClampNeg then now else G j), (fun j => if j % 32 = ((h + z) &&& 31).toNatClampNeg then c else C j))
    else (k, r, b, s, g + c, d, t, f, rl_base now u + c * s, h, z, n, G, C)
def rl_deny (v : rl_V) : rl_V := match v with
  | (k, r, b, s, g, d, t, f, u, h, z, n, G, C) => (k, r, b, s, g, d + 1, t, f, u, h, z, n, G, C)
def rl_start (now k r b s : Int32) (v : rl_V) : rl_V := match v with
  | (_, _, _, _, _, _, _, _, _, _, _, _, G, C) => (k, r, b, s, 0, 0, b, now, -1000000, 0, 0, 0, G, C)
def rl_lw (now s h : Int32) (G C : Nat → Int32) : Nat → Nat → Int32 → Int32 → Int32
  | 0, _, _, w => w
  | j + 1, i, o, w => if o ≤ 0 then w else rl_lw now s h G C j (i + 1) (o - C ((h + nI i) &&& 31).toNatClampNeg) ((G ((h + nI i) &&& 31).toNatClampNeg + s) - now)
theorem rl_lw_s (now s h : Int32) (G C : Nat → Int32) (j i : Nat) (o w : Int32) : rl_lw now s h G C (j + 1) i o w = if o ≤ 0 then w else rl_lw now s h G C j (i + 1) (o - C ((h + nI i) &&& 31).toNatClampNeg) ((G ((h + nI i) &&& 31).toNatClampNeg + s) - now) := rfl
def rl_burst (v : rl_V) : Int32 := match v with
  | (_, _, b, _, _, _, _, _, _, _, _, _, _, _) => b
def rl_gsum (v : rl_V) : Int32 := match v with
  | (_, _, _, _, g, _, _, _, _, _, _, _, _, _) => g
def rl_dcnt (v : rl_V) : Int32 := match v with
  | (_, _, _, _, _, d, _, _, _, _, _, _, _, _) => d
/-- the answer of waitFor, the meter caught up, the cost not above its burst -/
def rl_wait (now c : Int32) (v : rl_V) : Int32 := match v with
  | (k, r, b, s, g, d, t, f, u, h, z, n, G, C) => if rl_room now (k, r, b, s, g, d, t, f, u, h, z, n, G, C) < c then (if k = 1 then rl_lw now s h G C z.toNatClampNeg 0 ((n + c) - b) 0 else if k = 0 then (if r ≤ 0 then (((c - t) + 1) - 1) / 1 else (((c - t) + r) - 1) / r) else (u + ((c - b) * s)) - now) else 0
/-- the answer of room, out of the greatest cost -/
def rl_clip (x : Int32) : Int32 := if 0 ≤ x then (if x ≤ 20 then x else 20) else 0

/-! plain facts on ints -/
theorem rl_add {a b : Int32} (h1 : -2147483648 ≤ a.toInt + b.toInt) (h2 : a.toInt + b.toInt ≤ 2147483647) : (a + b).toInt = a.toInt + b.toInt :=
  Jvm.Kit.i32_add (by omega) (by omega)
theorem rl_sub {a b : Int32} (h1 : -2147483648 ≤ a.toInt - b.toInt) (h2 : a.toInt - b.toInt ≤ 2147483647) : (a - b).toInt = a.toInt - b.toInt :=
  Jvm.Kit.i32_sub (by omega) (by omega)
theorem rl_mul {a b : Int32} (h1 : -2147483648 ≤ a.toInt * b.toInt) (h2 : a.toInt * b.toInt ≤ 2147483647) : (a * b).toInt = a.toInt * b.toInt :=
  Jvm.Kit.i32_mul (by omega) (by omega)
theorem rl_nat {x : Int32} (h : 0 ≤ x.toInt) : ∃ j : Nat, j < 2 ^ 31 ∧ x = nI j ∧ (j : Int) = x.toInt := by
  obtain ⟨j, hj, e⟩ := nI_of (x := x) (by rw [Int32.lt_iff_toInt_lt]; show ¬ x.toInt < 0; omega)
  exact ⟨j, hj, e, by rw [e, nI_toInt hj]⟩
theorem rl_clle {z : Int32} {i : Nat} (hi : i < 2 ^ 31) : z ≤ nI i ↔ z.toNatClampNeg ≤ i := by
  rw [Int32.le_iff_toInt_le, nI_toInt hi]
  show z.toInt ≤ (i : Int) ↔ z.toInt.toNat ≤ i
  omega
theorem rl_uu (f : Nat → Int32) (k : Nat) (x y : Int32) : upd (upd f k x) k y = upd f k y := by
  funext j
  by_cases h : j = k
  · simp [upd, h]
  · simp [upd, h]
theorem rl_ui (f : Nat → Int32) (k : Nat) : upd f k (f k) = f := by
  funext j
  by_cases h : j = k
  · simp [upd, h]
  · simp [upd, h]
theorem rl_ss (V : Nat → rl_V) (p : Nat) (x : rl_V) : rl_set V p x p = x := if_pos rfl
theorem rl_sn (V : Nat → rl_V) {p q : Nat} (h : q ≠ p) (x : rl_V) : rl_set V p x q = V q := if_neg h

/-! pop, step by step -/
theorem rl_pop_z {now s : Int32} {G C : Nat → Int32} {h z n : Int32} (hz : z ≤ 0) (i : Nat) : rl_pop now s G C i h z n = (h, z, n) := by
  cases i with
  | zero => rfl
  | succ i => exact if_pos hz
theorem rl_pop_g {now s : Int32} {G C : Nat → Int32} {h z n : Int32} (hz : ¬ z ≤ 0) (hg : now - s < G h.toNatClampNeg) (i : Nat) : rl_pop now s G C (i + 1) h z n = (h, z, n) :=
  (if_neg hz).trans (if_pos hg)
theorem rl_pop_s {now s : Int32} {G C : Nat → Int32} {h z n : Int32} (hz : ¬ z ≤ 0) (hg : ¬ now - s < G h.toNatClampNeg) (i : Nat) : rl_pop now s G C (i + 1) h z n = rl_pop now s G C i ((h + 1) &&& 31) (z - 1) (n - C h.toNatClampNeg) :=
  (if_neg hz).trans (if_neg hg)
theorem rl_h1 {hN : Nat} (h : hN < 32) : (nI hN + 1) &&& 31 = nI ((hN + 1) % 32) := by
  rw [nI_1, pk_andN (by omega) 5 (by decide)]
theorem rl_hj (a b : Nat) (h : a + b < 2 ^ 31) : (nI a + nI b) &&& 31 = nI ((a + b) % 32) := by
  rw [nI_add, pk_andN (by omega) 5 (by decide)]
end
section
/-! the relation between a meter of c and the mirrored meter of d -/
def rl_ok (L now : Int32) (B : Int) : Prop := 0 ≤ L.toInt ∧ L.toInt ≤ 1000 ∧ 0 ≤ now.toInt ∧ now.toInt ≤ B ∧ B ≤ 90000
def rl_sl (L : Int32) (B : Int) (g c g' c' : Int32) : Prop := g' = g + L ∧ c' = c ∧ 0 ≤ g.toInt ∧ g.toInt ≤ B
def rl_RR (L : Int32) (B : Int) (h z : Int32) (G C G' C' : Nat → Int32) : Prop :=
  ∃ hN zN : Nat, hN < 32 ∧ h = nI hN ∧ (zN : Int) ≤ B ∧ z = nI zN ∧ ∀ j, j < zN → rl_sl L B (G ((hN + j) % 32)) (C ((hN + j) % 32)) (G' ((hN + j) % 32)) (C' ((hN + j) % 32))
def rl_DU (L now : Int32) (B : Int) (u u' : Int32) : Prop := (u' = u + L ∧ 0 ≤ u.toInt ∧ u.toInt ≤ B) ∨ (u.toInt ≤ now.toInt ∧ u'.toInt ≤ now.toInt + L.toInt)
def rl_FI (e : Bool) (L now t b f f' : Int32) : Prop := f' = f + L ∨ (e = false ∧ t = b ∧ 0 ≤ f.toInt ∧ f.toInt ≤ now.toInt ∧ 0 ≤ f'.toInt ∧ f'.toInt ≤ now.toInt + L.toInt)
def rl_BD (r b s : Int32) : Prop := (1 ≤ r.toInt ∧ r.toInt ≤ 5) ∧ (1 ≤ b.toInt ∧ b.toInt ≤ 30) ∧ (1 ≤ s.toInt ∧ s.toInt ≤ 10)
def rl_MR (e : Bool) (L now : Int32) (B : Int) (v w : rl_V) : Prop := ∃ (k r b s g d t f f' u u' h z n : Int32) (G C G' C' : Nat → Int32),
  v = (k, r, b, s, g, d, t, f, u, h, z, n, G, C) ∧ w = (k, r, b, s, g, d, t, f', u', h, z, n, G', C') ∧
  rl_BD r b s ∧ rl_FI e L now t b f f' ∧ rl_DU L now B u u' ∧ rl_RR L B h z G C G' C'

theorem rl_nowL {L now : Int32} {B : Int} (ok : rl_ok L now B) : (now + L).toInt = now.toInt + L.toInt := by
  obtain ⟨h1, h2, h3, h4, h5⟩ := ok
  exact rl_add (by omega) (by omega)
theorem rl_popE {L now s : Int32} {B : Int} {G C G' C' : Nat → Int32} (ok : rl_ok L now B) (hs : 1 ≤ s.toInt ∧ s.toInt ≤ 10) : ∀ (i : Nat) (h z n : Int32), rl_RR L B h z G C G' C' →
    rl_pop (now + L) s G' C' i h z n = rl_pop now s G C i h z n ∧ rl_RR L B (rl_pop now s G C i h z n).1 (rl_pop now s G C i h z n).2.1 G C G' C' := by
  intro i
  induction i with
  | zero => intro h z n hR; exact ⟨rfl, hR⟩
  | succ i ih =>
    intro h z n hR
    by_cases hz : z ≤ 0
    · rw [rl_pop_z hz, rl_pop_z hz]
      exact ⟨rfl, hR⟩
    · have hR0 := hR
      obtain ⟨hN, zN, hh, eh, hB, ez, hj⟩ := hR
      obtain ⟨o1, o2, o3, o4, o5⟩ := ok
      have hz1 : 0 < zN := by
        rcases Nat.eq_zero_or_pos zN with e | e
        · exact absurd (by rw [ez, e]; decide) hz
        · exact e
      have hc : h.toNatClampNeg = hN := by rw [eh]; exact nI_clamp (by omega)
      obtain ⟨s1, s2, s3, s4⟩ := hj 0 hz1
      rw [show (hN + 0) % 32 = hN by omega] at s1 s2 s3 s4
      have hiff : (now + L) - s < G' h.toNatClampNeg ↔ now - s < G h.toNatClampNeg := by
        rw [hc, s1, Int32.lt_iff_toInt_lt, Int32.lt_iff_toInt_lt]
        have e1 : (now + L).toInt = now.toInt + L.toInt := rl_add (by omega) (by omega)
        have e2 : ((now + L) - s).toInt = (now + L).toInt - s.toInt := rl_sub (by omega) (by omega)
        have e3 : (now - s).toInt = now.toInt - s.toInt := rl_sub (by omega) (by omega)
        have e4 : (G hN + L).toInt = (G hN).toInt + L.toInt := rl_add (by omega) (by omega)
        omega
      by_cases hg : now - s < G h.toNatClampNeg
      · rw [rl_pop_g hz hg, rl_pop_g hz (hiff.mpr hg)]
        exact ⟨rfl, hR0⟩
      · rw [rl_pop_s hz hg, rl_pop_s hz (fun y => hg (hiff.mp y)), hc, s2]
        refine ih _ _ _ ⟨(hN + 1) % 32, zN - 1, Nat.mod_lt _ (by decide), by rw [eh, rl_h1 hh], by omega, ?_, fun j hj' => ?_⟩
        · rw [ez, show zN = (zN - 1) + 1 by omega, nI_pred]
          rfl
        · have := hj (j + 1) (by omega)
          rw [show (hN + (j + 1)) % 32 = ((hN + 1) % 32 + j) % 32 by omega] at this
          exact this
theorem rl_baseE {L now u u' : Int32} {B : Int} (ok : rl_ok L now B) (h : rl_DU L now B u u') : rl_base (now + L) u' = rl_base now u + L ∧ 0 ≤ (rl_base now u).toInt ∧ (rl_base now u).toInt ≤ B := by
  have e1 := rl_nowL ok
  obtain ⟨o1, o2, o3, o4, o5⟩ := ok
  unfold rl_base
  rcases h with ⟨rfl, h1, h2⟩ | ⟨h1, h2⟩
  · have e2 : (u + L).toInt = u.toInt + L.toInt := rl_add (by omega) (by omega)
    by_cases hc : u ≤ now
    · rw [if_pos hc, if_pos (by rw [Int32.le_iff_toInt_le] at hc ⊢; omega)]
      exact ⟨rfl, o3, o4⟩
    · rw [if_neg hc, if_neg (by rw [Int32.le_iff_toInt_le] at hc ⊢; omega)]
      exact ⟨rfl, h1, h2⟩
  · rw [if_pos (Int32.le_iff_toInt_le.mpr h1), if_pos (show u' ≤ now + L by rw [Int32.le_iff_toInt_le]; omega)]
    exact ⟨rfl, o3, o4⟩
/-- a full bucket stays full -/
theorem rl_full {now r b f : Int32} (hb : 1 ≤ b.toInt ∧ b.toInt ≤ 30) (hr : 1 ≤ r.toInt ∧ r.toInt ≤ 5) (hf : 0 ≤ f.toInt) (hn : f.toInt ≤ now.toInt) (hN : now.toInt ≤ 100000) : b ≤ b + r * (now - f) := by
  have e1 : (now - f).toInt = now.toInt - f.toInt := rl_sub (by omega) (by omega)
  have p0 : 0 ≤ r.toInt * (now - f).toInt := Int.mul_nonneg (by omega) (by omega)
  have p1 : r.toInt * (now - f).toInt ≤ 5 * 100000 := Int.mul_le_mul (by omega) (by omega) (by omega) (by omega)
  have e2 : (r * (now - f)).toInt = r.toInt * (now - f).toInt := rl_mul (by omega) (by omega)
  have e3 : (b + r * (now - f)).toInt = b.toInt + (r * (now - f)).toInt := rl_add (by omega) (by omega)
  rw [Int32.le_iff_toInt_le]
  omega
theorem rl_shift (now f L : Int32) : (now + L) - (f + L) = now - f := by grind
theorem rl_MRcatch {e : Bool} {L now : Int32} {B : Int} {v w : rl_V} (ok : rl_ok L now B) (h : rl_MR e L now B v w) : rl_MR true L now B (rl_catch now v) (rl_catch (now + L) w) := by
  obtain ⟨k, r, b, s, g, d, t, f, f', u, u', hd, z, n, G, C, G', C', rfl, rfl, hbd, hf, hu, hR⟩ := h
  obtain ⟨p1, p2⟩ := rl_popE ok hbd.2.2 32 hd z n hR
  have hT : (if b ≤ t + r * ((now + L) - f') then b else t + r * ((now + L) - f')) = (if b ≤ t + r * (now - f) then b else t + r * (now - f)) := by
    rcases hf with rfl | ⟨_, rfl, h1, h2, h3, h4⟩
    · rw [rl_shift]
    · have e1 := rl_nowL ok
      obtain ⟨o1, o2, o3, o4, o5⟩ := ok
      rw [if_pos (rl_full hbd.2.1 hbd.1 h3 (by omega) (by omega)), if_pos (rl_full hbd.2.1 hbd.1 h1 (by omega) (by omega))]
  refine ⟨k, r, b, s, g, d, (if b ≤ t + r * (now - f) then b else t + r * (now - f)), now, now + L, u, u', (rl_pop now s G C 32 hd z n).1, (rl_pop now s G C 32 hd z n).2.1, (rl_pop now s G C 32 hd z n).2.2, G, C, G', C', rfl, ?_, hbd, Or.inl rfl, hu, p2⟩
  unfold rl_catch
  dsimp only
  rw [hT, p1]
theorem rl_ahead (x now L : Int32) : (x + L) - (now + L) = x - now := by grind
theorem rl_MRroom {e : Bool} {L now : Int32} {B : Int} {v w : rl_V} (ok : rl_ok L now B) (h : rl_MR e L now B v w) : rl_room (now + L) w = rl_room now v := by
  obtain ⟨k, r, b, s, g, d, t, f, f', u, u', hd, z, n, G, C, G', C', rfl, rfl, hbd, hf, hu, hR⟩ := h
  unfold rl_room
  dsimp only
  rw [(rl_baseE ok hu).1, rl_ahead]
theorem rl_MRhd {e : Bool} {L now : Int32} {B : Int} {v w : rl_V} (h : rl_MR e L now B v w) : rl_hd v ∧ rl_hd w := by
  obtain ⟨k, r, b, s, g, d, t, f, f', u, u', hd, z, n, G, C, G', C', rfl, rfl, hbd, hf, hu, ⟨hN, zN, h1, h2, _⟩⟩ := h
  exact ⟨⟨hN, h1, h2⟩, ⟨hN, h1, h2⟩⟩
theorem rl_MRg {e : Bool} {L now : Int32} {B : Int} {v w : rl_V} (h : rl_MR e L now B v w) : rl_burst w = rl_burst v ∧ rl_gsum w = rl_gsum v ∧ rl_dcnt w = rl_dcnt v := by
  obtain ⟨k, r, b, s, g, d, t, f, f', u, u', hd, z, n, G, C, G', C', rfl, rfl, _⟩ := h
  exact ⟨rfl, rfl, rfl⟩
theorem rl_MRdeny {e : Bool} {L now : Int32} {B : Int} {v w : rl_V} (h : rl_MR e L now B v w) : rl_MR e L now B (rl_deny v) (rl_deny w) := by
  obtain ⟨k, r, b, s, g, d, t, f, f', u, u', hd, z, n, G, C, G', C', rfl, rfl, h⟩ := h
  exact ⟨k, r, b, s, g, d + 1, t, f, f', u, u', hd, z, n, G, C, G', C', rfl, rfl, h⟩
theorem rl_MRmono {e : Bool} {L now now' : Int32} {B B' : Int} {v w : rl_V} (hn : now.toInt ≤ now'.toInt) (hB : B ≤ B') (h : rl_MR e L now B v w) : rl_MR false L now' B' v w := by
  obtain ⟨k, r, b, s, g, d, t, f, f', u, u', hd, z, n, G, C, G', C', rfl, rfl, hbd, hf, hu, ⟨hN, zN, h1, h2, h3, h4, h5⟩⟩ := h
  refine ⟨k, r, b, s, g, d, t, f, f', u, u', hd, z, n, G, C, G', C', rfl, rfl, hbd, ?_, ?_, ⟨hN, zN, h1, h2, by omega, h4, fun j hj => ?_⟩⟩
  · rcases hf with y | ⟨_, y0, y1, y2, y3, y4⟩
    · exact Or.inl y
    · exact Or.inr ⟨rfl, y0, y1, by omega, y3, by omega⟩
  · rcases hu with ⟨y0, y1, y2⟩ | ⟨y1, y2⟩
    · exact Or.inl ⟨y0, y1, by omega⟩
    · exact Or.inr ⟨by omega, by omega⟩
  · obtain ⟨y1, y2, y3, y4⟩ := h5 j hj
    exact ⟨y1, y2, y3, by omega⟩
theorem rl_MRstart {L now : Int32} {B : Int} {k r b s : Int32} (ok : rl_ok L now B) (hb : rl_BD r b s) (v w : rl_V) : rl_MR true L now B (rl_start now k r b s v) (rl_start (now + L) k r b s w) := by
  obtain ⟨_, _, _, _, _, _, _, _, _, _, _, _, G, C⟩ := v
  obtain ⟨_, _, _, _, _, _, _, _, _, _, _, _, G', C'⟩ := w
  obtain ⟨o1, o2, o3, o4, o5⟩ := ok
  refine ⟨k, r, b, s, 0, 0, b, now, now + L, -1000000, -1000000, 0, 0, 0, G, C, G', C', rfl, rfl, hb, Or.inl rfl, Or.inr ⟨?_, ?_⟩, ⟨0, 0, by decide, rfl, by omega, rfl, fun j hj => absurd hj (by omega)⟩⟩
  · have : (-1000000 : Int32).toInt = -1000000 := by decide
    omega
  · have : (-1000000 : Int32).toInt = -1000000 := by decide
    omega
/-- the very first meters: d's were filled at 0 too -/
theorem rl_MRfirst {L : Int32} (h0 : 0 ≤ L.toInt) {B : Int} (hB : 0 ≤ B) {k r b s : Int32} (hb : rl_BD r b s) (v w : rl_V) : rl_MR false L 0 B (rl_start 0 k r b s v) (rl_start 0 k r b s w) := by
  obtain ⟨_, _, _, _, _, _, _, _, _, _, _, _, G, C⟩ := v
  obtain ⟨_, _, _, _, _, _, _, _, _, _, _, _, G', C'⟩ := w
  have z0 : (0 : Int32).toInt = 0 := by decide
  have z1 : (-1000000 : Int32).toInt = -1000000 := by decide
  exact ⟨k, r, b, s, 0, 0, b, 0, 0, -1000000, -1000000, 0, 0, 0, G, C, G', C', rfl, rfl, hb, Or.inr ⟨rfl, rfl, by omega, by omega, by omega, by omega⟩, Or.inr ⟨by omega, by omega⟩, ⟨0, 0, by decide, rfl, by omega, rfl, fun j hj => absurd hj (by omega)⟩⟩
theorem rl_MRgrant {L now : Int32} {B : Int} {v w : rl_V} {c : Int32} (ok : rl_ok L now B) (hc : 1 ≤ c.toInt ∧ c.toInt ≤ 20) (h : rl_MR true L now B v w) : rl_MR true L now (B + 300) (rl_grant now c v) (rl_grant (now + L) c w) := by
  obtain ⟨k, r, b, s, g, d, t, f, f', u, u', hd, z, n, G, C, G', C', rfl, rfl, hbd, hf, hu, hR⟩ := h
  have hu2 : rl_DU L now (B + 300) u u' := by
    rcases hu with ⟨y0, y1, y2⟩ | y
    · exact Or.inl ⟨y0, y1, by omega⟩
    · exact Or.inr y
  have hf2 : f' = f + L := by
    rcases hf with y | y
    · exact y
    · exact absurd y.1 (by decide)
  have hR2 : rl_RR L (B + 300) hd z G C G' C' := by
    obtain ⟨hN, zN, h1, h2, h3, h4, h5⟩ := hR
    refine ⟨hN, zN, h1, h2, by omega, h4, fun j hj => ?_⟩
    obtain ⟨y1, y2, y3, y4⟩ := h5 j hj
    exact ⟨y1, y2, y3, by omega⟩
  obtain ⟨b1, b2, b3⟩ := rl_baseE ok hu
  unfold rl_grant
  dsimp only
  by_cases k0 : k = 0
  · rw [if_pos k0, if_pos k0]
    exact ⟨k, r, b, s, g + c, d, t - c, f, f', u, u', hd, z, n, G, C, G', C', rfl, rfl, hbd, Or.inl hf2, hu2, hR2⟩
  · rw [if_neg k0, if_neg k0]
    by_cases k1 : k = 1
    · rw [if_pos k1, if_pos k1]
      obtain ⟨o1, o2, o3, o4, o5⟩ := ok
      refine ⟨k, r, b, s, g + c, d, t, f, f', u, u', hd, z + 1, n + c, _, _, _, _, rfl, rfl, hbd, Or.inl hf2, hu2, ?_⟩
      obtain ⟨hN, zN, h1, h2, h3, h4, h5⟩ := hR
      have hs : ((hd + z) &&& 31).toNatClampNeg = (hN + zN) % 32 := by
        rw [h2, h4, rl_hj _ _ (by omega)]
        exact nI_clamp (by omega)
      refine ⟨hN, zN + 1, h1, h2, by omega, by rw [h4, nI_1], fun j hj => ?_⟩
      rw [hs]
      by_cases e : (hN + j) % 32 % 32 = (hN + zN) % 32
      · dsimp only
        rw [if_pos e, if_pos e, if_pos e, if_pos e]
        exact ⟨rfl, rfl, o3, by omega⟩
      · have hj2 : j < zN := by
          rcases Nat.lt_or_ge j zN with y | y
          · exact y
          · have : j = zN := by omega
            exact absurd (by rw [this]; omega) e
        dsimp only
        rw [if_neg e, if_neg e, if_neg e, if_neg e]
        obtain ⟨y1, y2, y3, y4⟩ := h5 j hj2
        exact ⟨y1, y2, y3, by omega⟩
    · rw [if_neg k1, if_neg k1]
      have q0 : 0 ≤ c.toInt * s.toInt := Int.mul_nonneg (by omega) (by have := hbd.2.2; omega)
      have q1 : c.toInt * s.toInt ≤ 20 * 10 := Int.mul_le_mul (by omega) (by have := hbd.2.2; omega) (by have := hbd.2.2; omega) (by omega)
      have e2 : (c * s).toInt = c.toInt * s.toInt := rl_mul (by omega) (by omega)
      obtain ⟨o1, o2, o3, o4, o5⟩ := ok
      have e3 : (rl_base now u + c * s).toInt = (rl_base now u).toInt + c.toInt * s.toInt := by
        have e4 : (rl_base now u + c * s).toInt = (rl_base now u).toInt + (c * s).toInt := rl_add (by omega) (by omega)
        omega
      refine ⟨k, r, b, s, g + c, d, t, f, f', rl_base now u + c * s, rl_base (now + L) u' + c * s, hd, z, n, G, C, G', C', rfl, rfl, hbd, Or.inl hf2, Or.inl ⟨?_, by omega, by omega⟩, hR2⟩
      rw [b1]
      generalize rl_base now u = x
      generalize c * s = y
      grind
theorem rl_lwE {L now s h : Int32} {B : Int} {hN zN : Nat} {G C G' C' : Nat → Int32} (hb : hN < 32) (eh : h = nI hN) (hz : zN < 2 ^ 30)
    (hj : ∀ j, j < zN → rl_sl L B (G ((hN + j) % 32)) (C ((hN + j) % 32)) (G' ((hN + j) % 32)) (C' ((hN + j) % 32))) :
    ∀ (j i : Nat) (o w : Int32), i + j = zN → rl_lw (now + L) s h G' C' j i o w = rl_lw now s h G C j i o w := by
  intro j
  induction j with
  | zero => intro i o w _; rfl
  | succ j ih =>
    intro i o w hij
    rw [rl_lw_s, rl_lw_s]
    by_cases ho : o ≤ 0
    · rw [if_pos ho, if_pos ho]
    · rw [if_neg ho, if_neg ho]
      have hs : ((h + nI i) &&& 31).toNatClampNeg = (hN + i) % 32 := by
        rw [eh, rl_hj _ _ (by omega)]
        exact nI_clamp (by omega)
      obtain ⟨y1, y2, y3, y4⟩ := hj i (by omega)
      rw [hs, y1, y2, ih (i + 1) _ _ (by omega)]
      congr 1
      generalize G ((hN + i) % 32) = x
      grind
theorem rl_MRwait {e : Bool} {L now : Int32} {B : Int} {v w : rl_V} {c : Int32} (ok : rl_ok L now B) (hcb : c ≤ rl_burst v) (h : rl_MR e L now B v w) : rl_wait (now + L) c w = rl_wait now c v := by
  have hroom := rl_MRroom ok h
  obtain ⟨k, r, b, s, g, d, t, f, f', u, u', hd, z, n, G, C, G', C', rfl, rfl, hbd, hf, hu, hR⟩ := h
  have hcb' : c ≤ b := hcb
  unfold rl_wait
  dsimp only
  rw [hroom]
  by_cases hr : rl_room now (k, r, b, s, g, d, t, f, u, hd, z, n, G, C) < c
  · rw [if_pos hr, if_pos hr]
    by_cases k1 : k = 1
    · rw [if_pos k1, if_pos k1]
      obtain ⟨hN, zN, h1, h2, h3, h4, h5⟩ := hR
      obtain ⟨o1, o2, o3, o4, o5⟩ := ok
      have hzc : z.toNatClampNeg = zN := by rw [h4]; exact nI_clamp (by omega)
      rw [hzc]
      exact rl_lwE h1 h2 (by omega) h5 zN 0 _ _ (by omega)
    · rw [if_neg k1, if_neg k1]
      by_cases k0 : k = 0
      · rw [if_pos k0, if_pos k0]
      · rw [if_neg k0, if_neg k0]
        rcases hu with ⟨rfl, _, _⟩ | ⟨y1, y2⟩
        · generalize (c - b) * s = x
          grind
        · exfalso
          have hba : rl_base now u = now := by
            unfold rl_base
            exact if_pos (Int32.le_iff_toInt_le.mpr y1)
          obtain ⟨bN, hb1, hb2, hb3⟩ := rl_nat (x := b) (by have := hbd.2.1; omega)
          obtain ⟨sN, hs1, hs2, hs3⟩ := rl_nat (x := s) (by have := hbd.2.2; omega)
          have hbs : bN * sN ≤ 30 * 10 := Nat.mul_le_mul (by have := hbd.2.1; omega) (by have := hbd.2.2; omega)
          have e1 : b * s - (rl_base now u - now) = nI (bN * sN) := by
            rw [hba, hb2, hs2, pk_mul]
            generalize nI (bN * sN) = x
            grind
          have hR1 : rl_room now (k, r, b, s, g, d, t, f, u, hd, z, n, G, C) = b := by
            unfold rl_room
            dsimp only
            rw [if_neg k0, if_neg k1, e1, if_pos (nI_pos' (by omega)), if_neg (by rw [hs2]; exact nI_nle (by have := hbd.2.2; omega) (by omega)), hs2, pk_div (by omega) (by have := hbd.2.2; omega) (by omega), Nat.mul_div_cancel _ (by have := hbd.2.2; omega), hb2]
          rw [hR1, Int32.lt_iff_toInt_lt] at hr
          rw [Int32.le_iff_toInt_le] at hcb'
          omega
  · rw [if_neg hr, if_neg hr]
end
section
/-! the walks: one lemma a method -/
theorem rl_cp {p : Nat} (hp : p < 4) : (nI p).toNatClampNeg = p := nI_clamp (by omega)
theorem rl_vp {p : Nat} (hp : p < 4) : vp_in (nI p) 4 := vp_in_nI hp (by decide)
theorem rl_wbad {post : Int32 → Prop} {p : Nat} (hp : p < 4) (H : post 0) : wpX_bad post () (nI p) :=
  pk_lt p 0 (fun z => absurd z (by omega)) (fun _ => pk_lt p 4 (fun _ => H) (fun z => absurd z (by omega)))
theorem rl_wbadCost {post : Int32 → Prop} {c : Nat} (h1 : 1 ≤ c) (h2 : c ≤ 20) (H : post 0) : wpX_badCost post () (nI c) :=
  pk_lt c 1 (fun z => absurd z (by omega)) (fun _ => pk_le c 20 (fun _ => H) (fun z => absurd z (by omega)))

theorem rl_c64 {post : St1 → Prop} {p : Nat} (hp : p < 4) {now : Int32} {a1 a2 a3 a4 a5 a6 a7 a8 a9 a13 a14 : Nat → Int32} :
    ∀ (j i hN : Nat) (a10 a11 a12 : Nat → Int32), i + j = 32 → hN < 32 → a10 p = nI hN →
    (∀ P : Int32 × Int32 × Int32, P = rl_pop now (a4 p) (fun j => a13 (p * 32 + j % 32)) (fun j => a14 (p * 32 + j % 32)) j (a10 p) (a11 p) (a12 p) →
      post (now, a1, a2, a3, a4, a5, a6, a7, a8, a9, upd a10 p P.1, upd a11 p P.2.1, upd a12 p P.2.2, a13, a14)) →
    wX_catchUp_64 post (nI p) now (j + 1) (nI i) a1 a2 a3 a4 a5 a6 a7 a8 a9 a10 a11 a12 a13 a14 := by
  intro j
  induction j with
  | zero =>
    intro i hN a10 a11 a12 hij hN32 h10 H
    have H' := H (a10 p, a11 p, a12 p) rfl
    have H2 : post (now, a1, a2, a3, a4, a5, a6, a7, a8, a9, a10, a11, a12, a13, a14) := by
      dsimp only at H'
      rw [rl_ui, rl_ui, rl_ui] at H'
      exact H'
    exact pk_le 32 i (fun _ => H2) (fun z => absurd z (by omega))
  | succ j ih =>
    intro i hN a10 a11 a12 hij hN32 h10 H
    have hc := rl_cp hp
    have hv := rl_vp hp
    have hs : nI p * 32 + a10 p = nI (p * 32 + hN) := by
      rw [h10, show (32 : Int32) = nI 32 from rfl, pk_mul, nI_add]
    have hcs : (nI p * 32 + a10 p).toNatClampNeg = p * 32 + hN := by rw [hs]; exact nI_clamp (by omega)
    have hvs : vp_in (nI p * 32 + a10 p) 128 := by rw [hs]; exact vp_in_nI (by omega) (by decide)
    have hh : (a10 p).toNatClampNeg = hN := by rw [h10]; exact nI_clamp (by omega)
    have hm : hN % 32 = hN := Nat.mod_eq_of_lt hN32
    unfold wX_catchUp_64
    rw [hc, hcs]
    refine pk_le 32 i (fun z => absurd z (by omega)) (fun _ => ⟨hv, ?_⟩)
    by_cases hz : a11 p ≤ 0
    · have H' := H _ (rl_pop_z hz _).symm
      dsimp only at H'
      rw [rl_ui, rl_ui, rl_ui] at H'
      exact br_t hz H'
    · refine br_f hz ⟨hv, hvs, hv, ?_⟩
      by_cases hg : now - a4 p < a13 (p * 32 + hN)
      · have H' := H _ (rl_pop_g hz (by rw [hh, hm]; exact hg) _).symm
        dsimp only at H'
        rw [rl_ui, rl_ui, rl_ui] at H'
        exact br_t hg H'
      · refine br_f hg ⟨hv, hv, hvs, hv, nm_e ⟨hv, hv, nm_e ⟨hv, hv, nm_e (nm_r (nI_1 i) ?_)⟩⟩⟩
        refine ih (i + 1) ((hN + 1) % 32) _ _ _ (by omega) (Nat.mod_lt _ (by decide)) (by rw [pk_us, h10, rl_h1 hN32]) (fun P eP => ?_)
        rw [rl_uu, rl_uu, rl_uu]
        rw [pk_us, pk_us, pk_us] at eP
        refine H P ?_
        rw [eP, rl_pop_s hz (by rw [hh, hm]; exact hg), hh, hm]

theorem rl_wcatchUp {post : St1 → Prop} {u : St1} {p : Nat} (hp : p < 4) (hh : rl_hd (rl_vw u p))
    (H : ∀ u' : St1, u'.1 = u.1 → rl_vw u' = rl_set (rl_vw u) p (rl_catch u.1 (rl_vw u p)) → post u') : wpX_catchUp post u (nI p) := by
  obtain ⟨now, a1, a2, a3, a4, a5, a6, a7, a8, a9, a10, a11, a12, a13, a14⟩ := u
  obtain ⟨hN, hN32, h10⟩ := hh
  have hc := rl_cp hp
  have hv := rl_vp hp
  have key : ∀ T : Int32, T = (if a3 p ≤ a7 p + a2 p * (now - a8 p) then a3 p else a7 p + a2 p * (now - a8 p)) → wX_catchUp_51 post (nI p) T (nI p) now a1 a2 a3 a4 a5 a6 a7 a8 a9 a10 a11 a12 a13 a14 := by
    intro T hT
    unfold wX_catchUp_51
    rw [hc]
    refine ⟨hv, nm_e ⟨hv, nm_e ⟨33, ?_⟩⟩⟩
    refine rl_c64 hp 32 0 hN a10 a11 a12 (by omega) hN32 h10 (fun P eP => ?_)
    refine H _ rfl ?_
    funext q
    by_cases hq : q = p
    · subst hq
      rw [rl_ss]
      unfold rl_vw rl_catch
      dsimp only
      rw [pk_us, pk_us, pk_us, pk_us, pk_us, hT, eP]
    · rw [rl_sn _ hq]
      unfold rl_vw
      dsimp only
      rw [pk_un hq, pk_un hq, pk_un hq, pk_un hq, pk_un hq]
  unfold wpX_catchUp
  dsimp only
  rw [hc]
  exact ⟨hv, hv, hv, nm_e ⟨hv, br_c (fun h => ⟨hv, key _ (by rw [if_pos h])⟩) (fun h => key _ (by rw [if_neg h]))⟩⟩

theorem rl_wbase {post : Int32 → Prop} {p : Nat} (hp : p < 4) {now : Int32} {a1 a2 a3 a4 a5 a6 a7 a8 a9 a10 a11 a12 a13 a14 : Nat → Int32} (H : post (rl_base now (a9 p))) : wpX_base post (now, a1, a2, a3, a4, a5, a6, a7, a8, a9, a10, a11, a12, a13, a14) (nI p) := by
  have hc := rl_cp hp
  have hv := rl_vp hp
  unfold wpX_base
  dsimp only
  rw [hc]
  unfold rl_base at H
  by_cases h : a9 p ≤ now
  · rw [if_pos h] at H
    exact ⟨hv, br_t h H⟩
  · rw [if_neg h] at H
    exact ⟨hv, br_f h ⟨hv, H⟩⟩

theorem rl_wroomOf {post : Int32 → St1 → Prop} {u : St1} {p : Nat} (hp : p < 4) (hh : rl_hd (rl_vw u p))
    (H : ∀ u' : St1, u'.1 = u.1 → rl_vw u' = rl_set (rl_vw u) p (rl_catch u.1 (rl_vw u p)) → post (rl_room u.1 (rl_catch u.1 (rl_vw u p))) u') : wpX_roomOf post u (nI p) := by
  obtain ⟨now, a1, a2, a3, a4, a5, a6, a7, a8, a9, a10, a11, a12, a13, a14⟩ := u
  have hc := rl_cp hp
  have hv := rl_vp hp
  unfold wpX_roomOf
  dsimp only
  refine rl_wcatchUp hp hh (fun u' e1 e2 => ?_)
  have H' := H u' e1 e2
  have eX : rl_catch now (rl_vw (now, a1, a2, a3, a4, a5, a6, a7, a8, a9, a10, a11, a12, a13, a14) p) = rl_vw u' p := by rw [e2, rl_ss]
  dsimp only at H'
  rw [eX] at H'
  obtain ⟨now', b1, b2, b3, b4, b5, b6, b7, b8, b9, b10, b11, b12, b13, b14⟩ := u'
  dsimp only at e1
  subst e1
  dsimp only
  rw [hc]
  refine ⟨hv, ?_⟩
  unfold rl_vw rl_room at H'
  dsimp only at H'
  by_cases k0 : b1 p = 0
  · rw [if_pos k0] at H'
    exact br_t k0 ⟨hv, H'⟩
  · rw [if_neg k0] at H'
    refine br_f k0 ⟨hv, ?_⟩
    by_cases k1 : b1 p = 1
    · rw [if_pos k1] at H'
      exact br_t k1 ⟨hv, hv, H'⟩
    · rw [if_neg k1] at H'
      refine br_f k1 (rl_wbase hp (nm_e ⟨hv, hv, nm_e ?_⟩))
      by_cases hl : 0 ≤ b3 p * b4 p - (rl_base now' (b9 p) - now')
      · rw [if_pos hl] at H'
        refine br_t hl ⟨hv, ?_⟩
        by_cases hs : b4 p ≤ 0
        · rw [if_pos hs] at H'
          exact br_t hs ⟨by decide, H'⟩
        · rw [if_neg hs] at H'
          exact br_f hs ⟨hv, (fun e => hs (by rw [e]; decide)), H'⟩
      · rw [if_neg hl] at H'
        exact br_f hl H'

theorem rl_wroom {post : Int32 → St1 → Prop} {u : St1} {p : Nat} (hp : p < 4) (hh : rl_hd (rl_vw u p))
    (H : ∀ u' : St1, u'.1 = u.1 → rl_vw u' = rl_set (rl_vw u) p (rl_catch u.1 (rl_vw u p)) → post (rl_clip (rl_room u.1 (rl_catch u.1 (rl_vw u p)))) u') : wpX_room post u (nI p) := by
  obtain ⟨now, a1, a2, a3, a4, a5, a6, a7, a8, a9, a10, a11, a12, a13, a14⟩ := u
  unfold wpX_room
  dsimp only
  refine rl_wbad hp (br_t rfl ?_)
  refine rl_wroomOf hp hh (fun u' e1 e2 => ?_)
  have H' := H u' e1 e2
  generalize rl_room (now, a1, a2, a3, a4, a5, a6, a7, a8, a9, a10, a11, a12, a13, a14).1 (rl_catch (now, a1, a2, a3, a4, a5, a6, a7, a8, a9, a10, a11, a12, a13, a14).1 (rl_vw (now, a1, a2, a3, a4, a5, a6, a7, a8, a9, a10, a11, a12, a13, a14) p)) = x at H' ⊢
  obtain ⟨now', b1, b2, b3, b4, b5, b6, b7, b8, b9, b10, b11, b12, b13, b14⟩ := u'
  dsimp only
  unfold rl_clip at H'
  by_cases h0 : 0 ≤ x
  · rw [if_pos h0] at H'
    refine br_t h0 ?_
    by_cases h1 : x ≤ 20
    · rw [if_pos h1] at H'
      exact br_t h1 H'
    · rw [if_neg h1] at H'
      exact br_f h1 H'
  · rw [if_neg h0] at H'
    exact br_f h0 H'

theorem rl_wgranted {post : Int32 → Prop} {u : St1} {p : Nat} (hp : p < 4) (H : post (rl_gsum (rl_vw u p))) : wpX_granted post u (nI p) := by
  obtain ⟨now, a1, a2, a3, a4, a5, a6, a7, a8, a9, a10, a11, a12, a13, a14⟩ := u
  have hc := rl_cp hp
  have hv := rl_vp hp
  unfold wpX_granted
  dsimp only
  rw [hc]
  exact rl_wbad hp (br_t rfl ⟨hv, H⟩)
theorem rl_wdenied {post : Int32 → Prop} {u : St1} {p : Nat} (hp : p < 4) (H : post (rl_dcnt (rl_vw u p))) : wpX_denied post u (nI p) := by
  obtain ⟨now, a1, a2, a3, a4, a5, a6, a7, a8, a9, a10, a11, a12, a13, a14⟩ := u
  have hc := rl_cp hp
  have hv := rl_vp hp
  unfold wpX_denied
  dsimp only
  rw [hc]
  exact rl_wbad hp (br_t rfl ⟨hv, H⟩)

theorem rl_l22 {post : Int32 → Prop} {p : Nat} (hp : p < 4) {now : Int32} {a1 a2 a3 a4 a5 a6 a7 a8 a9 a10 a11 a12 a13 a14 : Nat → Int32} :
    ∀ (j i : Nat) (o w : Int32), i + j = (a11 p).toNatClampNeg →
    post (rl_lw now (a4 p) (a10 p) (fun j => a13 (p * 32 + j % 32)) (fun j => a14 (p * 32 + j % 32)) j i o w) →
    wX_logWait_22 post (nI p) now a1 a2 a3 a4 a5 a6 a7 a8 a9 a10 a11 a12 a13 a14 (j + 1) o w (nI i) := by
  have hc := rl_cp hp
  have hv := rl_vp hp
  have hlt : (a11 p).toNatClampNeg < 2 ^ 31 := by
    have := (a11 p).toInt_lt
    show (a11 p).toInt.toNat < 2 ^ 31
    omega
  intro j
  induction j with
  | zero =>
    intro i o w hij H
    unfold wX_logWait_22
    rw [hc]
    exact ⟨hv, br_t ((rl_clle (by omega)).mpr (by omega)) H⟩
  | succ j ih =>
    intro i o w hij H
    unfold wX_logWait_22
    rw [hc]
    rw [rl_lw_s] at H
    refine ⟨hv, br_f (fun y => absurd ((rl_clle (by omega)).mp y) (by omega)) ?_⟩
    by_cases ho : o ≤ 0
    · rw [if_pos ho] at H
      exact br_t ho H
    · rw [if_neg ho] at H
      obtain ⟨sN, hs1, hs2⟩ := pk_andE (a10 p + nI i) (m := 31) 5 (by decide)
      have hs3 : sN < 32 := hs1
      have hx : nI p * 32 + ((a10 p + nI i) &&& 31) = nI (p * 32 + sN) := by
        rw [hs2, show (32 : Int32) = nI 32 from rfl, pk_mul, nI_add]
      have hcx : (nI (p * 32 + sN)).toNatClampNeg = p * 32 + sN := nI_clamp (by omega)
      have hvx : vp_in (nI (p * 32 + sN)) 128 := vp_in_nI (by omega) (by decide)
      have hcs : (nI sN).toNatClampNeg = sN := nI_clamp (by omega)
      rw [hs2, hcs] at H
      rw [Nat.mod_eq_of_lt hs3] at H
      refine br_f ho ⟨hv, nm_r hx ?_⟩
      rw [hcx]
      exact ⟨hvx, nm_e ⟨hvx, hv, nm_e (nm_r (nI_1 i) (ih (i + 1) _ _ (by omega) H))⟩⟩

theorem rl_wlogWait {post : Int32 → Prop} {p : Nat} (hp : p < 4) {now c : Int32} {a1 a2 a3 a4 a5 a6 a7 a8 a9 a10 a11 a12 a13 a14 : Nat → Int32}
    (H : post (rl_lw now (a4 p) (a10 p) (fun j => a13 (p * 32 + j % 32)) (fun j => a14 (p * 32 + j % 32)) (a11 p).toNatClampNeg 0 ((a12 p + c) - a3 p) 0)) : wpX_logWait post (now, a1, a2, a3, a4, a5, a6, a7, a8, a9, a10, a11, a12, a13, a14) (nI p) c := by
  have hc := rl_cp hp
  have hv := rl_vp hp
  unfold wpX_logWait
  dsimp only
  rw [hc]
  exact ⟨hv, hv, nm_e ⟨(a11 p).toNatClampNeg + 1, rl_l22 hp _ 0 _ _ (by omega) H⟩⟩

theorem rl_wwaitFor {post : Int32 → St1 → Prop} {u : St1} {p c : Nat} (hp : p < 4) (h1 : 1 ≤ c) (h2 : c ≤ 20) (hh : rl_hd (rl_vw u p))
    (H0 : ¬ nI c ≤ rl_burst (rl_vw u p) → post (-4) u)
    (H : nI c ≤ rl_burst (rl_vw u p) → ∀ u' : St1, u'.1 = u.1 → rl_vw u' = rl_set (rl_vw u) p (rl_catch u.1 (rl_vw u p)) → post (rl_wait u.1 (nI c) (rl_catch u.1 (rl_vw u p))) u') : wpX_waitFor post u (nI p) (nI c) := by
  obtain ⟨now, a1, a2, a3, a4, a5, a6, a7, a8, a9, a10, a11, a12, a13, a14⟩ := u
  have hc := rl_cp hp
  have hv := rl_vp hp
  unfold wpX_waitFor
  dsimp only
  refine rl_wbad hp (br_t rfl (rl_wbadCost h1 h2 (br_t rfl ?_)))
  rw [hc]
  refine ⟨hv, br_c (fun hb => ?_) (fun hb => H0 hb)⟩
  refine rl_wroomOf hp hh (fun u' e1 e2 => ?_)
  have H' := H hb u' e1 e2
  have eX : rl_catch now (rl_vw (now, a1, a2, a3, a4, a5, a6, a7, a8, a9, a10, a11, a12, a13, a14) p) = rl_vw u' p := by rw [e2, rl_ss]
  dsimp only at H' ⊢
  rw [eX] at H' ⊢
  obtain ⟨now', b1, b2, b3, b4, b5, b6, b7, b8, b9, b10, b11, b12, b13, b14⟩ := u'
  dsimp only at e1
  subst e1
  unfold rl_wait at H'
  unfold rl_vw at H' ⊢
  dsimp only at H' ⊢
  generalize rl_room now' (b1 p, b2 p, b3 p, b4 p, b5 p, b6 p, b7 p, b8 p, b9 p, b10 p, b11 p, b12 p, (fun j => b13 (p * 32 + j % 32)), (fun j => b14 (p * 32 + j % 32))) = x at H' ⊢
  by_cases hr : x < nI c
  · rw [if_pos hr] at H'
    refine br_t hr ⟨hv, ?_⟩
    by_cases k1 : b1 p = 1
    · rw [if_pos k1] at H'
      exact br_t k1 (rl_wlogWait hp H')
    · rw [if_neg k1] at H'
      refine br_f k1 ⟨hv, ?_⟩
      by_cases k0 : b1 p = 0
      · rw [if_pos k0] at H'
        refine br_t k0 ⟨hv, ?_⟩
        by_cases hq : b2 p ≤ 0
        · rw [if_pos hq] at H'
          refine br_t hq ?_
          unfold wX_waitFor_90
          rw [hc]
          exact ⟨hv, by decide, H'⟩
        · rw [if_neg hq] at H'
          refine br_f hq ⟨hv, ?_⟩
          unfold wX_waitFor_90
          rw [hc]
          exact ⟨hv, (fun e => hq (by rw [e]; decide)), H'⟩
      · rw [if_neg k0] at H'
        exact br_f k0 ⟨hv, hv, hv, H'⟩
  · rw [if_neg hr] at H'
    exact br_f hr H'

theorem rl_wgrant {post : St1 → Prop} {u : St1} {p : Nat} {c : Int32} (hp : p < 4)
    (H : ∀ u' : St1, u'.1 = u.1 → rl_vw u' = rl_set (rl_vw u) p (rl_grant u.1 c (rl_vw u p)) → post u') : wpX_grant post u (nI p) c := by
  obtain ⟨now, a1, a2, a3, a4, a5, a6, a7, a8, a9, a10, a11, a12, a13, a14⟩ := u
  have hc := rl_cp hp
  have hv := rl_vp hp
  unfold wpX_grant
  dsimp only
  rw [hc]
  refine ⟨hv, hv, nm_e ⟨hv, ?_⟩⟩
  by_cases k0 : a1 p = 0
  · refine br_t k0 ⟨hv, hv, nm_e (H _ rfl ?_)⟩
    funext q
    by_cases hq : q = p
    · subst hq
      rw [rl_ss]
      unfold rl_vw rl_grant
      dsimp only
      rw [if_pos k0, pk_us, pk_us]
    · rw [rl_sn _ hq]
      unfold rl_vw
      dsimp only
      rw [pk_un hq, pk_un hq]
  · refine br_f k0 ⟨hv, ?_⟩
    by_cases k1 : a1 p = 1
    · obtain ⟨sN, hs1, hs2⟩ := pk_andE (a10 p + a11 p) (m := 31) 5 (by decide)
      have hs3 : sN < 32 := hs1
      have hx : nI p * 32 + ((a10 p + a11 p) &&& 31) = nI (p * 32 + sN) := by
        rw [hs2, show (32 : Int32) = nI 32 from rfl, pk_mul, nI_add]
      have hcx : (nI (p * 32 + sN)).toNatClampNeg = p * 32 + sN := nI_clamp (by omega)
      have hvx : vp_in (nI (p * 32 + sN)) 128 := vp_in_nI (by omega) (by decide)
      have hcs : (nI sN).toNatClampNeg = sN := nI_clamp (by omega)
      refine br_t k1 ⟨hv, hv, nm_r hx ?_⟩
      rw [hcx]
      refine ⟨hvx, nm_e ⟨hvx, nm_e ⟨hv, hv, nm_e ⟨hv, hv, nm_e (H _ rfl ?_)⟩⟩⟩⟩
      funext q
      by_cases hq : q = p
      · subst hq
        rw [rl_ss]
        unfold rl_vw rl_grant
        dsimp only
        rw [if_neg k0, if_pos k1, pk_us, pk_us, pk_us, hs2, hcs]
        have E : ∀ (A : Nat → Int32) (x : Int32), (fun j => upd A (q * 32 + sN) x (q * 32 + j % 32)) = (fun j => if j % 32 = sN then x else A (q * 32 + j % 32)) := by
          intro A x
          funext j
          by_cases e : j % 32 = sN
          · rw [if_pos e, e, pk_us]
          · rw [if_neg e, pk_un (by omega)]
        rw [E a13 now, E a14 c]
      · rw [rl_sn _ hq]
        unfold rl_vw
        dsimp only
        rw [pk_un hq, pk_un hq, pk_un hq]
        have E : ∀ (A : Nat → Int32) (x : Int32), (fun j => upd A (p * 32 + sN) x (q * 32 + j % 32)) = (fun j => A (q * 32 + j % 32)) := by
          intro A x
          funext j
          exact pk_un (by omega)
        rw [E a13 now, E a14 c]
    · refine br_f k1 (rl_wbase hp ⟨hv, hv, nm_e (H _ rfl ?_)⟩)
      funext q
      by_cases hq : q = p
      · subst hq
        rw [rl_ss]
        unfold rl_vw rl_grant
        dsimp only
        rw [if_neg k0, if_neg k1, pk_us, pk_us]
      · rw [rl_sn _ hq]
        unfold rl_vw
        dsimp only
        rw [pk_un hq, pk_un hq]

theorem rl_wstart {post : St1 → Prop} {u : St1} {p : Nat} {k r b s : Int32} (hp : p < 4)
    (H : ∀ u' : St1, u'.1 = u.1 → rl_vw u' = rl_set (rl_vw u) p (rl_start u.1 k r b s (rl_vw u p)) → post u') : wpX_start post u (nI p) k r b s := by
  obtain ⟨now, a1, a2, a3, a4, a5, a6, a7, a8, a9, a10, a11, a12, a13, a14⟩ := u
  have hc := rl_cp hp
  have hv := rl_vp hp
  unfold wpX_start
  dsimp only
  rw [hc]
  refine ⟨hv, nm_e ⟨hv, nm_e ⟨hv, nm_e ⟨hv, nm_e ⟨hv, nm_e ⟨hv, nm_e ⟨hv, nm_e ⟨hv, nm_e ⟨hv, nm_e ⟨hv, nm_e ⟨hv, nm_e ⟨hv, nm_e (H _ rfl ?_)⟩⟩⟩⟩⟩⟩⟩⟩⟩⟩⟩⟩
  funext q
  by_cases hq : q = p
  · subst hq
    rw [rl_ss]
    unfold rl_vw rl_start
    dsimp only
    rw [pk_us, pk_us, pk_us, pk_us, pk_us, pk_us, pk_us, pk_us, pk_us, pk_us, pk_us, pk_us]
  · rw [rl_sn _ hq]
    unfold rl_vw
    dsimp only
    rw [pk_un hq, pk_un hq, pk_un hq, pk_un hq, pk_un hq, pk_un hq, pk_un hq, pk_un hq, pk_un hq, pk_un hq, pk_un hq, pk_un hq]

/-- the code that set answers, by its two numbers alone -/
def rl_sc (k n : Int32) : Int32 := if k < 0 then -2 else if k ≤ 2 then
  (if n &&& 7 < 1 then -3 else if 5 < n &&& 7 then -3 else if (n >>> ((3 : Int32) &&& 31)) &&& 31 < 1 then -3 else if 30 < (n >>> ((3 : Int32) &&& 31)) &&& 31 then -3
    else if (n >>> ((8 : Int32) &&& 31)) &&& 15 < 1 then -3 else if (n >>> ((8 : Int32) &&& 31)) &&& 15 ≤ 10 then 0 else -3) else -2
theorem rl_wset {post : Int32 → St1 → Prop} {u : St1} {p : Nat} {k n : Int32} (hp : p < 4)
    (H0 : ∀ x : Int32, rl_sc k n = x → x ≠ 0 → post x u)
    (H1 : rl_sc k n = 0 → rl_BD (n &&& 7) ((n >>> ((3 : Int32) &&& 31)) &&& 31) ((n >>> ((8 : Int32) &&& 31)) &&& 15) → ∀ u' : St1, u'.1 = u.1 → rl_vw u' = rl_set (rl_vw u) p (rl_start u.1 k (n &&& 7) ((n >>> ((3 : Int32) &&& 31)) &&& 31) ((n >>> ((8 : Int32) &&& 31)) &&& 15) (rl_vw u p)) → post 0 u') : wpX_set post u (nI p) k n := by
  obtain ⟨now, a1, a2, a3, a4, a5, a6, a7, a8, a9, a10, a11, a12, a13, a14⟩ := u
  unfold wpX_set
  dsimp only
  refine rl_wbad hp (br_t rfl ?_)
  unfold rl_sc at H0 H1
  generalize n &&& 7 = r at H0 H1 ⊢
  generalize (n >>> ((3 : Int32) &&& 31)) &&& 31 = b at H0 H1 ⊢
  generalize (n >>> ((8 : Int32) &&& 31)) &&& 15 = s at H0 H1 ⊢
  by_cases c1 : k < 0
  · rw [if_pos c1] at H0
    exact br_t c1 (H0 _ rfl (by decide))
  rw [if_neg c1] at H0 H1
  refine br_f c1 ?_
  by_cases c2 : k ≤ 2
  rotate_left
  · rw [if_neg c2] at H0
    exact br_f c2 (H0 _ rfl (by decide))
  rw [if_pos c2] at H0 H1
  refine br_t c2 (nm_e (nm_e (nm_e ?_)))
  by_cases c3 : r < 1
  · rw [if_pos c3] at H0
    exact br_t c3 (H0 _ rfl (by decide))
  rw [if_neg c3] at H0 H1
  refine br_f c3 ?_
  by_cases c4 : 5 < r
  · rw [if_pos c4] at H0
    exact br_t c4 (H0 _ rfl (by decide))
  rw [if_neg c4] at H0 H1
  refine br_f c4 ?_
  by_cases c5 : b < 1
  · rw [if_pos c5] at H0
    exact br_t c5 (H0 _ rfl (by decide))
  rw [if_neg c5] at H0 H1
  refine br_f c5 ?_
  by_cases c6 : 30 < b
  · rw [if_pos c6] at H0
    exact br_t c6 (H0 _ rfl (by decide))
  rw [if_neg c6] at H0 H1
  refine br_f c6 ?_
  by_cases c7 : s < 1
  · rw [if_pos c7] at H0
    exact br_t c7 (H0 _ rfl (by decide))
  rw [if_neg c7] at H0 H1
  refine br_f c7 ?_
  by_cases c8 : s ≤ 10
  rotate_left
  · rw [if_neg c8] at H0
    exact br_f c8 (H0 _ rfl (by decide))
  rw [if_pos c8] at H0 H1
  refine br_t c8 (rl_wstart hp (fun u' e1 e2 => ?_))
  have hbd : rl_BD r b s := by
    have q1 : (1 : Int32).toInt = 1 := by decide
    have q5 : (5 : Int32).toInt = 5 := by decide
    have q30 : (30 : Int32).toInt = 30 := by decide
    have q10 : (10 : Int32).toInt = 10 := by decide
    rw [Int32.lt_iff_toInt_lt] at c3 c4 c5 c6 c7
    rw [Int32.le_iff_toInt_le] at c8
    exact ⟨⟨by omega, by omega⟩, ⟨by omega, by omega⟩, ⟨by omega, by omega⟩⟩
  have H' := H1 rfl hbd u' e1 e2
  obtain ⟨now', b_1, b_2, b_3, b_4, b_5, b_6, b_7, b_8, b_9, b_10, b_11, b_12, b_13, b_14⟩ := u'
  exact H'

theorem rl_wpass {post : Int32 → St1 → Prop} {u : St1} {x : Int32} (h0 : 0 ≤ x.toInt) (h1 : x.toInt ≤ 1000) (hn : 0 ≤ u.1.toInt) (hm : u.1.toInt + x.toInt ≤ 100000)
    (H : ∀ u' : St1, u'.1 = u.1 + x → rl_vw u' = rl_vw u → post (u.1 + x) u') : wpX_pass post u x := by
  obtain ⟨now, a1, a2, a3, a4, a5, a6, a7, a8, a9, a10, a11, a12, a13, a14⟩ := u
  dsimp only at hn hm H
  have z0 : (0 : Int32).toInt = 0 := by decide
  have z1 : (1000 : Int32).toInt = 1000 := by decide
  have z2 : (100000 : Int32).toInt = 100000 := by decide
  have c1 : ¬ x < 0 := by rw [Int32.lt_iff_toInt_lt]; omega
  have c2 : x ≤ 1000 := by rw [Int32.le_iff_toInt_le]; omega
  have c3 : now + x ≤ 100000 := by
    have e : (now + x).toInt = now.toInt + x.toInt := rl_add (by omega) (by omega)
    rw [Int32.le_iff_toInt_le]; omega
  unfold wpX_pass
  dsimp only
  exact br_f c1 (br_t c2 (br_t c3 (nm_e (H _ rfl (funext fun q => rfl)))))
end
section
/-! ask, askAll, init -/
theorem rl_eqset {V W : Nat → rl_V} {p : Nat} {x y : rl_V} (h : W = rl_set V p x) : rl_set W p y = rl_set V p y := by
  subst h
  funext q
  by_cases hq : q = p
  · subst hq
    rw [rl_ss, rl_ss]
  · rw [rl_sn _ hq, rl_sn _ hq, rl_sn _ hq]
theorem rl_dn {now : Int32} {a1 a2 a3 a4 a5 a6 a7 a8 a9 a10 a11 a12 a13 a14 : Nat → Int32} (p : Nat) :
    rl_vw (now, a1, a2, a3, a4, a5, upd a6 p (a6 p + 1), a7, a8, a9, a10, a11, a12, a13, a14) = rl_set (rl_vw (now, a1, a2, a3, a4, a5, a6, a7, a8, a9, a10, a11, a12, a13, a14)) p (rl_deny (rl_vw (now, a1, a2, a3, a4, a5, a6, a7, a8, a9, a10, a11, a12, a13, a14) p)) := by
  funext q
  by_cases hq : q = p
  · subst hq
    rw [rl_ss]
    unfold rl_vw rl_deny
    dsimp only
    rw [pk_us]
  · rw [rl_sn _ hq]
    unfold rl_vw
    dsimp only
    rw [pk_un hq]
theorem rl_wask {post : Int32 → St1 → Prop} {u : St1} {p c : Nat} (hp : p < 4) (h1 : 1 ≤ c) (h2 : c ≤ 20) (hh : rl_hd (rl_vw u p))
    (H1 : nI c ≤ rl_room u.1 (rl_catch u.1 (rl_vw u p)) → ∀ u' : St1, u'.1 = u.1 → rl_vw u' = rl_set (rl_vw u) p (rl_grant u.1 (nI c) (rl_catch u.1 (rl_vw u p))) → post 1 u')
    (H0 : ¬ nI c ≤ rl_room u.1 (rl_catch u.1 (rl_vw u p)) → ∀ u' : St1, u'.1 = u.1 → rl_vw u' = rl_set (rl_vw u) p (rl_deny (rl_catch u.1 (rl_vw u p))) → post 0 u') : wpX_ask post u (nI p) (nI c) := by
  obtain ⟨now, a1, a2, a3, a4, a5, a6, a7, a8, a9, a10, a11, a12, a13, a14⟩ := u
  have hc := rl_cp hp
  have hv := rl_vp hp
  unfold wpX_ask
  dsimp only
  refine rl_wbad hp (br_t rfl (rl_wbadCost h1 h2 (br_t rfl ?_)))
  refine rl_wroomOf hp hh (fun u' e1 e2 => ?_)
  have eX : rl_catch now (rl_vw (now, a1, a2, a3, a4, a5, a6, a7, a8, a9, a10, a11, a12, a13, a14) p) = rl_vw u' p := by rw [e2, rl_ss]
  obtain ⟨now', b1, b2, b3, b4, b5, b6, b7, b8, b9, b10, b11, b12, b13, b14⟩ := u'
  dsimp only at e1
  subst e1
  dsimp only at H0 H1 ⊢
  refine br_c (fun hr => ?_) (fun hr => ?_)
  · refine rl_wgrant hp (fun u2 e3 e4 => ?_)
    have H' := H1 hr u2 e3 (by rw [e4, eX, rl_eqset e2])
    obtain ⟨now2, d1, d2, d3, d4, d5, d6, d7, d8, d9, d10, d11, d12, d13, d14⟩ := u2
    exact H'
  · rw [hc]
    refine ⟨hv, hv, nm_e (H0 hr _ rfl ?_)⟩
    rw [rl_dn p, rl_eqset e2, eX]

def rl_bit (x : Int32) (m : Nat) : Bool := decide (((x >>> (nI m &&& 31)) &&& 1) = 1)
def rl_k1 (now x c : Int32) (v : rl_V) (m : Nat) : Bool := !(rl_bit x m) || decide (c ≤ rl_room now (rl_catch now v))
def rl_t1 (now x c : Int32) (v : rl_V) (m : Nat) : rl_V := if rl_bit x m = true then (if c ≤ rl_room now (rl_catch now v) then rl_catch now v else rl_deny (rl_catch now v)) else v
def rl_t2 (now x c : Int32) (v : rl_V) (m : Nat) : rl_V := if rl_bit x m = true then rl_grant now c v else v
def rl_fl (ok : Nat → Bool) : Nat → Nat → Int32 → Int32
  | 0, _, x => x
  | j + 1, i, x => rl_fl ok j (i + 1) (if ok i = true then x else 0)
theorem rl_fl4 (ok : Nat → Bool) : rl_fl ok 4 0 1 = if (ok 0 && ok 1 && ok 2 && ok 3) = true then 1 else 0 := by
  show (if ok 3 = true then (if ok 2 = true then (if ok 1 = true then (if ok 0 = true then (1 : Int32) else 0) else 0) else 0) else 0) = _
  generalize ok 0 = b0
  generalize ok 1 = b1
  generalize ok 2 = b2
  generalize ok 3 = b3
  cases b0 <;> cases b1 <;> cases b2 <;> cases b3 <;> rfl
theorem rl_fl_s (ok : Nat → Bool) (j i : Nat) (x : Int32) : rl_fl ok (j + 1) i x = rl_fl ok j (i + 1) (if ok i = true then x else 0) := rfl
theorem rl_step1 {V : Nat → rl_V} {F : Nat → rl_V} {i j : Nat} (hij : i + (j + 1) = 4) (X : rl_V) (hX : X = F i) (q : Nat) :
    (if i + 1 ≤ q ∧ q < 4 then F q else rl_set V i X q) = if i ≤ q ∧ q < 4 then F q else V q := by
  by_cases h : q = i
  · subst h
    rw [if_neg (by omega), if_pos (by omega), rl_ss, hX]
  · rw [rl_sn _ h]
    by_cases h2 : i + 1 ≤ q ∧ q < 4
    · rw [if_pos h2, if_pos (by omega)]
    · rw [if_neg h2, if_neg (by omega)]
theorem rl_w67 {post : Int32 → St1 → Prop} {x c : Int32} : ∀ (j i : Nat) (now : Int32) (a1 a2 a3 a4 a5 a6 a7 a8 a9 a10 a11 a12 a13 a14 : Nat → Int32), i + j = 4 →
    (∀ u' : St1, u'.1 = now → (∀ q, rl_vw u' q = if i ≤ q ∧ q < 4 then rl_t2 now x c (rl_vw (now, a1, a2, a3, a4, a5, a6, a7, a8, a9, a10, a11, a12, a13, a14) q) q else rl_vw (now, a1, a2, a3, a4, a5, a6, a7, a8, a9, a10, a11, a12, a13, a14) q) → post 1 u') →
    wX_askAll_67 post x c 1 (j + 1) (nI i) now a1 a2 a3 a4 a5 a6 a7 a8 a9 a10 a11 a12 a13 a14 := by
  intro j
  induction j with
  | zero =>
    intro i now a1 a2 a3 a4 a5 a6 a7 a8 a9 a10 a11 a12 a13 a14 hij H
    unfold wX_askAll_67
    refine pk_le 4 i (fun _ => ?_) (fun z => absurd z (by omega))
    unfold wX_askAll_100
    exact br_f (by decide) (H _ rfl (fun q => by rw [if_neg (by omega)]))
  | succ j ih =>
    intro i now a1 a2 a3 a4 a5 a6 a7 a8 a9 a10 a11 a12 a13 a14 hij H
    unfold wX_askAll_67
    refine pk_le 4 i (fun z => absurd z (by omega)) (fun _ => br_f (by decide) ?_)
    refine br_c (fun hb => ?_) (fun hb => ?_)
    · refine rl_wgrant (by omega) (fun u' e1 e2 => ?_)
      obtain ⟨now', b1, b2, b3, b4, b5, b6, b7, b8, b9, b10, b11, b12, b13, b14⟩ := u'
      dsimp only at e1
      subst e1
      dsimp only
      refine nm_r (nI_1 i) (ih (i + 1) now' b1 b2 b3 b4 b5 b6 b7 b8 b9 b10 b11 b12 b13 b14 (by omega) (fun u2 e3 e4 => H u2 e3 (fun q => ?_)))
      rw [e4 q, e2]
      refine Eq.trans ?_ (rl_step1 (F := fun q => rl_t2 now' x c (rl_vw (now', a1, a2, a3, a4, a5, a6, a7, a8, a9, a10, a11, a12, a13, a14) q) q) hij _ (show _ = _ from (if_pos (decide_eq_true hb)).symm) q)
      by_cases h2 : i + 1 ≤ q ∧ q < 4
      · rw [if_pos h2, if_pos h2, rl_sn _ (by omega)]
      · rw [if_neg h2, if_neg h2]
    · refine nm_r (nI_1 i) (ih (i + 1) now a1 a2 a3 a4 a5 a6 a7 a8 a9 a10 a11 a12 a13 a14 (by omega) (fun u2 e3 e4 => H u2 e3 (fun q => ?_)))
      rw [e4 q]
      by_cases h : q = i
      · subst h
        rw [if_neg (by omega), if_pos (by omega)]
        exact (if_neg (fun y => hb (of_decide_eq_true y))).symm
      · by_cases h2 : i + 1 ≤ q ∧ q < 4
        · rw [if_pos h2, if_pos (by omega)]
        · rw [if_neg h2, if_neg (by omega)]
theorem rl_w15 {post : Int32 → St1 → Prop} {x c : Int32} {V : Nat → rl_V} (hV : ∀ q, q < 4 → rl_hd (V q)) : ∀ (j i : Nat) (y now : Int32) (a1 a2 a3 a4 a5 a6 a7 a8 a9 a10 a11 a12 a13 a14 : Nat → Int32), i + j = 4 →
    (∀ q, i ≤ q → q < 4 → rl_vw (now, a1, a2, a3, a4, a5, a6, a7, a8, a9, a10, a11, a12, a13, a14) q = V q) →
    (∀ (b1 b2 b3 b4 b5 b6 b7 b8 b9 b10 b11 b12 b13 b14 : Nat → Int32), (∀ q, rl_vw (now, b1, b2, b3, b4, b5, b6, b7, b8, b9, b10, b11, b12, b13, b14) q = if i ≤ q ∧ q < 4 then rl_t1 now x c (V q) q else rl_vw (now, a1, a2, a3, a4, a5, a6, a7, a8, a9, a10, a11, a12, a13, a14) q) →
      ∃ fu : Nat, wX_askAll_67 post x c (rl_fl (fun q => rl_k1 now x c (V q) q) j i y) fu 0 now b1 b2 b3 b4 b5 b6 b7 b8 b9 b10 b11 b12 b13 b14) →
    wX_askAll_15 post x c (j + 1) y (nI i) now a1 a2 a3 a4 a5 a6 a7 a8 a9 a10 a11 a12 a13 a14 := by
  intro j
  induction j with
  | zero =>
    intro i y now a1 a2 a3 a4 a5 a6 a7 a8 a9 a10 a11 a12 a13 a14 hij hA H
    unfold wX_askAll_15
    exact pk_le 4 i (fun _ => H a1 a2 a3 a4 a5 a6 a7 a8 a9 a10 a11 a12 a13 a14 (fun q => by rw [if_neg (by omega)])) (fun z => absurd z (by omega))
  | succ j ih =>
    intro i y now a1 a2 a3 a4 a5 a6 a7 a8 a9 a10 a11 a12 a13 a14 hij hA H
    have hi : i < 4 := by omega
    have hc := rl_cp hi
    have hv := rl_vp hi
    have hAi := hA i (by omega) hi
    unfold wX_askAll_15
    refine pk_le 4 i (fun z => absurd z (by omega)) (fun _ => ?_)
    refine br_c (fun hb => ?_) (fun hb => ?_)
    · have hb' : rl_bit x i = true := decide_eq_true hb
      refine rl_wroomOf hi (by rw [hAi]; exact hV i hi) (fun u' e1 e2 => ?_)
      rw [hAi] at e2 ⊢
      obtain ⟨now', b1, b2, b3, b4, b5, b6, b7, b8, b9, b10, b11, b12, b13, b14⟩ := u'
      dsimp only at e1
      subst e1
      dsimp only at e2 ⊢
      have hA' : ∀ (X : rl_V) (U : Nat → rl_V), U = rl_set (rl_vw (now', a1, a2, a3, a4, a5, a6, a7, a8, a9, a10, a11, a12, a13, a14)) i X → ∀ q, i + 1 ≤ q → q < 4 → U q = V q := by
        intro X U hU q q1 q2
        rw [hU, rl_sn _ (by omega)]
        exact hA q (by omega) q2
      have hfin : ∀ (X : rl_V) (U W : Nat → rl_V), U = rl_set (rl_vw (now', a1, a2, a3, a4, a5, a6, a7, a8, a9, a10, a11, a12, a13, a14)) i X → X = rl_t1 now' x c (V i) i →
          (∀ q, W q = if i + 1 ≤ q ∧ q < 4 then rl_t1 now' x c (V q) q else U q) → ∀ q, W q = if i ≤ q ∧ q < 4 then rl_t1 now' x c (V q) q else rl_vw (now', a1, a2, a3, a4, a5, a6, a7, a8, a9, a10, a11, a12, a13, a14) q := by
        intro X U W hU hX hW q
        rw [hW q, hU]
        exact rl_step1 (F := fun q => rl_t1 now' x c (V q) q) hij X hX q
      refine br_c (fun hr => ?_) (fun hr => ?_)
      · have hk : rl_k1 now' x c (V i) i = true := by
          unfold rl_k1
          rw [decide_eq_true hr, Bool.or_true]
        refine nm_r (nI_1 i) (ih (i + 1) y now' b1 b2 b3 b4 b5 b6 b7 b8 b9 b10 b11 b12 b13 b14 (by omega) (hA' _ _ e2) (fun d1 d2 d3 d4 d5 d6 d7 d8 d9 d10 d11 d12 d13 d14 hW => ?_))
        have := H d1 d2 d3 d4 d5 d6 d7 d8 d9 d10 d11 d12 d13 d14 (hfin _ _ _ e2 (by unfold rl_t1; rw [if_pos hb', if_pos hr]) hW)
        rw [rl_fl_s] at this
        rw [if_pos hk] at this
        exact this
      · have hk : ¬ rl_k1 now' x c (V i) i = true := by
          unfold rl_k1
          rw [decide_eq_false hr, hb']
          decide
        rw [hc]
        have e5 : rl_vw (now', b1, b2, b3, b4, b5, upd b6 i (b6 i + 1), b7, b8, b9, b10, b11, b12, b13, b14) = rl_set (rl_vw (now', a1, a2, a3, a4, a5, a6, a7, a8, a9, a10, a11, a12, a13, a14)) i (rl_deny (rl_catch now' (V i))) := by
          rw [rl_dn i, rl_eqset e2, e2, rl_ss]
        refine ⟨hv, hv, nm_e (nm_r (nI_1 i) (ih (i + 1) 0 now' _ _ _ _ _ _ _ _ _ _ _ _ _ _ (by omega) (hA' _ _ e5) (fun d1 d2 d3 d4 d5 d6 d7 d8 d9 d10 d11 d12 d13 d14 hW => ?_)))⟩
        have := H d1 d2 d3 d4 d5 d6 d7 d8 d9 d10 d11 d12 d13 d14 (hfin _ _ _ e5 (by unfold rl_t1; rw [if_pos hb', if_neg hr]) hW)
        rw [rl_fl_s] at this
        rw [if_neg hk] at this
        exact this
    · have hb' : rl_bit x i = false := decide_eq_false hb
      have hk : rl_k1 now x c (V i) i = true := by
        unfold rl_k1
        rw [hb']
        rfl
      refine nm_r (nI_1 i) (ih (i + 1) y now a1 a2 a3 a4 a5 a6 a7 a8 a9 a10 a11 a12 a13 a14 (by omega) (fun q q1 q2 => hA q (by omega) q2) (fun d1 d2 d3 d4 d5 d6 d7 d8 d9 d10 d11 d12 d13 d14 hW => ?_))
      have := H d1 d2 d3 d4 d5 d6 d7 d8 d9 d10 d11 d12 d13 d14 (fun q => by
        rw [hW q]
        by_cases h : q = i
        · subst h
          rw [if_neg (by omega), if_pos (by omega), hAi]
          unfold rl_t1
          rw [hb']
          rfl
        · by_cases h2 : i + 1 ≤ q ∧ q < 4
          · rw [if_pos h2, if_pos (by omega)]
          · rw [if_neg h2, if_neg (by omega)])
      rw [rl_fl_s] at this
      rw [if_pos hk] at this
      exact this
def rl_all (now x c : Int32) (V : Nat → rl_V) : Bool := rl_k1 now x c (V 0) 0 && rl_k1 now x c (V 1) 1 && rl_k1 now x c (V 2) 2 && rl_k1 now x c (V 3) 3
theorem rl_waskAll {post : Int32 → St1 → Prop} {u : St1} {x : Int32} {c : Nat} (h1 : 1 ≤ c) (h2 : c ≤ 20) (hh : ∀ q, q < 4 → rl_hd (rl_vw u q))
    (H1 : rl_all u.1 x (nI c) (rl_vw u) = true → ∀ u' : St1, u'.1 = u.1 → (∀ q, q < 4 → rl_vw u' q = rl_t2 u.1 x (nI c) (rl_t1 u.1 x (nI c) (rl_vw u q) q) q) → post 1 u')
    (H0 : rl_all u.1 x (nI c) (rl_vw u) = false → ∀ u' : St1, u'.1 = u.1 → (∀ q, q < 4 → rl_vw u' q = rl_t1 u.1 x (nI c) (rl_vw u q) q) → post 0 u') : wpX_askAll post u x (nI c) := by
  obtain ⟨now, a1, a2, a3, a4, a5, a6, a7, a8, a9, a10, a11, a12, a13, a14⟩ := u
  unfold wpX_askAll
  dsimp only
  dsimp only at H0 H1
  refine rl_wbadCost h1 h2 (br_t rfl ⟨5, ?_⟩)
  refine rl_w15 hh 4 0 1 now a1 a2 a3 a4 a5 a6 a7 a8 a9 a10 a11 a12 a13 a14 (by omega) (fun q _ _ => rfl) (fun b1 b2 b3 b4 b5 b6 b7 b8 b9 b10 b11 b12 b13 b14 hW => ?_)
  rw [rl_fl4]
  by_cases hall : rl_all now x (nI c) (rl_vw (now, a1, a2, a3, a4, a5, a6, a7, a8, a9, a10, a11, a12, a13, a14)) = true
  · have e : (if (rl_k1 now x (nI c) (rl_vw (now, a1, a2, a3, a4, a5, a6, a7, a8, a9, a10, a11, a12, a13, a14) 0) 0 && rl_k1 now x (nI c) (rl_vw (now, a1, a2, a3, a4, a5, a6, a7, a8, a9, a10, a11, a12, a13, a14) 1) 1 && rl_k1 now x (nI c) (rl_vw (now, a1, a2, a3, a4, a5, a6, a7, a8, a9, a10, a11, a12, a13, a14) 2) 2 && rl_k1 now x (nI c) (rl_vw (now, a1, a2, a3, a4, a5, a6, a7, a8, a9, a10, a11, a12, a13, a14) 3) 3) = true then (1 : Int32) else 0) = 1 := if_pos hall
    rw [e]
    refine ⟨5, rl_w67 4 0 now b1 b2 b3 b4 b5 b6 b7 b8 b9 b10 b11 b12 b13 b14 (by omega) (fun u' e1 e2 => H1 hall u' e1 (fun q hq => ?_))⟩
    rw [e2 q, if_pos (by omega), hW q, if_pos (by omega)]
  · have e : (if (rl_k1 now x (nI c) (rl_vw (now, a1, a2, a3, a4, a5, a6, a7, a8, a9, a10, a11, a12, a13, a14) 0) 0 && rl_k1 now x (nI c) (rl_vw (now, a1, a2, a3, a4, a5, a6, a7, a8, a9, a10, a11, a12, a13, a14) 1) 1 && rl_k1 now x (nI c) (rl_vw (now, a1, a2, a3, a4, a5, a6, a7, a8, a9, a10, a11, a12, a13, a14) 2) 2 && rl_k1 now x (nI c) (rl_vw (now, a1, a2, a3, a4, a5, a6, a7, a8, a9, a10, a11, a12, a13, a14) 3) 3) = true then (1 : Int32) else 0) = 0 := if_neg hall
    rw [e]
    refine ⟨1, ?_⟩
    unfold wX_askAll_67
    refine br_f (by decide) (br_t rfl ?_)
    unfold wX_askAll_100
    refine br_t rfl (H0 (Bool.eq_false_iff.mpr hall) _ rfl (fun q hq => ?_))
    rw [hW q, if_pos (by omega)]

theorem rl_i108 {post : St1 → Prop} {mc ms kc ks : Nat} : ∀ (j i : Nat) (now : Int32) (a1 a2 a3 a4 a5 a6 a7 a8 a9 a10 a11 a12 a13 a14 : Nat → Int32), i + j = 4 →
    (∀ u' : St1, u'.1 = now → (∀ q, rl_vw u' q = if i ≤ q ∧ q < 4 then rl_start now 0 1 10 1 (rl_vw (now, a1, a2, a3, a4, a5, a6, a7, a8, a9, a10, a11, a12, a13, a14) q) else rl_vw (now, a1, a2, a3, a4, a5, a6, a7, a8, a9, a10, a11, a12, a13, a14) q) → post u') →
    wX_init_108 post mc ms kc ks (j + 1) (nI i) now a1 a2 a3 a4 a5 a6 a7 a8 a9 a10 a11 a12 a13 a14 := by
  intro j
  induction j with
  | zero =>
    intro i now a1 a2 a3 a4 a5 a6 a7 a8 a9 a10 a11 a12 a13 a14 hij H
    unfold wX_init_108
    exact pk_le 4 i (fun _ => H _ rfl (fun q => by rw [if_neg (by omega)])) (fun z => absurd z (by omega))
  | succ j ih =>
    intro i now a1 a2 a3 a4 a5 a6 a7 a8 a9 a10 a11 a12 a13 a14 hij H
    unfold wX_init_108
    refine pk_le 4 i (fun z => absurd z (by omega)) (fun _ => ?_)
    refine rl_wstart (by omega) (fun u' e1 e2 => ?_)
    obtain ⟨now', b1, b2, b3, b4, b5, b6, b7, b8, b9, b10, b11, b12, b13, b14⟩ := u'
    dsimp only at e1
    subst e1
    dsimp only
    refine nm_r (nI_1 i) (ih (i + 1) now' b1 b2 b3 b4 b5 b6 b7 b8 b9 b10 b11 b12 b13 b14 (by omega) (fun u2 e3 e4 => H u2 e3 (fun q => ?_)))
    rw [e4 q, e2]
    refine Eq.trans ?_ (rl_step1 (F := fun q => rl_start now' 0 1 10 1 (rl_vw (now', a1, a2, a3, a4, a5, a6, a7, a8, a9, a10, a11, a12, a13, a14) q)) hij _ rfl q)
    by_cases h2 : i + 1 ≤ q ∧ q < 4
    · rw [if_pos h2, if_pos h2, rl_sn _ (by omega)]
    · rw [if_neg h2, if_neg h2]
theorem rl_winit {post : St1 → Prop} (H : ∀ u' : St1, u'.1 = 0 → (∀ q, q < 4 → ∃ v, rl_vw u' q = rl_start 0 0 1 10 1 v) → post u') : wpX_init post 14 304 0 := by
  unfold wpX_init
  refine ⟨by decide, by decide, by decide, by decide, by decide, by decide, by decide, by decide, by decide, by decide, by decide, by decide, by decide, by decide, by decide, by decide, by decide, by decide, by decide, by decide, by decide, by decide, by decide, by decide, by decide, by decide, by decide, by decide, 5, ?_⟩
  refine rl_i108 4 0 0 _ _ _ _ _ _ _ _ _ _ _ _ _ _ (by omega) (fun u' e1 e2 => H u' e1 (fun q hq => ⟨_, (e2 q).trans (if_pos ⟨Nat.zero_le _, hq⟩)⟩))
end
section
/-! the two objects side by side -/
def rl_RL (L : Int32) (B : Int) (c d : St1) : Prop := rl_ok L c.1 B ∧ d.1 = c.1 + L ∧ ∀ q, q < 4 → rl_MR false L c.1 B (rl_vw c q) (rl_vw d (3 - q))
theorem rl_RLset {L : Int32} {B B' : Int} {c d c' d' : St1} {p : Nat} {X Y : rl_V} (R : rl_RL L B c d) (hp : p < 4) (e1 : c'.1 = c.1) (e2 : rl_vw c' = rl_set (rl_vw c) p X)
    (e3 : d'.1 = d.1) (e4 : rl_vw d' = rl_set (rl_vw d) (3 - p) Y) (hB : B ≤ B') (hB2 : B' ≤ 90000) (h : rl_MR true L c.1 B' X Y) : rl_RL L B' c' d' := by
  obtain ⟨⟨o1, o2, o3, o4, o5⟩, Rn, Rq⟩ := R
  refine ⟨?_, by rw [e1, e3]; exact Rn, fun q hq => ?_⟩
  · rw [e1]
    exact ⟨o1, o2, o3, by omega, hB2⟩
  · rw [e1, e2, e4]
    by_cases hqp : q = p
    · subst hqp
      rw [rl_ss, rl_ss]
      exact rl_MRmono (Int.le_refl _) (Int.le_refl _) h
    · rw [rl_sn _ hqp, rl_sn _ (by omega)]
      exact rl_MRmono (Int.le_refl _) hB (Rq q hq)
theorem rl_RLmono {L : Int32} {B B' : Int} {c d : St1} (R : rl_RL L B c d) (hB : B ≤ B') (hB2 : B' ≤ 90000) : rl_RL L B' c d := by
  obtain ⟨⟨o1, o2, o3, o4, o5⟩, Rn, Rq⟩ := R
  exact ⟨⟨o1, o2, o3, by omega, hB2⟩, Rn, fun q hq => rl_MRmono (Int.le_refl _) hB (Rq q hq)⟩
theorem rl_3m {m : Nat} (h : m < 4) : (3 : Int32) - nI m = nI (3 - m) := pk_sub (a := 3) (b := m) (by omega)

theorem rl_w337 {post : Int32 → Prop} {N : Nat} {xs : Nat → Int32} {J : Int32 → Int32 → (Nat → Int32) → (Nat → Int32) → (Nat → Int32) → (Nat → Int32) → (Nat → Int32) → (Nat → Int32) → (Nat → Int32) → (Nat → Int32) → (Nat → Int32) → (Nat → Int32) → (Nat → Int32) → (Nat → Int32) → (Nat → Int32) → (Nat → Int32) → Int32 → (Nat → Int32) → (Nat → Int32) → (Nat → Int32) → (Nat → Int32) → (Nat → Int32) → (Nat → Int32) → (Nat → Int32) → (Nat → Int32) → (Nat → Int32) → (Nat → Int32) → (Nat → Int32) → (Nat → Int32) → (Nat → Int32) → (Nat → Int32) → Prop}
    {L x4 : Int32} {B : Int} {w kc ks : Nat} (h1 : 1 ≤ w) (h2 : w ≤ 20)
    (H : ∀ (nc : Int32) (c1 c2 c3 c4 c5 c6 c7 c8 c9 c10 c11 c12 c13 c14 : Nat → Int32) (nd : Int32) (d1 d2 d3 d4 d5 d6 d7 d8 d9 d10 d11 d12 d13 d14 : Nat → Int32), rl_RL L B (nc, c1, c2, c3, c4, c5, c6, c7, c8, c9, c10, c11, c12, c13, c14) (nd, d1, d2, d3, d4, d5, d6, d7, d8, d9, d10, d11, d12, d13, d14) → J (x4 + 2) nc c1 c2 c3 c4 c5 c6 c7 c8 c9 c10 c11 c12 c13 c14 nd d1 d2 d3 d4 d5 d6 d7 d8 d9 d10 d11 d12 d13 d14) :
    ∀ (j i : Nat) (nc : Int32) (c1 c2 c3 c4 c5 c6 c7 c8 c9 c10 c11 c12 c13 c14 : Nat → Int32) (nd : Int32) (d1 d2 d3 d4 d5 d6 d7 d8 d9 d10 d11 d12 d13 d14 : Nat → Int32), i + j = 4 → rl_RL L B (nc, c1, c2, c3, c4, c5, c6, c7, c8, c9, c10, c11, c12, c13, c14) (nd, d1, d2, d3, d4, d5, d6, d7, d8, d9, d10, d11, d12, d13, d14) →
    wL_law_337 post N xs J L x4 (nI w) kc ks (j + 1) (nI i) nc c1 c2 c3 c4 c5 c6 c7 c8 c9 c10 c11 c12 c13 c14 nd d1 d2 d3 d4 d5 d6 d7 d8 d9 d10 d11 d12 d13 d14 := by
  intro j
  induction j with
  | zero =>
    intro i nc c1 c2 c3 c4 c5 c6 c7 c8 c9 c10 c11 c12 c13 c14 nd d1 d2 d3 d4 d5 d6 d7 d8 d9 d10 d11 d12 d13 d14 hij R
    unfold wL_law_337
    exact pk_le 4 i (fun _ => nm_e (H nc c1 c2 c3 c4 c5 c6 c7 c8 c9 c10 c11 c12 c13 c14 nd d1 d2 d3 d4 d5 d6 d7 d8 d9 d10 d11 d12 d13 d14 R)) (fun z => absurd z (by omega))
  | succ j ih =>
    intro i nc c1 c2 c3 c4 c5 c6 c7 c8 c9 c10 c11 c12 c13 c14 nd d1 d2 d3 d4 d5 d6 d7 d8 d9 d10 d11 d12 d13 d14 hij R
    have hi : i < 4 := by omega
    have hi3 : 3 - i < 4 := by omega
    have ok : rl_ok L nc B := R.1
    have hnd : nd = nc + L := R.2.1
    subst hnd
    have hR : rl_MR false L nc B (rl_vw (nc, c1, c2, c3, c4, c5, c6, c7, c8, c9, c10, c11, c12, c13, c14) i) (rl_vw (nc + L, d1, d2, d3, d4, d5, d6, d7, d8, d9, d10, d11, d12, d13, d14) (3 - i)) := R.2.2 i hi
    have hC := rl_MRcatch ok hR
    unfold wL_law_337
    rw [rl_3m hi]
    refine pk_le 4 i (fun z => absurd z (by omega)) (fun _ => ?_)
    refine rl_wroom hi (rl_MRhd hR).1 (fun u e1 e2 => ?_)
    obtain ⟨nc1, ae1, ae2, ae3, ae4, ae5, ae6, ae7, ae8, ae9, ae10, ae11, ae12, ae13, ae14⟩ := u
    dsimp only
    refine rl_wroom hi3 (rl_MRhd hR).2 (fun u f1 f2 => ?_)
    obtain ⟨nd1, af1, af2, af3, af4, af5, af6, af7, af8, af9, af10, af11, af12, af13, af14⟩ := u
    have R1 : rl_RL L B (nc1, ae1, ae2, ae3, ae4, ae5, ae6, ae7, ae8, ae9, ae10, ae11, ae12, ae13, ae14) (nd1, af1, af2, af3, af4, af5, af6, af7, af8, af9, af10, af11, af12, af13, af14) := rl_RLset R hi e1 e2 f1 f2 (Int.le_refl _) ok.2.2.2.2 hC
    dsimp only at e1 f1 ⊢
    subst e1
    subst f1
    have hR1 : rl_MR false L nc1 B (rl_vw (nc1, ae1, ae2, ae3, ae4, ae5, ae6, ae7, ae8, ae9, ae10, ae11, ae12, ae13, ae14) i) (rl_vw (nc1 + L, af1, af2, af3, af4, af5, af6, af7, af8, af9, af10, af11, af12, af13, af14) (3 - i)) := R1.2.2 i hi
    have hg := rl_MRg hR1
    have hC1 := rl_MRcatch ok hR1
    refine br_t (by rw [rl_MRroom ok hC]) ?_
    refine rl_wgranted hi (rl_wgranted hi3 (br_t hg.2.1.symm ?_))
    refine rl_wdenied hi (rl_wdenied hi3 (br_t hg.2.2.symm ?_))
    refine rl_wwaitFor hi h1 h2 (rl_MRhd hR1).1 (fun hb => ?_) (fun hb u e3 e4 => ?_)
    · dsimp only
      refine rl_wwaitFor hi3 h1 h2 (rl_MRhd hR1).2 (fun hb2 => ?_) (fun hb2 => absurd (by rw [← hg.1]; exact hb2) hb)
      dsimp only
      exact br_t rfl (nm_r (nI_1 i) (ih (i + 1) nc1 ae1 ae2 ae3 ae4 ae5 ae6 ae7 ae8 ae9 ae10 ae11 ae12 ae13 ae14 _ af1 af2 af3 af4 af5 af6 af7 af8 af9 af10 af11 af12 af13 af14 (by omega) R1))
    · obtain ⟨nc2, ag1, ag2, ag3, ag4, ag5, ag6, ag7, ag8, ag9, ag10, ag11, ag12, ag13, ag14⟩ := u
      dsimp only
      refine rl_wwaitFor hi3 h1 h2 (rl_MRhd hR1).2 (fun hb2 => absurd (by rw [hg.1]; exact hb) hb2) (fun hb2 u f3 f4 => ?_)
      obtain ⟨nd2, ah1, ah2, ah3, ah4, ah5, ah6, ah7, ah8, ah9, ah10, ah11, ah12, ah13, ah14⟩ := u
      have R2 : rl_RL L B (nc2, ag1, ag2, ag3, ag4, ag5, ag6, ag7, ag8, ag9, ag10, ag11, ag12, ag13, ag14) (nd2, ah1, ah2, ah3, ah4, ah5, ah6, ah7, ah8, ah9, ah10, ah11, ah12, ah13, ah14) := rl_RLset R1 hi e3 e4 f3 f4 (Int.le_refl _) ok.2.2.2.2 hC1
      dsimp only at e3 f3 ⊢
      refine br_t ?_ (nm_r (nI_1 i) (ih (i + 1) nc2 ag1 ag2 ag3 ag4 ag5 ag6 ag7 ag8 ag9 ag10 ag11 ag12 ag13 ag14 _ ah1 ah2 ah3 ah4 ah5 ah6 ah7 ah8 ah9 ah10 ah11 ah12 ah13 ah14 (by omega) R2))
      refine (rl_MRwait ok ?_ hC1).symm
      exact hb

theorem rl_w312 {post : Int32 → Prop} {N : Nat} {xs : Nat → Int32} {J : Int32 → Int32 → (Nat → Int32) → (Nat → Int32) → (Nat → Int32) → (Nat → Int32) → (Nat → Int32) → (Nat → Int32) → (Nat → Int32) → (Nat → Int32) → (Nat → Int32) → (Nat → Int32) → (Nat → Int32) → (Nat → Int32) → (Nat → Int32) → (Nat → Int32) → Int32 → (Nat → Int32) → (Nat → Int32) → (Nat → Int32) → (Nat → Int32) → (Nat → Int32) → (Nat → Int32) → (Nat → Int32) → (Nat → Int32) → (Nat → Int32) → (Nat → Int32) → (Nat → Int32) → (Nat → Int32) → (Nat → Int32) → (Nat → Int32) → Prop}
    {L x4 a b : Int32} {B : Int} {w kc ks : Nat} (h1 : 1 ≤ w) (h2 : w ≤ 20)
    (H : ∀ (nc : Int32) (c1 c2 c3 c4 c5 c6 c7 c8 c9 c10 c11 c12 c13 c14 : Nat → Int32) (nd : Int32) (d1 d2 d3 d4 d5 d6 d7 d8 d9 d10 d11 d12 d13 d14 : Nat → Int32), rl_RL L B (nc, c1, c2, c3, c4, c5, c6, c7, c8, c9, c10, c11, c12, c13, c14) (nd, d1, d2, d3, d4, d5, d6, d7, d8, d9, d10, d11, d12, d13, d14) → J (x4 + 2) nc c1 c2 c3 c4 c5 c6 c7 c8 c9 c10 c11 c12 c13 c14 nd d1 d2 d3 d4 d5 d6 d7 d8 d9 d10 d11 d12 d13 d14)
    {nc : Int32} {c1 c2 c3 c4 c5 c6 c7 c8 c9 c10 c11 c12 c13 c14 : Nat → Int32} {nd : Int32} {d1 d2 d3 d4 d5 d6 d7 d8 d9 d10 d11 d12 d13 d14 : Nat → Int32} (R : rl_RL L B (nc, c1, c2, c3, c4, c5, c6, c7, c8, c9, c10, c11, c12, c13, c14) (nd, d1, d2, d3, d4, d5, d6, d7, d8, d9, d10, d11, d12, d13, d14)) (hab : a = b) :
    wL_law_312 post N xs J L x4 (nI w) a b kc ks nc c1 c2 c3 c4 c5 c6 c7 c8 c9 c10 c11 c12 c13 c14 nd d1 d2 d3 d4 d5 d6 d7 d8 d9 d10 d11 d12 d13 d14 := by
  unfold wL_law_312
  refine br_t hab ?_
  unfold wpX_time
  dsimp only
  exact br_t R.2.1 ⟨5, rl_w337 h1 h2 H 4 0 nc c1 c2 c3 c4 c5 c6 c7 c8 c9 c10 c11 c12 c13 c14 nd d1 d2 d3 d4 d5 d6 d7 d8 d9 d10 d11 d12 d13 d14 (by omega) R⟩

theorem rl_w292 {post : Int32 → Prop} {N : Nat} {xs : Nat → Int32} {J : Int32 → Int32 → (Nat → Int32) → (Nat → Int32) → (Nat → Int32) → (Nat → Int32) → (Nat → Int32) → (Nat → Int32) → (Nat → Int32) → (Nat → Int32) → (Nat → Int32) → (Nat → Int32) → (Nat → Int32) → (Nat → Int32) → (Nat → Int32) → (Nat → Int32) → Int32 → (Nat → Int32) → (Nat → Int32) → (Nat → Int32) → (Nat → Int32) → (Nat → Int32) → (Nat → Int32) → (Nat → Int32) → (Nat → Int32) → (Nat → Int32) → (Nat → Int32) → (Nat → Int32) → (Nat → Int32) → (Nat → Int32) → (Nat → Int32) → Prop}
    {L x4 : Int32} {B : Int} {w kc ks y : Nat} (hy : y < 64) (h1 : 1 ≤ w) (h2 : w ≤ 20) (hB : B + 600 ≤ 90000)
    (H : ∀ (nc : Int32) (c1 c2 c3 c4 c5 c6 c7 c8 c9 c10 c11 c12 c13 c14 : Nat → Int32) (nd : Int32) (d1 d2 d3 d4 d5 d6 d7 d8 d9 d10 d11 d12 d13 d14 : Nat → Int32), rl_RL L (B + 600) (nc, c1, c2, c3, c4, c5, c6, c7, c8, c9, c10, c11, c12, c13, c14) (nd, d1, d2, d3, d4, d5, d6, d7, d8, d9, d10, d11, d12, d13, d14) → J (x4 + 2) nc c1 c2 c3 c4 c5 c6 c7 c8 c9 c10 c11 c12 c13 c14 nd d1 d2 d3 d4 d5 d6 d7 d8 d9 d10 d11 d12 d13 d14)
    {nc : Int32} {c1 c2 c3 c4 c5 c6 c7 c8 c9 c10 c11 c12 c13 c14 : Nat → Int32} {nd : Int32} {d1 d2 d3 d4 d5 d6 d7 d8 d9 d10 d11 d12 d13 d14 : Nat → Int32} (R : rl_RL L B (nc, c1, c2, c3, c4, c5, c6, c7, c8, c9, c10, c11, c12, c13, c14) (nd, d1, d2, d3, d4, d5, d6, d7, d8, d9, d10, d11, d12, d13, d14)) :
    wL_law_292 post N xs J L x4 (nI w) (nI y) kc ks nc c1 c2 c3 c4 c5 c6 c7 c8 c9 c10 c11 c12 c13 c14 nd d1 d2 d3 d4 d5 d6 d7 d8 d9 d10 d11 d12 d13 d14 := by
  have ty : (nI y).toInt = (y : Int) := nI_toInt (by omega)
  have ok : rl_ok L nc B := R.1
  have hnd : nd = nc + L := R.2.1
  have hnL := rl_nowL ok
  obtain ⟨o1, o2, o3, o4, o5⟩ := ok
  subst hnd
  have tn : (nc + nI y).toInt = nc.toInt + (nI y).toInt := rl_add (by omega) (by omega)
  unfold wL_law_292
  refine rl_wpass (by omega) (by omega) (show 0 ≤ nc.toInt by omega) (show nc.toInt + (nI y).toInt ≤ 100000 by omega) (fun u e1 e2 => ?_)
  obtain ⟨nc1, ae1, ae2, ae3, ae4, ae5, ae6, ae7, ae8, ae9, ae10, ae11, ae12, ae13, ae14⟩ := u
  dsimp only at e1 ⊢
  refine nm_e (rl_wpass (by omega) (by omega) (show 0 ≤ (nc + L).toInt by omega) (show (nc + L).toInt + (nI y).toInt ≤ 100000 by omega) (fun u f1 f2 => ?_))
  obtain ⟨nd1, af1, af2, af3, af4, af5, af6, af7, af8, af9, af10, af11, af12, af13, af14⟩ := u
  dsimp only at f1 ⊢
  refine rl_w312 (B := B + 600) h1 h2 H ⟨⟨o1, o2, ?_, ?_, hB⟩, ?_, fun q hq => ?_⟩ ?_
  · dsimp only; rw [e1]; omega
  · dsimp only; rw [e1]; omega
  · dsimp only
    rw [e1, f1]
    grind
  · dsimp only
    rw [e2, f2, e1]
    exact rl_MRmono (show nc.toInt ≤ (nc + nI y).toInt by omega) (by omega) (R.2.2 q hq)
  · grind

theorem rl_bits : ∀ s : Fin 16, ∀ q : Fin 4, rl_bit (nI s.val) q.val = rl_bit ((((((nI s.val &&& 1) <<< ((3 : Int32) &&& 31)) ||| ((nI s.val &&& 2) <<< ((1 : Int32) &&& 31))) ||| ((nI s.val &&& 4) >>> ((1 : Int32) &&& 31))) ||| ((nI s.val &&& 8) >>> ((3 : Int32) &&& 31))) + 16) (3 - q.val) := by
  decide +kernel
theorem rl_kE {L now x x' c : Int32} {B : Int} {v w : rl_V} {q : Nat} (ok : rl_ok L now B) (hb : rl_bit x q = rl_bit x' (3 - q)) (h : rl_MR false L now B v w) : rl_k1 now x c v q = rl_k1 (now + L) x' c w (3 - q) := by
  unfold rl_k1
  rw [hb, rl_MRroom ok (rl_MRcatch ok h)]
theorem rl_t1E {L now x x' c : Int32} {B : Int} {v w : rl_V} {q : Nat} (ok : rl_ok L now B) (hb : rl_bit x q = rl_bit x' (3 - q)) (h : rl_MR false L now B v w) : rl_MR false L now B (rl_t1 now x c v q) (rl_t1 (now + L) x' c w (3 - q)) := by
  unfold rl_t1
  rw [hb, rl_MRroom ok (rl_MRcatch ok h)]
  by_cases h1 : rl_bit x' (3 - q) = true
  · rw [if_pos h1, if_pos h1]
    by_cases h2 : c ≤ rl_room now (rl_catch now v)
    · rw [if_pos h2, if_pos h2]
      exact rl_MRmono (Int.le_refl _) (Int.le_refl _) (rl_MRcatch ok h)
    · rw [if_neg h2, if_neg h2]
      exact rl_MRmono (Int.le_refl _) (Int.le_refl _) (rl_MRdeny (rl_MRcatch ok h))
  · rw [if_neg h1, if_neg h1]
    exact h
theorem rl_t2E {L now x x' c : Int32} {B : Int} {v w : rl_V} {q : Nat} (ok : rl_ok L now B) (hc : 1 ≤ c.toInt ∧ c.toInt ≤ 20) (hb : rl_bit x q = rl_bit x' (3 - q)) (h : rl_MR false L now B v w) (hk : rl_k1 now x c v q = true) :
    rl_MR false L now (B + 300) (rl_t2 now x c (rl_t1 now x c v q) q) (rl_t2 (now + L) x' c (rl_t1 (now + L) x' c w (3 - q)) (3 - q)) := by
  unfold rl_t2 rl_t1
  unfold rl_k1 at hk
  rw [hb] at hk ⊢
  rw [rl_MRroom ok (rl_MRcatch ok h)]
  by_cases h1 : rl_bit x' (3 - q) = true
  · rw [h1] at hk
    have h2 : c ≤ rl_room now (rl_catch now v) := of_decide_eq_true hk
    rw [if_pos h1, if_pos h1, if_pos h1, if_pos h1, if_pos h2, if_pos h2]
    exact rl_MRmono (Int.le_refl _) (Int.le_refl _) (rl_MRgrant ok hc (rl_MRcatch ok h))
  · rw [if_neg h1, if_neg h1, if_neg h1, if_neg h1]
    exact rl_MRmono (Int.le_refl _) (by omega) h
theorem rl_wnumbers {post : Int32 → Prop} {x : Int32} (H : ∀ n : Int32, post n) : wpL_numbers post () x := by
  unfold wpL_numbers
  exact ⟨by decide, nm_e ⟨by decide, nm_e ⟨by decide, nm_e (H _)⟩⟩⟩

theorem rl_w101 {post : Int32 → Prop} {N : Nat} {xs : Nat → Int32} {J : Int32 → Int32 → (Nat → Int32) → (Nat → Int32) → (Nat → Int32) → (Nat → Int32) → (Nat → Int32) → (Nat → Int32) → (Nat → Int32) → (Nat → Int32) → (Nat → Int32) → (Nat → Int32) → (Nat → Int32) → (Nat → Int32) → (Nat → Int32) → (Nat → Int32) → Int32 → (Nat → Int32) → (Nat → Int32) → (Nat → Int32) → (Nat → Int32) → (Nat → Int32) → (Nat → Int32) → (Nat → Int32) → (Nat → Int32) → (Nat → Int32) → (Nat → Int32) → (Nat → Int32) → (Nat → Int32) → (Nat → Int32) → (Nat → Int32) → Prop}
    {L x4 x5 x6 z0 z1 z2 : Int32} {B : Int} {w kc ks m : Nat} (hm : m < 4) (hz : ¬ z0 = 0) (hw : z2 + (z1 - z1 / z0 * z0) = nI w) (h1 : 1 ≤ w) (h2 : w ≤ 20) (hB : B + 600 ≤ 90000)
    (H : ∀ (nc : Int32) (c1 c2 c3 c4 c5 c6 c7 c8 c9 c10 c11 c12 c13 c14 : Nat → Int32) (nd : Int32) (d1 d2 d3 d4 d5 d6 d7 d8 d9 d10 d11 d12 d13 d14 : Nat → Int32), rl_RL L (B + 600) (nc, c1, c2, c3, c4, c5, c6, c7, c8, c9, c10, c11, c12, c13, c14) (nd, d1, d2, d3, d4, d5, d6, d7, d8, d9, d10, d11, d12, d13, d14) → J (x4 + 2) nc c1 c2 c3 c4 c5 c6 c7 c8 c9 c10 c11 c12 c13 c14 nd d1 d2 d3 d4 d5 d6 d7 d8 d9 d10 d11 d12 d13 d14)
    {nc : Int32} {c1 c2 c3 c4 c5 c6 c7 c8 c9 c10 c11 c12 c13 c14 : Nat → Int32} {nd : Int32} {d1 d2 d3 d4 d5 d6 d7 d8 d9 d10 d11 d12 d13 d14 : Nat → Int32} (R : rl_RL L B (nc, c1, c2, c3, c4, c5, c6, c7, c8, c9, c10, c11, c12, c13, c14) (nd, d1, d2, d3, d4, d5, d6, d7, d8, d9, d10, d11, d12, d13, d14)) :
    wL_law_101 post N xs J L x4 x5 x6 (nI m) z0 z1 z2 kc ks nc c1 c2 c3 c4 c5 c6 c7 c8 c9 c10 c11 c12 c13 c14 nd d1 d2 d3 d4 d5 d6 d7 d8 d9 d10 d11 d12 d13 d14 := by
  have ok : rl_ok L nc B := R.1
  have hnd : nd = nc + L := R.2.1
  have tw : (nI w).toInt = (w : Int) := nI_toInt (by omega)
  have hm3 : 3 - m < 4 := by omega
  subst hnd
  have hR : rl_MR false L nc B (rl_vw (nc, c1, c2, c3, c4, c5, c6, c7, c8, c9, c10, c11, c12, c13, c14) m) (rl_vw (nc + L, d1, d2, d3, d4, d5, d6, d7, d8, d9, d10, d11, d12, d13, d14) (3 - m)) := R.2.2 m hm
  have hC := rl_MRcatch ok hR
  have hB0 : B ≤ B + 600 := by omega
  unfold wL_law_101
  rw [rl_3m hm]
  refine ⟨hz, nm_r hw ?_⟩
  refine br_c (fun _ => br_c (fun _ => br_c (fun _ => ?_) (fun _ => ?_)) (fun _ => ?_)) (fun _ => ?_)
  · obtain ⟨y1, hy1, ey1⟩ := pk_andE (x6 >>> ((2 : Int32) &&& 31)) (m := 3) 2 (by decide)
    obtain ⟨y2, hy2, ey2⟩ := pk_andE (x6 >>> ((2 : Int32) &&& 31)) (m := 63) 6 (by decide)
    rw [ey1, ey2]
    have hy1' : y1 < 64 := Nat.lt_trans hy1 (by decide)
    have hy2' : y2 < 64 := hy2
    exact br_c (fun _ => rl_w292 hy1' h1 h2 hB H R) (fun _ => rl_w292 hy2' h1 h2 hB H R)
  · obtain ⟨s, hs, es⟩ := pk_andE (x6 >>> ((10 : Int32) &&& 31)) (m := 15) 4 (by decide)
    refine nm_r es (nm_e ?_)
    have hbit : ∀ q, q < 4 → rl_bit (nI s) q = rl_bit ((((((nI s &&& 1) <<< ((3 : Int32) &&& 31)) ||| ((nI s &&& 2) <<< ((1 : Int32) &&& 31))) ||| ((nI s &&& 4) >>> ((1 : Int32) &&& 31))) ||| ((nI s &&& 8) >>> ((3 : Int32) &&& 31))) + 16) (3 - q) :=
      fun q hq => rl_bits ⟨s, hs⟩ ⟨q, hq⟩
    generalize (((((nI s &&& 1) <<< ((3 : Int32) &&& 31)) ||| ((nI s &&& 2) <<< ((1 : Int32) &&& 31))) ||| ((nI s &&& 4) >>> ((1 : Int32) &&& 31))) ||| ((nI s &&& 8) >>> ((3 : Int32) &&& 31))) + 16 = x' at hbit ⊢
    have hk : ∀ q, q < 4 → rl_k1 nc (nI s) (nI w) (rl_vw (nc, c1, c2, c3, c4, c5, c6, c7, c8, c9, c10, c11, c12, c13, c14) q) q = rl_k1 (nc + L) x' (nI w) (rl_vw (nc + L, d1, d2, d3, d4, d5, d6, d7, d8, d9, d10, d11, d12, d13, d14) (3 - q)) (3 - q) :=
      fun q hq => rl_kE ok (hbit q hq) (R.2.2 q hq)
    have hall : rl_all nc (nI s) (nI w) (rl_vw (nc, c1, c2, c3, c4, c5, c6, c7, c8, c9, c10, c11, c12, c13, c14)) = rl_all (nc + L) x' (nI w) (rl_vw (nc + L, d1, d2, d3, d4, d5, d6, d7, d8, d9, d10, d11, d12, d13, d14)) := by
      unfold rl_all
      rw [hk 0 (by decide), hk 1 (by decide), hk 2 (by decide), hk 3 (by decide)]
      show (rl_k1 _ _ _ (rl_vw _ 3) 3 && rl_k1 _ _ _ (rl_vw _ 2) 2 && rl_k1 _ _ _ (rl_vw _ 1) 1 && rl_k1 _ _ _ (rl_vw _ 0) 0) = _
      generalize rl_k1 (nc + L) x' (nI w) (rl_vw (nc + L, d1, d2, d3, d4, d5, d6, d7, d8, d9, d10, d11, d12, d13, d14) 0) 0 = b0
      generalize rl_k1 (nc + L) x' (nI w) (rl_vw (nc + L, d1, d2, d3, d4, d5, d6, d7, d8, d9, d10, d11, d12, d13, d14) 1) 1 = b1
      generalize rl_k1 (nc + L) x' (nI w) (rl_vw (nc + L, d1, d2, d3, d4, d5, d6, d7, d8, d9, d10, d11, d12, d13, d14) 2) 2 = b2
      generalize rl_k1 (nc + L) x' (nI w) (rl_vw (nc + L, d1, d2, d3, d4, d5, d6, d7, d8, d9, d10, d11, d12, d13, d14) 3) 3 = b3
      cases b0 <;> cases b1 <;> cases b2 <;> cases b3 <;> rfl
    have hdc : ∀ q, q < 4 → rl_hd (rl_vw (nc, c1, c2, c3, c4, c5, c6, c7, c8, c9, c10, c11, c12, c13, c14) q) := fun q hq => (rl_MRhd (R.2.2 q hq)).1
    have hdd : ∀ q, q < 4 → rl_hd (rl_vw (nc + L, d1, d2, d3, d4, d5, d6, d7, d8, d9, d10, d11, d12, d13, d14) q) := fun q hq => by
      have := (rl_MRhd (R.2.2 (3 - q) (by omega))).2
      rw [show 3 - (3 - q) = q by omega] at this
      exact this
    refine rl_waskAll h1 h2 hdc (fun ha u e1 e2 => ?_) (fun ha u e1 e2 => ?_)
    · obtain ⟨nc1, ae1, ae2, ae3, ae4, ae5, ae6, ae7, ae8, ae9, ae10, ae11, ae12, ae13, ae14⟩ := u
      dsimp only at e1 e2 ha ⊢
      refine rl_waskAll h1 h2 hdd (fun hb u f1 f2 => ?_) (fun hb u f1 f2 => ?_)
      · obtain ⟨nd1, af1, af2, af3, af4, af5, af6, af7, af8, af9, af10, af11, af12, af13, af14⟩ := u
        dsimp only at f1 f2 ⊢
        subst e1
        subst f1
        refine rl_w312 (B := B + 600) h1 h2 H (rl_RLmono (B := B + 300) ⟨⟨ok.1, ok.2.1, ok.2.2.1, ?_, ?_⟩, rfl, fun q hq => ?_⟩ (by omega) hB) rfl
        · dsimp only
          have := ok.2.2.2.1
          omega
        · omega
        · dsimp only
          rw [e2 q hq, f2 (3 - q) (by omega)]
          refine rl_t2E ok (by omega) (hbit q hq) (R.2.2 q hq) ?_
          unfold rl_all at ha
          rw [Bool.and_eq_true, Bool.and_eq_true, Bool.and_eq_true] at ha
          exact co_4 (P := fun q => rl_k1 nc1 (nI s) (nI w) (rl_vw (nc1, c1, c2, c3, c4, c5, c6, c7, c8, c9, c10, c11, c12, c13, c14) q) q = true) ha.1.1.1 ha.1.1.2 ha.1.2 ha.2 hq
      · dsimp only at hb
        rw [← hall, ha] at hb
        exact absurd hb (by decide)
    · obtain ⟨nc1, ae1, ae2, ae3, ae4, ae5, ae6, ae7, ae8, ae9, ae10, ae11, ae12, ae13, ae14⟩ := u
      dsimp only at e1 e2 ha ⊢
      refine rl_waskAll h1 h2 hdd (fun hb u f1 f2 => ?_) (fun hb u f1 f2 => ?_)
      · dsimp only at hb
        rw [← hall, ha] at hb
        exact absurd hb (by decide)
      · obtain ⟨nd1, af1, af2, af3, af4, af5, af6, af7, af8, af9, af10, af11, af12, af13, af14⟩ := u
        dsimp only at f1 f2 ⊢
        subst e1
        subst f1
        refine rl_w312 (B := B + 600) h1 h2 H (rl_RLmono (B := B) ⟨ok, rfl, fun q hq => ?_⟩ hB0 hB) rfl
        dsimp only
        rw [e2 q hq, f2 (3 - q) (by omega)]
        exact rl_t1E ok (hbit q hq) (R.2.2 q hq)
  · have hroom := rl_MRroom ok hC
    refine rl_wask hm h1 h2 (rl_MRhd hR).1 (fun ha u e1 e2 => ?_) (fun ha u e1 e2 => ?_)
    · obtain ⟨nc1, ae1, ae2, ae3, ae4, ae5, ae6, ae7, ae8, ae9, ae10, ae11, ae12, ae13, ae14⟩ := u
      dsimp only at ha ⊢
      refine rl_wask hm3 h1 h2 (rl_MRhd hR).2 (fun hb u f1 f2 => ?_) (fun hb => absurd (show nI w ≤ rl_room (nc + L) (rl_catch (nc + L) (rl_vw (nc + L, d1, d2, d3, d4, d5, d6, d7, d8, d9, d10, d11, d12, d13, d14) (3 - m))) by rw [hroom]; exact ha) hb)
      obtain ⟨nd1, af1, af2, af3, af4, af5, af6, af7, af8, af9, af10, af11, af12, af13, af14⟩ := u
      dsimp only
      exact rl_w312 (B := B + 600) h1 h2 H (rl_RLmono (rl_RLset R hm e1 e2 f1 f2 (B' := B + 300) (by omega) (by omega) (rl_MRgrant ok (by omega) hC)) (by omega) hB) rfl
    · obtain ⟨nc1, ae1, ae2, ae3, ae4, ae5, ae6, ae7, ae8, ae9, ae10, ae11, ae12, ae13, ae14⟩ := u
      dsimp only at ha ⊢
      refine rl_wask hm3 h1 h2 (rl_MRhd hR).2 (fun hb => absurd (by dsimp only at hb; rw [hroom] at hb; exact hb) ha) (fun hb u f1 f2 => ?_)
      obtain ⟨nd1, af1, af2, af3, af4, af5, af6, af7, af8, af9, af10, af11, af12, af13, af14⟩ := u
      dsimp only
      exact rl_w312 (B := B + 600) h1 h2 H (rl_RLmono (rl_RLset R hm e1 e2 f1 f2 (Int.le_refl _) ok.2.2.2.2 (rl_MRdeny hC)) hB0 hB) rfl
  · refine rl_wnumbers (fun n => ?_)
    refine rl_wset hm (fun x ex hx => ?_) (fun ex hbd u e1 e2 => ?_)
    · dsimp only
      refine rl_wset hm3 (fun x2 ex2 hx2 => ?_) (fun ex2 => absurd (ex.symm.trans ex2) hx)
      dsimp only
      exact rl_w312 (B := B + 600) h1 h2 H (rl_RLmono R hB0 hB) (ex.symm.trans ex2)
    · obtain ⟨nc1, ae1, ae2, ae3, ae4, ae5, ae6, ae7, ae8, ae9, ae10, ae11, ae12, ae13, ae14⟩ := u
      dsimp only
      refine rl_wset hm3 (fun x2 ex2 hx2 => absurd (ex2.symm.trans ex) hx2) (fun ex2 hbd2 u f1 f2 => ?_)
      obtain ⟨nd1, af1, af2, af3, af4, af5, af6, af7, af8, af9, af10, af11, af12, af13, af14⟩ := u
      dsimp only
      exact rl_w312 (B := B + 600) h1 h2 H (rl_RLmono (rl_RLset R hm e1 e2 f1 f2 (Int.le_refl _) ok.2.2.2.2 (rl_MRstart ok hbd _ _)) hB0 hB) rfl
end
section
/-! the law's own loop, and what is owed -/
theorem rl_w46 {post : Int32 → Prop} (hpost : post 1) {N : Nat} (hN : N ≤ 260) {xs : Nat → Int32} {L : Int32} {kc ks : Nat} :
    ∀ (n k : Nat) (nc : Int32) (c1 c2 c3 c4 c5 c6 c7 c8 c9 c10 c11 c12 c13 c14 : Nat → Int32) (nd : Int32) (d1 d2 d3 d4 d5 d6 d7 d8 d9 d10 d11 d12 d13 d14 : Nat → Int32), N ≤ k + n + 1 → k ≤ 262 → rl_RL L (300 * (k : Int)) (nc, c1, c2, c3, c4, c5, c6, c7, c8, c9, c10, c11, c12, c13, c14) (nd, d1, d2, d3, d4, d5, d6, d7, d8, d9, d10, d11, d12, d13, d14) →
    wL_law_46 post N xs L kc ks (n + 1) (nI k) nc c1 c2 c3 c4 c5 c6 c7 c8 c9 c10 c11 c12 c13 c14 nd d1 d2 d3 d4 d5 d6 d7 d8 d9 d10 d11 d12 d13 d14 := by
  intro n
  induction n with
  | zero =>
    intro k nc c1 c2 c3 c4 c5 c6 c7 c8 c9 c10 c11 c12 c13 c14 nd d1 d2 d3 d4 d5 d6 d7 d8 d9 d10 d11 d12 d13 d14 hn hk R
    unfold wL_law_46
    rw [nI_1]
    exact pk_le N (k + 1) (fun _ => hpost) (fun hlt => absurd hlt (by omega))
  | succ n' ih =>
    intro k nc c1 c2 c3 c4 c5 c6 c7 c8 c9 c10 c11 c12 c13 c14 nd d1 d2 d3 d4 d5 d6 d7 d8 d9 d10 d11 d12 d13 d14 hn hk R
    unfold wL_law_46
    rw [nI_1]
    refine pk_le N (k + 1) (fun _ => hpost) (fun hlt => ?_)
    refine ⟨pk_in k N (by omega), fun x5 _ => ⟨pk_in (k + 1) N hlt, fun x6 _ => ?_⟩⟩
    obtain ⟨m, hm, em⟩ := pk_andE x6 (m := 3) 2 (by decide)
    have hm' : m < 4 := hm
    obtain ⟨y, hy, ey⟩ := pk_andE (x6 >>> ((2 : Int32) &&& 31)) (m := 255) 8 (by decide)
    have hy' : y < 256 := hy
    refine nm_r em ?_
    rw [ey]
    have H : ∀ (nc : Int32) (c1 c2 c3 c4 c5 c6 c7 c8 c9 c10 c11 c12 c13 c14 : Nat → Int32) (nd : Int32) (d1 d2 d3 d4 d5 d6 d7 d8 d9 d10 d11 d12 d13 d14 : Nat → Int32), rl_RL L (300 * (k : Int) + 600) (nc, c1, c2, c3, c4, c5, c6, c7, c8, c9, c10, c11, c12, c13, c14) (nd, d1, d2, d3, d4, d5, d6, d7, d8, d9, d10, d11, d12, d13, d14) → wL_law_46 post N xs L kc ks (n' + 1) (nI k + 2) nc c1 c2 c3 c4 c5 c6 c7 c8 c9 c10 c11 c12 c13 c14 nd d1 d2 d3 d4 d5 d6 d7 d8 d9 d10 d11 d12 d13 d14 := by
      intro nc c1 c2 c3 c4 c5 c6 c7 c8 c9 c10 c11 c12 c13 c14 nd d1 d2 d3 d4 d5 d6 d7 d8 d9 d10 d11 d12 d13 d14 R'
      have e : nI k + 2 = nI (k + 2) := nI_add k 2
      rw [e]
      refine ih (k + 2) nc c1 c2 c3 c4 c5 c6 c7 c8 c9 c10 c11 c12 c13 c14 nd d1 d2 d3 d4 d5 d6 d7 d8 d9 d10 d11 d12 d13 d14 (by omega) (by omega) ?_
      rw [show (300 * ((k + 2 : Nat) : Int)) = 300 * (k : Int) + 600 by omega]
      exact R'
    refine br_c (fun _ => ?_) (fun _ => ?_)
    · refine rl_w101 (w := 1 + y % 5) hm' (by decide) ?_ (by omega) (by omega) (by omega) H R
      rw [show (5 : Int32) = nI 5 from rfl, pk_rem (by omega) (by decide) (by decide)]
      exact nI_add 1 (y % 5)
    · refine rl_w101 (w := 1 + y % 20) hm' (by decide) ?_ (by omega) (by omega) (by omega) H R
      rw [show (20 : Int32) = nI 20 from rfl, pk_rem (by omega) (by decide) (by decide)]
      exact nI_add 1 (y % 20)

theorem rl_w36 {post : Int32 → Prop} (hpost : post 1) {N : Nat} (hN : N ≤ 260) {xs : Nat → Int32} {l : Nat} (hl : l ≤ 1000) {kc ks : Nat}
    {nc : Int32} {c1 c2 c3 c4 c5 c6 c7 c8 c9 c10 c11 c12 c13 c14 : Nat → Int32} {nd : Int32} {d1 d2 d3 d4 d5 d6 d7 d8 d9 d10 d11 d12 d13 d14 : Nat → Int32} (hc : nc = 0) (hd : nd = 0)
    (hC : ∀ q, q < 4 → ∃ v, rl_vw (nc, c1, c2, c3, c4, c5, c6, c7, c8, c9, c10, c11, c12, c13, c14) q = rl_start 0 0 1 10 1 v) (hD : ∀ q, q < 4 → ∃ v, rl_vw (nd, d1, d2, d3, d4, d5, d6, d7, d8, d9, d10, d11, d12, d13, d14) q = rl_start 0 0 1 10 1 v) :
    wL_law_36 post N xs (nI l) kc ks nc c1 c2 c3 c4 c5 c6 c7 c8 c9 c10 c11 c12 c13 c14 nd d1 d2 d3 d4 d5 d6 d7 d8 d9 d10 d11 d12 d13 d14 := by
  have tl : (nI l).toInt = (l : Int) := nI_toInt (by omega)
  have z0 : (0 : Int32).toInt = 0 := by decide
  subst hc
  subst hd
  unfold wL_law_36
  refine rl_wpass (by omega) (by omega) (show 0 ≤ (0 : Int32).toInt by omega) (show (0 : Int32).toInt + (nI l).toInt ≤ 100000 by omega) (fun u e1 e2 => ?_)
  obtain ⟨nd1, af1, af2, af3, af4, af5, af6, af7, af8, af9, af10, af11, af12, af13, af14⟩ := u
  dsimp only at e1 ⊢
  refine ⟨N + 1, rl_w46 hpost hN N 1 0 c1 c2 c3 c4 c5 c6 c7 c8 c9 c10 c11 c12 c13 c14 nd1 af1 af2 af3 af4 af5 af6 af7 af8 af9 af10 af11 af12 af13 af14 (by omega) (by omega) ⟨⟨by omega, by omega, ?_, ?_, by omega⟩, e1, fun q hq => ?_⟩⟩
  · show 0 ≤ (0 : Int32).toInt
    omega
  · show (0 : Int32).toInt ≤ _
    omega
  · dsimp only
    rw [e2]
    obtain ⟨v, ev⟩ := hC q hq
    obtain ⟨w, ew⟩ := hD (3 - q) (by omega)
    rw [ev, ew]
    exact rl_MRfirst (by omega) (by omega) (by unfold rl_BD; decide) v w

theorem i_vc (xs : Nat → Int32) (L : Nat) (hL : L ≤ 260) : wpL_law (fun r => r = 1) L xs := by
  unfold wpL_law
  refine ⟨14, 304, by decide, by decide, rl_winit (fun u e1 e2 => ?_)⟩
  obtain ⟨nc, c1, c2, c3, c4, c5, c6, c7, c8, c9, c10, c11, c12, c13, c14⟩ := u
  dsimp only at e1 ⊢
  refine ⟨by decide, by decide, 14, 304, by decide, by decide, rl_winit (fun u f1 f2 => ?_)⟩
  obtain ⟨nd, d1, d2, d3, d4, d5, d6, d7, d8, d9, d10, d11, d12, d13, d14⟩ := u
  dsimp only at f1 ⊢
  refine pk_le L 0 (fun _ => ?_) (fun hl => ⟨pk_in 0 L hl, by decide, ?_⟩)
  · exact rl_w36 (post := fun r => r = 1) (l := 77) rfl hL (by omega) e1 f1 e2 f2
  · obtain ⟨y, hy, ey⟩ := pk_andE (xs (0 : Int32).toNatClampNeg) (m := 2147483647) 31 (by decide)
    rw [ey, show (1001 : Int32) = nI 1001 from rfl, pk_rem hy (by decide) (by decide)]
    exact rl_w36 (post := fun r => r = 1) rfl hL (by omega) e1 f1 e2 f2
end
