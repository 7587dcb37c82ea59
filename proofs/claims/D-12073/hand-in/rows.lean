section
/-- a field's number out of its six digits -/
def rb_N (x y a b p q : Nat) : Nat := x + 10 * y + 100 * a + 1000 * b + 10000 * p + 100000 * q
/-- v is the good field with these digits -/
def rb_G (v : Int32) (x y a b p q : Nat) : Prop := x < y ∧ y ≤ 9 ∧ a ≤ 5 ∧ b ≤ 5 ∧ p ≤ 2 ∧ q ≤ 2 ∧ v = nI (rb_N x y a b p q)
def rb_D (v : Int32) : Prop := ∃ x y a b p q, rb_G v x y a b p q
/-- the digits of a frame's field and of the next one's -/
def rb_S (x y a b x' y' a' b' p' q' : Nat) : Prop := x' < y' ∧ y' ≤ 9 ∧ x' ≤ x + 1 ∧ x ≤ x' + 1 ∧ y' ≤ y + 1 ∧ y ≤ y' + 1 ∧ a' ≤ a ∧ a ≤ a' + 1 ∧ b' ≤ b ∧ b ≤ b' + 1 ∧ (a = a' ∧ b = b' ∨ y' ≤ x' + 1) ∧ p' ≤ 2 ∧ q' ≤ 2
/-- w may follow v -/
def rb_F (v w : Int32) : Prop := ∃ x y a b p q x' y' a' b' p' q', rb_G v x y a b p q ∧ rb_G w x' y' a' b' p' q' ∧ rb_S x y a b x' y' a' b' p' q' ∧ (a = 0 ∨ b = 0 → w = v)
/-- the field is over, as it is printed -/
def rb_O (v : Int32) : Prop := (v / 100) - (v / 100) / 10 * 10 = 0 ∨ (v / 1000) - (v / 1000) / 10 * 10 = 0
/-- the saved fields -/
def rb_C (s : Nat → Int32) : Prop := s 0 = 5572 ∧ ∀ g, g < 40 → rb_F (s g) (s (g + 1))
theorem rb_b : ∀ n, n < 128 → (nI n).toInt8.toInt32 = nI n := by decide +kernel
theorem rb_rem {N d k : Nat} (hN : N < 2 ^ 31) (h0 : 0 < d) (hd : d < 2 ^ 31) (hk : N / d % 10 = k) : nI N / nI d - nI N / nI d / nI 10 * nI 10 = nI k := by
  have h : N / d < 2 ^ 31 := Nat.lt_of_le_of_lt (Nat.div_le_self N d) hN
  rw [pk_div hN h0 hd, pk_rem h (by omega) (by omega), hk]
theorem rb_N_lt {x y a b p q : Nat} (h1 : x < y) (h2 : y ≤ 9) (h3 : a ≤ 5) (h4 : b ≤ 5) (h5 : p ≤ 2) (h6 : q ≤ 2) : rb_N x y a b p q < 2 ^ 31 := by
  unfold rb_N; omega
theorem rb_digs {v : Int32} {x y a b p q : Nat} (h : rb_G v x y a b p q) :
    v - v / 10 * 10 = nI x ∧ v / 10 - v / 10 / 10 * 10 = nI y ∧ v / 100 - v / 100 / 10 * 10 = nI a ∧ v / 1000 - v / 1000 / 10 * 10 = nI b ∧ v / 10000 - v / 10000 / 10 * 10 = nI p ∧ v / 100000 = nI q := by
  obtain ⟨h1, h2, h3, h4, h5, h6, rfl⟩ := h
  have hN := rb_N_lt h1 h2 h3 h4 h5 h6
  refine ⟨?_, ?_, ?_, ?_, ?_, ?_⟩
  · refine (pk_rem (d := 10) hN (by omega) (by omega)).trans ?_
    rw [show rb_N x y a b p q % 10 = x by unfold rb_N; omega]
  · exact rb_rem (d := 10) hN (by omega) (by omega) (by unfold rb_N; omega)
  · exact rb_rem (d := 100) hN (by omega) (by omega) (by unfold rb_N; omega)
  · exact rb_rem (d := 1000) hN (by omega) (by omega) (by unfold rb_N; omega)
  · exact rb_rem (d := 10000) hN (by omega) (by omega) (by unfold rb_N; omega)
  · refine (pk_div (d := 100000) hN (by omega) (by omega)).trans ?_
    rw [show rb_N x y a b p q / 100000 = q by unfold rb_N; omega]
theorem rb_O_iff {v : Int32} {x y a b p q : Nat} (h : rb_G v x y a b p q) : rb_O v ↔ (a = 0 ∨ b = 0) := by
  obtain ⟨_, _, h2, h3, _, _⟩ := rb_digs h
  obtain ⟨_, _, g3, g4, _, _, _⟩ := h
  unfold rb_O
  rw [h2, h3, ← nI_0, nI_eq (by omega) (by omega), nI_eq (by omega) (by omega)]
theorem rb_F_D {v w : Int32} (h : rb_F v w) : rb_D w := by
  obtain ⟨_, _, _, _, _, _, x', y', a', b', p', q', _, h, _⟩ := h
  exact ⟨x', y', a', b', p', q', h⟩
theorem rb_F_D0 {v w : Int32} (h : rb_F v w) : rb_D v := by
  obtain ⟨x, y, a, b, p, q, _, _, _, _, _, _, h, _⟩ := h
  exact ⟨x, y, a, b, p, q, h⟩
theorem rb_F_O {v w : Int32} (h : rb_F v w) (ho : rb_O v) : rb_O w := by
  obtain ⟨x, y, a, b, p, q, _, _, _, _, _, _, h, _, _, e⟩ := h
  rw [e ((rb_O_iff h).mp ho)]
  exact ho
theorem rb_G0 : rb_G 5572 2 7 5 5 0 0 := ⟨by omega, by omega, by omega, by omega, by omega, by omega, rfl⟩
theorem rb_C_D {s : Nat → Int32} (h : rb_C s) {g : Nat} (hg : g ≤ 40) : rb_D (s g) := by
  cases g with
  | zero => rw [h.1]; exact ⟨_, _, _, _, _, _, rb_G0⟩
  | succ g => exact rb_F_D (h.2 g (by omega))
theorem rb_C_O {s : Nat → Int32} (h : rb_C s) {g : Nat} (ho : rb_O (s g)) : ∀ d, g + d ≤ 40 → rb_O (s (g + d)) := by
  intro d
  induction d with
  | zero => exact fun _ => ho
  | succ d ih => exact fun hd => rb_F_O (h.2 (g + d) (by omega)) (ih (by omega))
end
section
theorem rb_load {post : St1 → Prop} {f : Int32} {a1 a2 a3 a4 a5 a6 : Nat → Int32} {v : Int32} {x y a b p q : Nat} (h : rb_G v x y a b p q)
    (H : ∀ b4 b5 b6 : Nat → Int32, b4 0 = nI x → b4 1 = nI y → b5 0 = nI a → b5 1 = nI b → b6 0 = nI p → b6 1 = nI q → post (f, a1, a2, a3, b4, b5, b6)) :
    wpX_load post (f, a1, a2, a3, a4, a5, a6) v := by
  obtain ⟨h0, h1, h2, h3, h4, h5⟩ := rb_digs h
  obtain ⟨g0, g1, g2, g3, g4, g5, _⟩ := h
  refine ⟨by decide, fun c4 e1 => ⟨by decide, by decide, fun d4 e2 => ⟨by decide, by decide, fun c5 e3 => ⟨by decide, by decide, fun d5 e4 => ⟨by decide, by decide, fun c6 e5 => ⟨by decide, fun d6 e6 => H d4 d5 d6 ?_ ?_ ?_ ?_ ?_ ?_⟩⟩⟩⟩⟩⟩
  · rw [e2, pk_un (by decide), e1, pk_us, h0, rb_b _ (by omega)]
  · rw [e2, pk_us, h1, rb_b _ (by omega)]
  · rw [e4, pk_un (by decide), e3, pk_us, h2, rb_b _ (by omega)]
  · rw [e4, pk_us, h3, rb_b _ (by omega)]
  · rw [e6, pk_un (by decide), e5, pk_us, h4, rb_b _ (by omega)]
  · rw [e6, pk_us, h5, rb_b _ (by omega)]
theorem rb_isOver {post : Int32 → Prop} {v : Int32} (H1 : rb_O v → post 1) (H0 : ¬ rb_O v → post 0) : wpX_isOver post () v :=
  ⟨by decide, by decide, br_c (fun z => H1 (Or.inl z)) (fun z => ⟨by decide, by decide, br_c (fun w => H1 (Or.inr w)) (fun w => H0 (fun t => t.elim z w))⟩)⟩
theorem rb_go36 {post : St1 → Prop} {f : Int32} {a1 a2 a3 a4 a5 a6 : Nat → Int32} {i : Int32} {P Q c o c' : Nat} (hi : i = nI P) (hj : 1 - i = nI Q) (hP : P < 2) (hQ : Q < 2) (hPQ : P ≠ Q) (hc : a4 P = nI c) (ho : a4 Q = nI o) (bc : c ≤ 9) (bo : o ≤ 9) (hco : c ≠ o)
    (H : ∀ (b4 : Nat → Int32) (c' : Nat), c' ≤ 9 → c' ≤ c + 1 → c ≤ c' + 1 → c' ≠ o → b4 P = nI c' → b4 Q = nI o → post (f, a1, a2, a3, b4, a5, a6))
    (l1 : c' ≤ 9) (l2 : c' ≤ c + 1) (l3 : c ≤ c' + 1) : wX_go_36 post i (nI c') f a1 a2 a3 a4 a5 a6 := by
  have eQ : (1 - i).toNatClampNeg = Q := pk_cl Q hj
  have eP : i.toNatClampNeg = P := pk_cl P hi
  unfold wX_go_36
  rw [eQ, eP, ho]
  refine ⟨pk_in Q 2 hQ hj, pk_eq c' o (fun _ => H a4 c bc (by omega) (by omega) hco hc ho) (fun z => ⟨pk_in P 2 hP hi, fun b4 e => H b4 c' l1 l2 l3 z ?_ ?_⟩)⟩
  · rw [e, pk_us, rb_b _ (by omega)]
  · rw [e, pk_un (fun t => hPQ t.symm), ho]
theorem rb_go {post : St1 → Prop} {f : Int32} {a1 a2 a3 a4 a5 a6 : Nat → Int32} {i m : Int32} {P Q c o : Nat} (hi : i = nI P) (hj : 1 - i = nI Q) (hP : P < 2) (hQ : Q < 2) (hPQ : P ≠ Q) (hc : a4 P = nI c) (ho : a4 Q = nI o) (bc : c ≤ 9) (bo : o ≤ 9) (hco : c ≠ o)
    (H : ∀ (b4 : Nat → Int32) (c' : Nat), c' ≤ 9 → c' ≤ c + 1 → c ≤ c' + 1 → c' ≠ o → b4 P = nI c' → b4 Q = nI o → post (f, a1, a2, a3, b4, a5, a6)) :
    wpX_go post (f, a1, a2, a3, a4, a5, a6) i m := by
  have eP : i.toNatClampNeg = P := pk_cl P hi
  have g36 : ∀ c', c' ≤ 9 → c' ≤ c + 1 → c ≤ c' + 1 → wX_go_36 post i (nI c') f a1 a2 a3 a4 a5 a6 := fun c' l1 l2 l3 => rb_go36 hi hj hP hQ hPQ hc ho bc bo hco H l1 l2 l3
  have g22 : wX_go_22 post i m (nI c) f a1 a2 a3 a4 a5 a6 :=
    br_c (fun _ => pk_le 9 c (fun _ => g36 c bc (by omega) (by omega)) (fun z => nm_r (nI_1 c) (g36 (c + 1) (by omega) (by omega) (by omega)))) (fun _ => g36 c bc (by omega) (by omega))
  refine ⟨pk_in P 2 hP hi, nm_r (e' := nI c) (by rw [eP]; exact hc) ?_⟩
  exact br_c (fun _ => pk_le c 0 (fun _ => g22) (fun z => nm_r (sb_m1 z) (g36 (c - 1) (by omega) (by omega) (by omega)))) (fun _ => g22)
theorem rb_strike {post : St1 → Prop} {f : Int32} {a1 a2 a3 a4 a5 a6 : Nat → Int32} {i m z : Int32} {P Q c : Nat} (hi : i = nI P) (hj : 1 - i = nI Q) (hP : P < 2) (hQ : Q < 2) (hPQ : P ≠ Q) (hc : a5 Q = nI c) (bc : c ≤ 5)
    (H : ∀ (b5 b6 : Nat → Int32) (c' : Nat), c' ≤ c → c ≤ c' + 1 → (c' = c ∨ z ≠ 0) → b5 Q = nI c' → b5 P = a5 P → (b6 P = a6 P ∨ b6 P = nI 2) → b6 Q = a6 Q → post (f, a1, a2, a3, a4, b5, b6)) :
    wpX_strike post (f, a1, a2, a3, a4, a5, a6) i m z := by
  have eQ : (1 - i).toNatClampNeg = Q := pk_cl Q hj
  have eP : i.toNatClampNeg = P := pk_cl P hi
  have iQ : vp_in (1 - i) 2 := pk_in Q 2 hQ hj
  have u6 : ∀ b6, b6 = upd a6 i.toNatClampNeg 2 → (b6 P = a6 P ∨ b6 P = nI 2) ∧ b6 Q = a6 Q := by
    intro b6 e
    rw [e, eP, pk_us, pk_un (fun t => hPQ t.symm)]
    exact ⟨Or.inr rfl, rfl⟩
  have s47 : ∀ b6, b6 = upd a6 i.toNatClampNeg 2 → wX_strike_47 post i (1 - i) f a1 a2 a3 a4 a5 b6 := by
    intro b6 e6
    refine ⟨iQ, iQ, fun b5 e5 => H b5 b6 c (by omega) (by omega) (Or.inl rfl) ?_ ?_ (u6 b6 e6).1 (u6 b6 e6).2⟩
    · rw [e5, eQ, pk_us, hc, rb_b _ (by omega)]
    · rw [e5, eQ, pk_un hPQ]
  refine br_c (fun _ => ⟨pk_in P 2 hP hi, fun b6 e6 => br_c (fun _ => s47 b6 e6) (fun hz => ⟨iQ, ?_⟩)⟩) (fun _ => H a5 a6 c (by omega) (by omega) (Or.inl rfl) hc rfl (Or.inl rfl) rfl)
  refine pk_le c 0 (fun _ => s47 b6 e6) (fun hc0 => ⟨iQ, iQ, fun b5 e5 => H b5 b6 (c - 1) (by omega) (by omega) (Or.inr hz) ?_ ?_ (u6 b6 e6).1 (u6 b6 e6).2⟩) (by rw [eQ]; exact hc)
  · rw [e5, eQ, pk_us, hc, show nI c - 1 = nI (c - 1) from pk_sub (b := 1) (by omega), rb_b _ (by omega)]
  · rw [e5, eQ, pk_un hPQ]
theorem rb_sum (x y a b p q : Nat) : ((((nI x + 10 * nI y) + 100 * nI a) + 1000 * nI b) + 10000 * nI p) + 100000 * nI q = nI (rb_N x y a b p q) := by
  show ((((nI x + nI 10 * nI y) + nI 100 * nI a) + nI 1000 * nI b) + nI 10000 * nI p) + nI 100000 * nI q = nI (rb_N x y a b p q)
  rw [pk_mul, pk_mul, pk_mul, pk_mul, pk_mul, nI_add, nI_add, nI_add, nI_add, nI_add]
  rfl
theorem rb_pack {post : Int32 → Prop} {f : Int32} {a1 a2 a3 a4 a5 a6 : Nat → Int32} {x y a b p q : Nat} (h0 : a4 0 = nI x) (h1 : a4 1 = nI y) (h2 : a5 0 = nI a) (h3 : a5 1 = nI b) (h4 : a6 0 = nI p) (h5 : a6 1 = nI q)
    (H : post (nI (rb_N x y a b p q))) : wpX_pack post (f, a1, a2, a3, a4, a5, a6) := by
  show post (((((a4 0 + 10 * a4 1) + 100 * a5 0) + 1000 * a5 1) + 10000 * a6 0) + 100000 * a6 1)
  rw [h0, h1, h2, h3, h4, h5, rb_sum]
  exact H
theorem rb_148 {post : Int32 → St1 → Prop} {x4 x5 z f : Int32} {a1 a2 a3 a4 a5 a6 : Nat → Int32} {x y a b p q : Nat} (h0 : a4 0 = nI x) (h1 : a4 1 = nI y) (h2 : a5 0 = nI a) (h3 : a5 1 = nI b) (h4 : a6 0 = nI p) (h5 : a6 1 = nI q)
    (ba : a ≤ 5) (bb : b ≤ 5) (bp : p ≤ 2) (bq : q ≤ 2) (hz : z ≠ 0 → y ≤ x + 1)
    (H : ∀ (a' b' p' q' : Nat) (b4 b5 b6 : Nat → Int32), a' ≤ a → a ≤ a' + 1 → b' ≤ b → b ≤ b' + 1 → (a = a' ∧ b = b' ∨ y ≤ x + 1) → p' ≤ 2 → q' ≤ 2 → post (nI (rb_N x y a' b' p' q')) (f, a1, a2, a3, b4, b5, b6)) :
    wX_step_148 post x4 x5 z f a1 a2 a3 a4 a5 a6 := by
  refine rb_strike (P := 0) (Q := 1) (c := b) rfl (by decide) (by omega) (by omega) (by omega) h3 bb (fun b5 b6 b' l1 l2 l3 e1 e2 e3 e4 => ?_)
  refine rb_strike (P := 1) (Q := 0) (c := a) rfl (by decide) (by omega) (by omega) (by omega) (e2.trans h2) ba (fun c5 c6 a' m1 m2 m3 g1 g2 g3 g4 => ?_)
  have hp : ∃ p', p' ≤ 2 ∧ c6 0 = nI p' := by
    rcases e3 with e | e
    · exact ⟨p, bp, by rw [g4, e, h4]⟩
    · exact ⟨2, by omega, by rw [g4, e]⟩
  have hq : ∃ q', q' ≤ 2 ∧ c6 1 = nI q' := by
    rcases g3 with e | e
    · exact ⟨q, bq, by rw [e, e4, h5]⟩
    · exact ⟨2, by omega, e⟩
  obtain ⟨p', bp', hp'⟩ := hp
  obtain ⟨q', bq', hq'⟩ := hq
  have hn : a = a' ∧ b = b' ∨ y ≤ x + 1 := by
    rcases l3 with l3 | l3
    · rcases m3 with m3 | m3
      · exact Or.inl ⟨m3.symm, l3.symm⟩
      · exact Or.inr (hz m3)
    · exact Or.inr (hz l3)
  exact rb_pack h0 h1 g1 (g2.trans e1) hp' hq' (H a' b' p' q' a4 c5 c6 m1 m2 l1 l2 hn bp' bq')
theorem rb_100 {post : Int32 → St1 → Prop} {x4 x5 z0 f : Int32} {a1 a2 a3 a4 a5 a6 : Nat → Int32} {x y a b p q : Nat} (h0 : a4 0 = nI x) (h1 : a4 1 = nI y) (h2 : a5 0 = nI a) (h3 : a5 1 = nI b) (h4 : a6 0 = nI p) (h5 : z0 = nI q)
    (bxy : x < y) (bY : y ≤ 9) (ba : a ≤ 5) (bb : b ≤ 5) (bp : p ≤ 2) (bq : q ≤ 2)
    (H : ∀ (x' y' a' b' p' q' : Nat) (b4 b5 b6 : Nat → Int32), rb_S x y a b x' y' a' b' p' q' → post (nI (rb_N x' y' a' b' p' q')) (f, a1, a2, a3, b4, b5, b6)) :
    wX_step_100 post x4 x5 z0 1 f a1 a2 a3 a4 a5 a6 := by
  refine ⟨pk_in 1 2 (by omega), fun b6 e6 => ?_⟩
  have k4 : b6 0 = nI p := by rw [e6, show (1 : Int32).toNatClampNeg = 1 from rfl, pk_un (by decide), h4]
  have k5 : b6 1 = nI q := by rw [e6, show (1 : Int32).toNatClampNeg = 1 from rfl, pk_us, h5, rb_b _ (by omega)]
  refine rb_go (P := 0) (Q := 1) (c := x) (o := y) rfl (by decide) (by omega) (by omega) (by omega) h0 h1 (by omega) (by omega) (by omega) (fun b4 x' l1 l2 l3 l4 e1 e2 => ?_)
  refine rb_go (P := 1) (Q := 0) (c := y) (o := x') rfl (by decide) (by omega) (by omega) (by omega) e2 e1 (by omega) (by omega) (by omega) (fun c4 y' m1 m2 m3 m4 g1 g2 => ?_)
  have t : ∀ z : Int32, (z ≠ 0 → y' ≤ x' + 1) → wX_step_148 post x4 x5 z f a1 a2 a3 c4 a5 b6 := fun z hz =>
    rb_148 g2 g1 h2 h3 k4 k5 ba bb bp bq hz (fun a' b' p' q' d4 d5 d6 n1 n2 n3 n4 n5 n6 n7 => H x' y' a' b' p' q' d4 d5 d6 ⟨by omega, by omega, by omega, by omega, by omega, by omega, n1, n2, n3, n4, n5, n6, n7⟩)
  have t0 : wX_step_147 post x4 x5 f a1 a2 a3 c4 a5 b6 := t 0 (fun z => absurd rfl z)
  refine nm_r (e' := nI x' - nI y') (by rw [g2, g1]) (br_c (fun _ => t0) (fun z => br_c (fun _ => t0) (fun _ => t 1 (fun _ => ?_))))
  rw [Int32.lt_iff_toInt_lt, pk_sub_toInt (by omega) (by omega), show (-1 : Int32).toInt = -1 from rfl] at z
  omega
theorem rb_72 {post : Int32 → St1 → Prop} {x4 x5 z0 f : Int32} {a1 a2 a3 a4 a5 a6 : Nat → Int32} {x y a b p q : Nat} (h0 : a4 0 = nI x) (h1 : a4 1 = nI y) (h2 : a5 0 = nI a) (h3 : a5 1 = nI b) (h4 : z0 = nI p) (h5 : a6 1 = nI q)
    (bxy : x < y) (bY : y ≤ 9) (ba : a ≤ 5) (bb : b ≤ 5) (bp : p ≤ 2) (bq : q ≤ 2)
    (H : ∀ (x' y' a' b' p' q' : Nat) (b4 b5 b6 : Nat → Int32), rb_S x y a b x' y' a' b' p' q' → post (nI (rb_N x' y' a' b' p' q')) (f, a1, a2, a3, b4, b5, b6)) :
    wX_step_72 post x4 x5 z0 0 f a1 a2 a3 a4 a5 a6 := by
  refine ⟨pk_in 0 2 (by omega), fun b6 e6 => ?_⟩
  have k4 : b6 0 = nI p := by rw [e6, show (0 : Int32).toNatClampNeg = 0 from rfl, pk_us, h4, rb_b _ (by omega)]
  have k5 : b6 1 = nI q := by rw [e6, show (0 : Int32).toNatClampNeg = 0 from rfl, pk_un (by decide), h5]
  refine pk_le q 0 (fun _ => rb_100 (q := 0) h0 h1 h2 h3 k4 rfl bxy bY ba bb bp (by omega) H) (fun z => rb_100 (q := q - 1) h0 h1 h2 h3 k4 ?_ bxy bY ba bb bp (by omega) H) k5
  rw [k5]
  exact pk_sub (b := 1) (by omega)
theorem rb_44 {post : Int32 → St1 → Prop} {x4 z0 f : Int32} {a1 a2 a3 a4 a5 a6 : Nat → Int32} {x y a b p q : Nat} (h0 : a4 0 = nI x) (h1 : a4 1 = nI y) (h2 : a5 0 = nI a) (h3 : a5 1 = nI b) (h4 : a6 0 = nI p) (h5 : a6 1 = nI q)
    (bxy : x < y) (bY : y ≤ 9) (ba : a ≤ 5) (bb : b ≤ 5) (bp : p ≤ 2) (bq : q ≤ 2)
    (H : ∀ (x' y' a' b' p' q' : Nat) (b4 b5 b6 : Nat → Int32), rb_S x y a b x' y' a' b' p' q' → post (nI (rb_N x' y' a' b' p' q')) (f, a1, a2, a3, b4, b5, b6)) :
    wX_step_44 post x4 z0 f a1 a2 a3 a4 a5 a6 := by
  refine pk_le p 0 (fun _ => rb_72 (p := 0) h0 h1 h2 h3 rfl h5 bxy bY ba bb (by omega) bq H) (fun z => rb_72 (p := p - 1) h0 h1 h2 h3 ?_ h5 bxy bY ba bb (by omega) bq H) h4
  rw [h4]
  exact pk_sub (b := 1) (by omega)
theorem rb_step {post : Int32 → St1 → Prop} {f v m0 m1 : Int32} {a1 a2 a3 a4 a5 a6 : Nat → Int32} (h : rb_D v)
    (H : ∀ (w : Int32) (b4 b5 b6 : Nat → Int32), rb_F v w → post w (f, a1, a2, a3, b4, b5, b6)) :
    wpX_step post (f, a1, a2, a3, a4, a5, a6) v m0 m1 := by
  obtain ⟨x, y, a, b, p, q, hG⟩ := h
  have hG' := hG
  obtain ⟨g0, g1, g2, g3, g4, g5, _⟩ := hG'
  unfold wpX_step
  refine rb_isOver (fun ho => br_f (by decide) (H v a4 a5 a6 ?_)) (fun ho => br_t rfl (rb_load hG (fun b4 b5 b6 h0 h1 h2 h3 h4 h5 => ?_)))
  · have hab := (rb_O_iff hG).mp ho
    exact ⟨x, y, a, b, p, q, x, y, a, b, p, q, hG, hG, ⟨by omega, by omega, by omega, by omega, by omega, by omega, by omega, by omega, by omega, by omega, Or.inl ⟨rfl, rfl⟩, by omega, by omega⟩, fun _ => rfl⟩
  · have hab : ¬ (a = 0 ∨ b = 0) := fun t => ho ((rb_O_iff hG).mpr t)
    have t : ∀ u w : Int32, wX_step_44 post u w f a1 a2 a3 b4 b5 b6 := fun u w =>
      rb_44 h0 h1 h2 h3 h4 h5 g0 g1 g2 g3 g4 g5 (fun x' y' a' b' p' q' c4 c5 c6 hS => H _ c4 c5 c6 ⟨x, y, a, b, p, q, x', y', a', b', p', q', hG,
        ⟨hS.1, hS.2.1, by have := hS.2.2.2.2.2.2.1; omega, by have := hS.2.2.2.2.2.2.2.2.1; omega, hS.2.2.2.2.2.2.2.2.2.2.2.1, hS.2.2.2.2.2.2.2.2.2.2.2.2, rfl⟩, hS, fun z => absurd z hab⟩)
    have t28 : ∀ u w : Int32, wX_step_28 post u w f a1 a2 a3 b4 b5 b6 := fun u w => br_c (fun _ => t w u) (fun _ => t w (-1))
    exact br_c (fun _ => t28 m1 m0) (fun _ => t28 m1 (-1))
end
section
theorem rb_75 {post : Int32 → St1 → Prop} {J : Int32 → Int32 → Int32 → Int32 → (Nat → Int32) → (Nat → Int32) → (Nat → Int32) → (Nat → Int32) → (Nat → Int32) → (Nat → Int32) → Prop} {x2 x3 r z f : Int32} {a1 a2 s a4 a5 a6 : Nat → Int32} {i : Nat} (hi : i < 40)
    (H : ∀ x3' : Int32, J x3' z (nI (i + 1)) f a1 a2 (upd s (i + 1) r) a4 a5 a6) : wX_replay_75 post J x2 x3 (nI i) r z f a1 a2 s a4 a5 a6 := by
  have e : (nI i + 1).toNatClampNeg = i + 1 := pk_cl (i + 1) (nI_1 i)
  have t : ∀ z0 z1 : Int32, wX_replay_99 post J x2 z (nI i) r z0 z1 f a1 a2 s a4 a5 a6 := fun z0 z1 =>
    nm_e ⟨pk_in (i + 1) 41 (by omega) (nI_1 i), nm_r (e' := upd s (i + 1) r) (by rw [e]) (nm_r (nI_1 i) (H _))⟩
  have t98 : wX_replay_98 post J x2 z (nI i) r x3 f a1 a2 s a4 a5 a6 := t 0 x3
  exact br_c (fun _ => t98) (fun _ => br_c (fun _ => t98) (fun _ => t 1 x3))
/-- what replay keeps at its loop's head -/
def rb_I (x2 : Int32) (fr : Nat) (s0 : Nat → Int32) (i : Nat) (x4 : Int32) (s : Nat → Int32) : Prop :=
  fr ≤ i ∧ rb_D (s i) ∧ (∀ g, g < i → rb_F (s g) (s (g + 1))) ∧ (∀ g, g ≤ fr → s g = s0 g) ∧
  (x2 = 40 ∨ ((∀ g, i < g → g < 40 → rb_F (s g) (s (g + 1))) ∧ (x4 = 0 → i < 40 → rb_F (s i) (s (i + 1)))))
theorem rb_I_put {x2 : Int32} {fr : Nat} {s0 : Nat → Int32} {i : Nat} {x4 : Int32} {s : Nat → Int32} (h : rb_I x2 fr s0 i x4 s) {r : Int32} (hr : rb_F (s i) r) (z : Int32) (hz : z = 0 → r = s (i + 1)) :
    rb_I x2 fr s0 (i + 1) z (upd s (i + 1) r) := by
  obtain ⟨h1, h2, h3, h4, h5⟩ := h
  have hlo : ∀ g, g ≤ i → upd s (i + 1) r g = s g := fun g hg => pk_un (by omega)
  have hhi : ∀ g, i + 1 < g → upd s (i + 1) r g = s g := fun g hg => pk_un (by omega)
  refine ⟨by omega, ?_, fun g hg => ?_, fun g hg => ?_, ?_⟩
  · rw [pk_us]; exact rb_F_D hr
  · rw [hlo g (by omega)]
    by_cases e : g = i
    · rw [e, pk_us]; exact hr
    · rw [hlo (g + 1) (by omega)]; exact h3 g (by omega)
  · rw [hlo g (by omega)]; exact h4 g hg
  · rcases h5 with h5 | ⟨h5, _⟩
    · exact Or.inl h5
    · refine Or.inr ⟨fun g hg hl => ?_, fun z0 hl => ?_⟩
      · rw [hhi g (by omega), hhi (g + 1) (by omega)]; exact h5 g (by omega) hl
      · rw [pk_us, hhi (i + 1 + 1) (by omega), hz z0]; exact h5 (i + 1) (by omega) hl
theorem rb_26 {post : Int32 → St1 → Prop} {J : Int32 → Int32 → Int32 → Int32 → (Nat → Int32) → (Nat → Int32) → (Nat → Int32) → (Nat → Int32) → (Nat → Int32) → (Nat → Int32) → Prop} {x2 x3 x4 f : Int32} {a1 a2 s a4 a5 a6 s0 : Nat → Int32} {i fr : Nat} (hi : i < 40) (hI : rb_I x2 fr s0 i x4 s)
    (H : ∀ (x3' x4' : Int32) (s' b4 b5 b6 : Nat → Int32), rb_I x2 fr s0 (i + 1) x4' s' → J x3' x4' (nI (i + 1)) f a1 a2 s' b4 b5 b6) :
    wX_replay_26 post J x2 x3 (nI i) f a1 a2 s a4 a5 a6 := by
  have e : (nI i + 1).toNatClampNeg = i + 1 := pk_cl (i + 1) (nI_1 i)
  have e0 : (nI i).toNatClampNeg = i := nI_clamp (by omega)
  have hD : rb_D (s (nI i).toNatClampNeg) := by rw [e0]; exact hI.2.1
  refine ⟨pk_in i 41 (by omega), pk_in i 80 (by omega), pk_in (40 + i) 80 (by omega) (nI_add 40 i), rb_step hD (fun w b4 b5 b6 hF => ⟨pk_in (i + 1) 41 (by omega) (nI_1 i), ?_⟩)⟩
  rw [e0] at hF
  refine br_c (fun z => rb_75 hi (fun x3' => H x3' 0 _ b4 b5 b6 (rb_I_put hI hF 0 (fun _ => ?_)))) (fun z => rb_75 hi (fun x3' => H x3' 1 _ b4 b5 b6 (rb_I_put hI hF 1 (fun t => absurd t (by decide)))))
  rw [z, e]
theorem rb_8 {post : Int32 → St1 → Prop} {x2 f : Int32} {a1 a2 s0 : Nat → Int32} {fr : Nat}
    (H : ∀ (r : Int32) (s b4 b5 b6 : Nat → Int32), (∀ g, g < 40 → rb_F (s g) (s (g + 1))) → (∀ g, g ≤ fr → s g = s0 g) → post r (f, a1, a2, s, b4, b5, b6)) :
    ∀ (n i : Nat) (x3 x4 : Int32) (s a4 a5 a6 : Nat → Int32), i ≤ 40 → 40 - i < n → rb_I x2 fr s0 i x4 s → wX_replay_8 post x2 n x3 x4 (nI i) f a1 a2 s a4 a5 a6 := by
  intro n
  induction n with
  | zero => exact fun i x3 x4 s a4 a5 a6 _ hn _ => absurd hn (by omega)
  | succ n ih =>
    intro i x3 x4 s a4 a5 a6 hi hn hI
    have hgo : i < 40 → wX_replay_26 post (wX_replay_8 post x2 n) x2 x3 (nI i) f a1 a2 s a4 a5 a6 := fun hl =>
      rb_26 hl hI (fun x3' x4' s' b4 b5 b6 hI' => ih (i + 1) x3' x4' s' b4 b5 b6 (by omega) (by omega) hI')
    refine pk_le 40 i (fun z => H x3 s a4 a5 a6 (fun g hg => hI.2.2.1 g (by omega)) hI.2.2.2.1) (fun z => br_c (fun _ => hgo z) (fun w => br_c (fun u => H x3 s a4 a5 a6 (fun g hg => ?_) hI.2.2.2.1) (fun _ => hgo z)))
    rcases hI.2.2.2.2 with h | ⟨h, h'⟩
    · rw [h] at w
      exact absurd (nI_lt z (by omega)) w
    · rcases Nat.lt_trichotomy g i with l | l | l
      · exact hI.2.2.1 g l
      · rw [l]; exact h' u z
      · exact h g l hg
theorem rb_replay {post : Int32 → St1 → Prop} {x2 f : Int32} {a1 a2 s a4 a5 a6 : Nat → Int32} {fr : Nat} (hf : fr ≤ 40) (hI : rb_I x2 fr s fr 1 s)
    (H : ∀ (r : Int32) (s' b4 b5 b6 : Nat → Int32), (∀ g, g < 40 → rb_F (s' g) (s' (g + 1))) → (∀ g, g ≤ fr → s' g = s g) → post r (f, a1, a2, s', b4, b5, b6)) :
    wpX_replay post (f, a1, a2, s, a4, a5, a6) (nI fr) x2 :=
  ⟨41, rb_8 H 41 fr 0 1 s a4 a5 a6 hf (by omega) hI⟩
theorem rb_cell (P i : Nat) : nI P * 40 + nI i = nI (P * 40 + i) := by
  show nI P * nI 40 + nI i = nI (P * 40 + i)
  rw [pk_mul, nI_add]
theorem rb_guess {post : Int32 → Prop} {f : Int32} {a1 a2 a3 a4 a5 a6 : Nat → Int32} {P i : Nat} (hP : P < 2) (hi : i < 40) (H : ∀ r, post r) : wpX_guess post (f, a1, a2, a3, a4, a5, a6) (nI P) (nI i) := by
  refine pk_eq i 0 (fun _ => br_c (fun _ => H _) (fun _ => H _)) (fun z => ⟨pk_in (P * 40 + i - 1) 80 (by omega) ?_, br_c (fun _ => H _) (fun _ => H _)⟩)
  rw [rb_cell]
  exact pk_sub (b := 1) (by omega)
theorem rb_42 {post : Int32 → St1 → Prop} {f : Int32} {a1 a3 a4 a5 a6 : Nat → Int32} {P : Nat} (hP : P < 2) (H : ∀ (r : Int32) (b2 : Nat → Int32), post r (f, a1, b2, a3, a4, a5, a6)) :
    ∀ (n i : Nat) (x5 : Int32) (b2 : Nat → Int32), i ≤ 40 → 40 - i < n → wX_use_42 post (nI P) f n x5 (nI i) a1 b2 a3 a4 a5 a6 := by
  intro n
  induction n with
  | zero => exact fun i x5 b2 _ hn => absurd hn (by omega)
  | succ n ih =>
    intro i x5 b2 hi hn
    refine pk_le 40 i (fun _ => H x5 b2) (fun z => ?_)
    have hin : vp_in (nI P * 40 + nI i) 80 := pk_in (P * 40 + i) 80 (by omega) (rb_cell P i)
    refine ⟨hin, br_c (fun _ => rb_guess hP z (fun r => ⟨hin, br_c (fun _ => nm_r (nI_1 i) (ih (i + 1) _ _ (by omega) (by omega))) (fun _ => ⟨hin, nm_e (nm_e (nm_r (nI_1 i) (ih (i + 1) _ _ (by omega) (by omega))))⟩)⟩)) (fun _ => H x5 b2)⟩
theorem rb_use {post : Int32 → St1 → Prop} {f m : Int32} {a1 a2 a3 a4 a5 a6 : Nat → Int32} {P k : Nat} (hP : P < 2) (hk : k < 40) (H : ∀ (r : Int32) (b2 : Nat → Int32), post r (f, a1, b2, a3, a4, a5, a6)) :
    wpX_use post (f, a1, a2, a3, a4, a5, a6) (nI P) (nI k) m := by
  have t : ∀ z : Int32, wX_use_26 post (nI P) (nI k) m (nI (P * 40 + k)) z f a1 a2 a3 a4 a5 a6 := fun z =>
    ⟨pk_in (P * 40 + k) 80 (by omega), nm_e (nm_r (nI_1 k) ⟨41, rb_42 hP H 41 (k + 1) _ _ (by omega) (by omega)⟩)⟩
  exact nm_r (rb_cell P k) ⟨pk_in (P * 40 + k) 80 (by omega), br_c (fun _ => t _) (fun _ => t _)⟩
theorem rb_isPlayer {post : Int32 → Prop} {p : Int32} (H1 : ∀ P : Nat, P < 2 → p = nI P → post 1) (H0 : post 0) : wpX_isPlayer post () p :=
  br_c (fun z => H1 0 (by omega) z) (fun _ => br_c (fun z => H1 1 (by omega) z) (fun _ => H0))
theorem rb_isFrame {post : Int32 → Prop} {p : Int32} (H1 : ∀ k : Nat, k < 40 → p = nI k → post 1) (H0 : post 0) : wpX_isFrame post () p := by
  refine br_c (fun _ => H0) (fun z => br_c (fun _ => H0) (fun w => ?_))
  rcases pk_ix p (n := 40) (by omega) with h | h | ⟨j, hj, e⟩
  · exact absurd h z
  · exact absurd h w
  · exact H1 j hj e
/-- k is the first frame of player P whose move is missing -/
def rb_M (a : Nat → Int32) (P k : Nat) : Prop := k ≤ 40 ∧ (∀ j, j < k → ¬ a (P * 40 + j) = 0) ∧ (k < 40 → a (P * 40 + k) = 0)
theorem rb_M_ex (a : Nat → Int32) (P : Nat) : ∃ k, rb_M a P k := by
  have key : ∀ m, ∃ d, d ≤ m ∧ (∀ j, j < d → ¬ a (P * 40 + j) = 0) ∧ (d < m → a (P * 40 + d) = 0) := by
    intro m
    induction m with
    | zero => exact ⟨0, Nat.le_refl 0, fun j h => absurd h (by omega), fun h => absurd h (by omega)⟩
    | succ m ih =>
      obtain ⟨d, h1, h2, h3⟩ := ih
      by_cases hd : d < m
      · exact ⟨d, by omega, h2, fun _ => h3 hd⟩
      · by_cases he : a (P * 40 + d) = 0
        · exact ⟨d, by omega, h2, fun _ => he⟩
        · refine ⟨d + 1, by omega, fun j hj => ?_, fun h => absurd h (by omega)⟩
          by_cases e : j = d
          · rw [e]; exact he
          · exact h2 j (by omega)
  exact key 40
theorem rb_M_le {a a' : Nat → Int32} {P k k' : Nat} (h : rb_M a P k) (h' : rb_M a' P k') (hm : ∀ c, ¬ a c = 0 → ¬ a' c = 0) : k ≤ k' := by
  rcases Nat.lt_or_ge k' k with l | l
  · exact absurd (h'.2.2 (by have := h.1; omega)) (hm _ (h.2.1 k' l))
  · exact l
/-- k is the number of frames that are sure -/
def rb_U (a : Nat → Int32) (k : Nat) : Prop := ∃ k0 k1, rb_M a 0 k0 ∧ rb_M a 1 k1 ∧ k = min k0 k1
theorem rb_U_ex (a : Nat → Int32) : ∃ k, rb_U a k := by
  obtain ⟨k0, h0⟩ := rb_M_ex a 0
  obtain ⟨k1, h1⟩ := rb_M_ex a 1
  exact ⟨min k0 k1, k0, k1, h0, h1, rfl⟩
theorem rb_U_40 {a : Nat → Int32} {k : Nat} (h : rb_U a k) : k ≤ 40 := by
  obtain ⟨k0, k1, h0, h1, e⟩ := h
  have := h0.1
  omega
theorem rb_U_le {a a' : Nat → Int32} {k k' : Nat} (h : rb_U a k) (h' : rb_U a' k') (hm : ∀ c, ¬ a c = 0 → ¬ a' c = 0) : k ≤ k' := by
  obtain ⟨k0, k1, h0, h1, e⟩ := h
  obtain ⟨l0, l1, g0, g1, e'⟩ := h'
  have t0 := rb_M_le h0 g0 hm
  have t1 := rb_M_le h1 g1 hm
  omega
theorem rb_U_at {a : Nat → Int32} {k P j : Nat} (h : rb_U a k) (hP : P < 2) (hj : a (P * 40 + j) = 0) : k ≤ j := by
  obtain ⟨k0, k1, h0, h1, e⟩ := h
  rcases Nat.lt_or_ge j k with l | l
  · exfalso
    rcases (show P = 0 ∨ P = 1 by omega) with rfl | rfl
    · exact h0.2.1 j (by omega) hj
    · exact h1.2.1 j (by omega) hj
  · exact l
theorem rb_firstMissing {post : Int32 → Prop} {f p : Int32} {a1 a2 a3 a4 a5 a6 : Nat → Int32} {P k : Nat} (hp : p = nI P) (hP : P < 2) (h : rb_M a1 P k) (H : post (nI k)) : wpX_firstMissing post (f, a1, a2, a3, a4, a5, a6) p := by
  subst hp
  refine pk_loop (σ := Unit) (fun n i _ => wX_firstMissing_2 post (nI P) f a1 a2 a3 a4 a5 a6 n (nI i)) (fun _ _ => True) k 0 () (by omega) trivial (fun n _ _ => ?_) (fun n i _ hi _ hw => ?_)
  · refine pk_le 40 k (fun _ => H) (fun z => ⟨pk_in (P * 40 + k) 80 (by omega) (rb_cell P k), br_t ?_ H⟩) rfl rfl (by omega) (by have := h.1; omega)
    rw [rb_cell, nI_clamp (by omega)]
    exact h.2.2 z
  · have h40 := h.1
    refine pk_le 40 i (fun z => absurd z (by omega)) (fun z => ⟨pk_in (P * 40 + i) 80 (by omega) (rb_cell P i), br_f ?_ (nm_r (nI_1 i) (hw () trivial))⟩)
    rw [rb_cell, nI_clamp (by omega)]
    exact h.2.1 i hi
theorem rb_sure {post : Int32 → Prop} {f : Int32} {a1 a2 a3 a4 a5 a6 : Nat → Int32} {k : Nat} (h : rb_U a1 k) (H : post (nI k)) : wpX_sure post (f, a1, a2, a3, a4, a5, a6) := by
  obtain ⟨k0, k1, h0, h1, e⟩ := h
  have l0 := h0.1
  have l1 := h1.1
  refine rb_firstMissing (P := 0) rfl (by omega) h0 (rb_firstMissing (P := 1) rfl (by omega) h1 (pk_le k1 k0 (fun z => ?_) (fun z => ?_)))
  · rw [show k1 = k by omega]; exact H
  · rw [show k0 = k by omega]; exact H
theorem rb_arrive {post : Int32 → St1 → Prop} {f p0 p1 p2 : Int32} {a1 a2 s a4 a5 a6 : Nat → Int32} {k : Nat} (hC : rb_C s) (hU : rb_U a1 k)
    (H : ∀ (r : Int32) (b1 b2 s' b4 b5 b6 : Nat → Int32), (∀ c, ¬ a1 c = 0 → ¬ b1 c = 0) → s' k = s k → rb_C s' → post r (f, b1, b2, s', b4, b5, b6)) :
    wpX_arrive post (f, a1, a2, s, a4, a5, a6) p0 p1 p2 := by
  have hno : ∀ r, post r (f, a1, a2, s, a4, a5, a6) := fun r => H r a1 a2 s a4 a5 a6 (fun _ h => h) rfl hC
  unfold wpX_arrive
  refine rb_isPlayer (fun P hP eP => br_f (by decide) (rb_isFrame (fun j hj ej => br_f (by decide) ?_) (br_t rfl (hno _)))) (br_t rfl (hno _))
  subst eP ej
  have ec : (nI P * 40 + nI j).toNatClampNeg = P * 40 + j := pk_cl _ (rb_cell P j)
  have hin : vp_in (nI P * 40 + nI j) 80 := pk_in (P * 40 + j) 80 (by omega) (rb_cell P j)
  refine br_c (fun _ => hno _) (fun _ => br_c (fun _ => hno _) (fun _ => ⟨hin, br_c (fun ha => ⟨hin, fun b1 e1 => ?_⟩) (fun _ => hno _)⟩))
  rw [ec] at ha e1
  have hm : ∀ c, ¬ a1 c = 0 → ¬ b1 c = 0 := by
    intro c hc
    by_cases e : c = P * 40 + j
    · rw [e, e1, pk_us]; decide
    · rw [e1, pk_un e]; exact hc
  have hkj : k ≤ j := rb_U_at hU hP ha
  refine rb_use hP hj (fun r b2 => br_c (fun _ => H 0 b1 b2 s a4 a5 a6 hm rfl hC) (fun _ => rb_replay (by omega) ⟨Nat.le_refl j, rb_C_D hC (by omega), fun g hg => hC.2 g (by omega), fun _ _ => rfl, Or.inr ⟨fun g _ hl => hC.2 g hl, fun _ hl => hC.2 j hl⟩⟩ (fun r' s' b4 b5 b6 hF hs => H r' b1 b2 s' b4 b5 b6 hm (hs k hkj) ⟨?_, hF⟩)))
  rw [hs 0 (by omega)]
  exact hC.1
theorem rb_missing {post : Int32 → Prop} {f p : Int32} {a1 a2 a3 a4 a5 a6 : Nat → Int32} (H : ∀ r, post r) : wpX_missing post (f, a1, a2, a3, a4, a5, a6) p := by
  unfold wpX_missing
  refine rb_isPlayer (fun P hP eP => br_f (by decide) ?_) (br_t rfl (H _))
  obtain ⟨k, hk⟩ := rb_M_ex a1 P
  exact rb_firstMissing eP hP hk (br_c (fun _ => H _) (fun _ => H _))
theorem rb_turn {post : St1 → Prop} {p1 p2 p3 p4 : Int32} {a1 a2 s a4 a5 a6 : Nat → Int32} {n k : Nat} (hn : n ≤ 40) (hC : rb_C s) (hU : rb_U a1 k)
    (H : ∀ (n' : Nat) (b1 b2 s' b4 b5 b6 : Nat → Int32), n ≤ n' → n' ≤ n + 1 → n' ≤ 40 → (∀ c, ¬ a1 c = 0 → ¬ b1 c = 0) → s' k = s k → rb_C s' → post (nI n', b1, b2, s', b4, b5, b6)) :
    wpL_turn post (nI n, a1, a2, s, a4, a5, a6) p1 p2 p3 p4 := by
  refine nm_e (br_c (fun _ => br_c (fun _ => ?_) (fun _ => rb_missing (fun r => rb_arrive hC hU (fun r b1 b2 s' b4 b5 b6 hm hk hC' => H n b1 b2 s' b4 b5 b6 (by omega) (by omega) hn hm hk hC')))) (fun _ => rb_arrive hC hU (fun r b1 b2 s' b4 b5 b6 hm hk hC' => H n b1 b2 s' b4 b5 b6 (by omega) (by omega) hn hm hk hC')))
  exact pk_lt n 40 (fun z => nm_r (nI_1 n) (H (n + 1) a1 a2 s a4 a5 a6 (by omega) (by omega) (by omega) (fun _ h => h) rfl hC)) (fun z => H n a1 a2 s a4 a5 a6 (by omega) (by omega) hn (fun _ h => h) rfl hC)
end
section
theorem rb_shown {post : Int32 → Prop} {f p : Int32} {a1 a2 s a4 a5 a6 : Nat → Int32} {g : Nat} (hp : p = nI g) (hg : g ≤ 40) (H : post (s g)) : wpX_shown post (f, a1, a2, s, a4, a5, a6) p := by
  subst hp
  refine br_f (nI_pos (by omega)) (pk_le g 40 (fun _ => ⟨pk_in g 41 (by omega), ?_⟩) (fun z => absurd z (by omega)))
  rw [nI_clamp (by omega)]
  exact H
/-- what overAfter answers -/
def rb_V (s : Nat → Int32) (r : Int32) : Prop := (r = -2 ∧ ∀ g, g < 41 → ¬ rb_O (s g)) ∨ ∃ k, k ≤ 40 ∧ r = nI k ∧ rb_O (s k) ∧ ∀ g, g < k → ¬ rb_O (s g)
theorem rb_overAfter {post : Int32 → Prop} {f : Int32} {a1 a2 s a4 a5 a6 : Nat → Int32} (H : ∀ r, rb_V s r → post r) : wpX_overAfter post (f, a1, a2, s, a4, a5, a6) := by
  refine pk_loop (σ := Unit) (fun n i _ => wX_overAfter_2 post f a1 a2 s a4 a5 a6 n (nI i)) (fun i _ => ∀ g, g < i → ¬ rb_O (s g)) 41 0 () (by omega) (fun g hg => absurd hg (by omega)) (fun n _ h => ?_) (fun n i _ hi h hw => ?_)
  · exact pk_lt 40 41 (fun _ => H (-2) (Or.inl ⟨rfl, h⟩)) (fun z => absurd z (by omega))
  · have e0 : (nI i).toNatClampNeg = i := nI_clamp (by omega)
    refine pk_lt 40 i (fun z => absurd z (by omega)) (fun z => ⟨pk_in i 41 hi, rb_isOver (fun ho => br_f (by decide) (H (nI i) (Or.inr ⟨i, by omega, rfl, ?_, h⟩))) (fun ho => br_t rfl (nm_r (nI_1 i) (hw () ?_)))⟩)
    · rw [e0] at ho; exact ho
    · rw [e0] at ho
      exact lt_s h ho
theorem rb_V_at {s : Nat → Int32} {r : Int32} (hC : rb_C s) (h : rb_V s r) {i : Nat} (hi : i ≤ 40) : (¬ r < 0 ∧ ¬ nI i < r) ↔ rb_O (s i) := by
  rcases h with ⟨e, h⟩ | ⟨k, hk, e, ho, h⟩
  · constructor
    · intro t; rw [e] at t; exact absurd (by decide) t.1
    · intro t; exact absurd t (h i (by omega))
  · constructor
    · intro t
      rw [e, nI_ltI (by omega) (by omega)] at t
      have := rb_C_O hC ho (i - k) (by omega)
      rwa [show k + (i - k) = i by omega] at this
    · intro t
      rw [e, nI_ltI (by omega) (by omega)]
      exact ⟨nI_pos (by omega), fun z => h i z t⟩
/-- the winner that is due -/
def rb_due (a b : Nat) : Int32 := if a = 0 then (if b = 0 then 2 else 1) else (if b = 0 then 0 else -2)
theorem rb_due_O {v : Int32} {x y a b p q : Nat} (h : rb_G v x y a b p q) : rb_due a b = -2 ↔ ¬ rb_O v := by
  rw [rb_O_iff h]
  unfold rb_due
  by_cases ha : a = 0 <;> by_cases hb : b = 0 <;> simp [ha, hb] <;> decide
theorem rb_winner {post : Int32 → St1 → Prop} {f w : Int32} {a1 a2 s a4 a5 a6 : Nat → Int32} {g x y a b p q : Nat} (hw : w = nI g) (hg : g ≤ 40) (h : rb_G (s g) x y a b p q)
    (H : ∀ b4 b5 b6 : Nat → Int32, post (rb_due a b) (f, a1, a2, s, b4, b5, b6)) : wpX_winner post (f, a1, a2, s, a4, a5, a6) w := by
  subst hw
  have e0 : (nI g).toNatClampNeg = g := nI_clamp (by omega)
  have hO := rb_O_iff h
  have h' := h
  obtain ⟨_, _, g3, g4, _, _, _⟩ := h'
  have hin : vp_in (nI g) 41 := pk_in g 41 (by omega)
  have hG : rb_G (s (nI g).toNatClampNeg) x y a b p q := by rw [e0]; exact h
  refine br_f (nI_pos (by omega)) (pk_le g 40 (fun _ => ⟨hin, rb_isOver (fun ho => br_f (by decide) ⟨hin, rb_load hG (fun b4 b5 b6 _ _ h2 h3 _ _ => ?_)⟩) (fun ho => br_t rfl ?_)⟩) (fun z => absurd z (by omega)))
  · rw [e0] at ho
    refine pk_eq a 0 (fun za => pk_eq b 0 (fun zb => ?_) (fun zb => ?_) h3) (fun za => ?_) h2
    · have t := H b4 b5 b6
      rw [show rb_due a b = 2 by unfold rb_due; rw [if_pos za, if_pos zb]] at t
      exact t
    · have t := H b4 b5 b6
      rw [show rb_due a b = 1 by unfold rb_due; rw [if_pos za, if_neg zb]] at t
      exact t
    · have t := H b4 b5 b6
      have zb : b = 0 := (hO.mp ho).resolve_left za
      rw [show rb_due a b = 0 by unfold rb_due; rw [if_neg za, if_pos zb]] at t
      exact t
  · rw [e0] at ho
    have t := H a4 a5 a6
    rw [(rb_due_O h).mpr ho] at t
    exact t
theorem rb_isP {post : Int32 → Prop} {p : Int32} {P : Nat} (hp : p = nI P) (hP : P < 2) (H : post 1) : wpX_isPlayer post () p := by
  refine br_c (fun _ => H) (fun z => br_c (fun _ => H) (fun w => ?_))
  rcases (show P = 0 ∨ P = 1 by omega) with e | e
  · rw [e] at hp; exact absurd hp z
  · rw [e] at hp; exact absurd hp w
theorem rb_notP {post : Int32 → Prop} {p : Int32} (h0 : ¬ p = 0) (h1 : ¬ p = 1) (H : post 0) : wpX_isPlayer post () p := br_f h0 (br_f h1 H)
theorem rb_position {post : Int32 → St1 → Prop} {p0 : Int32} {a1 a2 s a4 a5 a6 : Nat → Int32} {P n x y a b p q : Nat} (hp : p0 = nI P) (hP : P < 2) (hn : n ≤ 40) (h : rb_G (s n) x y a b p q)
    (H : ∀ b4 b5 b6 : Nat → Int32, b4 0 = nI x → b4 1 = nI y → post (b4 P) (nI n, a1, a2, s, b4, b5, b6)) : wpX_position post (nI n, a1, a2, s, a4, a5, a6) p0 := by
  have e0 : (nI n).toNatClampNeg = n := nI_clamp (by omega)
  have eP : p0.toNatClampNeg = P := pk_cl P hp
  have hG : rb_G (s (nI n).toNatClampNeg) x y a b p q := by rw [e0]; exact h
  unfold wpX_position
  refine rb_isP hp hP (br_f (by decide) ⟨pk_in n 41 (by omega), rb_load hG (fun b4 b5 b6 h0 h1 _ _ _ _ => ⟨pk_in P 2 hP hp, ?_⟩)⟩)
  rw [eP]
  exact H b4 b5 b6 h0 h1
theorem rb_strength {post : Int32 → St1 → Prop} {p0 : Int32} {a1 a2 s a4 a5 a6 : Nat → Int32} {P n x y a b p q : Nat} (hp : p0 = nI P) (hP : P < 2) (hn : n ≤ 40) (h : rb_G (s n) x y a b p q)
    (H : ∀ b4 b5 b6 : Nat → Int32, b5 0 = nI a → b5 1 = nI b → post (b5 P) (nI n, a1, a2, s, b4, b5, b6)) : wpX_strength post (nI n, a1, a2, s, a4, a5, a6) p0 := by
  have e0 : (nI n).toNatClampNeg = n := nI_clamp (by omega)
  have eP : p0.toNatClampNeg = P := pk_cl P hp
  have hG : rb_G (s (nI n).toNatClampNeg) x y a b p q := by rw [e0]; exact h
  unfold wpX_strength
  refine rb_isP hp hP (br_f (by decide) ⟨pk_in n 41 (by omega), rb_load hG (fun b4 b5 b6 _ _ h0 h1 _ _ => ⟨pk_in P 2 hP hp, ?_⟩)⟩)
  rw [eP]
  exact H b4 b5 b6 h0 h1
theorem rb_pause {post : Int32 → St1 → Prop} {p0 : Int32} {a1 a2 s a4 a5 a6 : Nat → Int32} {P n x y a b p q : Nat} (hp : p0 = nI P) (hP : P < 2) (hn : n ≤ 40) (h : rb_G (s n) x y a b p q)
    (H : ∀ b4 b5 b6 : Nat → Int32, b6 0 = nI p → b6 1 = nI q → post (b6 P) (nI n, a1, a2, s, b4, b5, b6)) : wpX_pause post (nI n, a1, a2, s, a4, a5, a6) p0 := by
  have e0 : (nI n).toNatClampNeg = n := nI_clamp (by omega)
  have eP : p0.toNatClampNeg = P := pk_cl P hp
  have hG : rb_G (s (nI n).toNatClampNeg) x y a b p q := by rw [e0]; exact h
  unfold wpX_pause
  refine rb_isP hp hP (br_f (by decide) ⟨pk_in n 41 (by omega), rb_load hG (fun b4 b5 b6 _ _ _ _ h0 h1 => ⟨pk_in P 2 hP hp, ?_⟩)⟩)
  rw [eP]
  exact H b4 b5 b6 h0 h1
theorem rb_settled {post : Int32 → Prop} {a1 a2 s a4 a5 a6 : Nat → Int32} {n k : Nat} (hn : n ≤ 40) (hU : rb_U a1 k) (H1 : n ≤ k ∨ rb_O (s k) → post 1) (H0 : k < n → ¬ rb_O (s k) → post 0) : wpX_settled post (nI n, a1, a2, s, a4, a5, a6) := by
  have hk := rb_U_40 hU
  have e0 : (nI k).toNatClampNeg = k := nI_clamp (by omega)
  unfold wpX_settled
  refine rb_sure hU (pk_le n k (fun z => H1 (Or.inl z)) (fun z => ⟨pk_in k 41 (by omega), rb_isOver (fun ho => br_f (by decide) (H1 (Or.inr ?_))) (fun ho => br_t rfl (H0 z ?_))⟩))
  · rw [e0] at ho; exact ho
  · rw [e0] at ho; exact ho
theorem rb_f139 {post : Int32 → Prop} {x0 x1 x2 x3 x4 x5 x6 x7 x8 x9 x10 x11 x12 z0 : Int32} (c1 : ¬ x1 < 0) (c2 : ¬ x3 ≤ x2) (c3 : ¬ 5 < x4) (c4 : ¬ 5 < x5) (c5 : ¬ 2 < x6) (c6 : ¬ 2 < x7) (c7 : ¬ x8 < -1) (c8 : ¬ 1 < x8) (c9 : ¬ x9 < -1) (c10 : ¬ 1 < x9) (c11 : ¬ x10 < 0) (c12 : ¬ 1 < x10) (c13 : ¬ x11 < 0) (c14 : ¬ 1 < x11)
    (cz : ¬ x10 + x11 = 0 → ¬ z0 = 0) (co : ¬ x12 = 0 → x1 = x0) (H : post 1) : wL_follows_139 post x0 x1 x2 x3 x4 x5 x6 x7 x8 x9 x10 x11 x12 z0 :=
  have g : wL_follows_233 post x0 x1 x12 := br_c (fun _ => H) (fun z => br_t (co z) H)
  br_f c1 (br_f c2 (br_f c3 (br_f c4 (br_f c5 (br_f c6 (br_f c7 (br_f c8 (br_f c9 (br_f c10 (br_f c11 (br_f c12 (br_f c13 (br_f c14 (br_c (fun _ => g) (fun z => br_f (cz z) g)))))))))))))))
theorem rb_lo {a b : Nat} (ha : a < 100) (hb : b < 100) (h : b ≤ a + 1) : ¬ nI a - nI b < -1 := by
  rw [Int32.lt_iff_toInt_lt, pk_sub_toInt (by omega) (by omega), show (-1 : Int32).toInt = -1 from rfl]
  omega
theorem rb_hi {a b : Nat} (ha : a < 100) (hb : b < 100) (h : a ≤ b + 1) : ¬ 1 < nI a - nI b := by
  rw [Int32.lt_iff_toInt_lt, pk_sub_toInt (by omega) (by omega), show (1 : Int32).toInt = 1 from rfl]
  omega
theorem rb_f118 {post : Int32 → Prop} {v w x12 : Int32} {x y a b x' y' a' b' p' q' : Nat} (hw : rb_G w x' y' a' b' p' q') (hx : x ≤ 9) (hy : y ≤ 9) (ha : a ≤ 5) (hb : b ≤ 5) (hS : rb_S x y a b x' y' a' b' p' q') (co : ¬ x12 = 0 → w = v) (H : post 1) :
    wL_follows_118 post v w (nI x') (nI y') (nI a') (nI b') (nI p') (nI q') (nI x' - nI x) (nI y' - nI y) (nI a - nI a') (nI b - nI b') x12 := by
  obtain ⟨s1, s2, s3, s4, s5, s6, s7, s8, s9, s10, s11, s12, s13⟩ := hS
  obtain ⟨_, _, _, _, _, _, e⟩ := hw
  have c1 : ¬ w < 0 := by rw [e]; exact nI_pos (rb_N_lt s1 s2 (by omega) (by omega) s12 s13)
  have ea : nI a - nI a' = nI (a - a') := pk_sub s7
  have eb : nI b - nI b' = nI (b - b') := pk_sub s9
  have t : ∀ z0 : Int32, (¬ (a = a' ∧ b = b') → ¬ z0 = 0) → wL_follows_139 post v w (nI x') (nI y') (nI a') (nI b') (nI p') (nI q') (nI x' - nI x) (nI y' - nI y) (nI a - nI a') (nI b - nI b') x12 z0 := by
    intro z0 hz
    refine rb_f139 c1 (nI_ge s1 (by omega)) (nI_nlt (b := a') (a := 5) (by omega) (by omega)) (nI_nlt (b := b') (a := 5) (by omega) (by omega)) (nI_nlt (b := p') (a := 2) (by omega) (by omega)) (nI_nlt (b := q') (a := 2) (by omega) (by omega))
      (rb_lo (by omega) (by omega) (by omega)) (rb_hi (by omega) (by omega) (by omega)) (rb_lo (by omega) (by omega) (by omega)) (rb_hi (by omega) (by omega) (by omega)) ?_ ?_ ?_ ?_ (fun z => hz (fun u => z ?_)) co H
    · rw [ea]; exact nI_pos (by omega)
    · rw [ea]; exact nI_nlt (b := a - a') (a := 1) (by omega) (by omega)
    · rw [eb]; exact nI_pos (by omega)
    · rw [eb]; exact nI_nlt (b := b - b') (a := 1) (by omega) (by omega)
    · rw [ea, eb, nI_add, show a - a' + (b - b') = 0 by omega]; rfl
  refine br_f (rb_hi (by omega) (by omega) (by omega)) (pk_lt 1 (y' - x') (fun z => t 0 (fun u => absurd (s11.resolve_left u) (by omega))) (fun _ => t 1 (fun _ => by decide)) rfl (pk_sub (by omega)))
theorem rb_follows {post : Int32 → Prop} {v w : Int32} (h : rb_F v w) (H : post 1) : wpL_follows post () v w := by
  obtain ⟨x, y, a, b, p, q, x', y', a', b', p', q', hv, hw, hS, ho⟩ := h
  obtain ⟨d0, d1, d2, d3, d4, d5⟩ := rb_digs hv
  obtain ⟨e0, e1, e2, e3, e4, e5⟩ := rb_digs hw
  have hv' := hv
  obtain ⟨g0, g1, g2, g3, g4, g5, _⟩ := hv'
  have t : ∀ x12 : Int32, (¬ x12 = 0 → w = v) → wL_follows_118 post v w (nI x') (nI y') (nI a') (nI b') (nI p') (nI q') (nI x' - nI x) (nI y' - nI y) (nI a - nI a') (nI b - nI b') x12 :=
    fun x12 co => rb_f118 hw (by omega) (by omega) g2 g3 hS co H
  have t113 : (a = 0 ∨ b = 0) → wL_follows_113 post v w (nI x') (nI y') (nI a') (nI b') (nI p') (nI q') (nI x' - nI x) (nI y' - nI y) (nI a - nI a') (nI b - nI b') := fun z => t 1 (fun _ => ho z)
  refine ⟨by decide, nm_r e0 ⟨by decide, by decide, nm_r e1 ⟨by decide, by decide, nm_r e2 ⟨by decide, by decide, nm_r e3 ⟨by decide, by decide, nm_r e4 ⟨by decide, nm_r e5 ⟨by decide, nm_r (e' := nI x' - nI x) (by rw [d0]) ⟨by decide, by decide, nm_r (e' := nI y' - nI y) (by rw [d1]) ⟨by decide, by decide, nm_r (e' := nI a - nI a') (by rw [d2]) ⟨by decide, by decide, nm_r (e' := nI b - nI b') (by rw [d3]) ⟨by decide, by decide, ?_⟩⟩⟩⟩⟩⟩⟩⟩⟩⟩⟩
  exact pk_eq a 0 (fun z => t113 (Or.inl z)) (fun za => ⟨by decide, by decide, pk_eq b 0 (fun z => t113 (Or.inr z)) (fun zb => t 0 (fun z => absurd rfl z)) d3⟩) d2
end
section
theorem rb_moveBad {post : Int32 → Prop} {f : Int32} {a1 a2 s a4 a5 a6 : Nat → Int32} (H : post (-1)) : wpX_move post (f, a1, a2, s, a4, a5, a6) 0 (-1) := by
  unfold wpX_move
  exact rb_isP (P := 0) rfl (by omega) (br_f (by decide) (br_t (by decide) (br_t rfl H)))
theorem rb_strengthBad {post : Int32 → St1 → Prop} {f p : Int32} {a1 a2 s a4 a5 a6 : Nat → Int32} (h0 : ¬ p = 0) (h1 : ¬ p = 1) (H : post (-1) (f, a1, a2, s, a4, a5, a6)) : wpX_strength post (f, a1, a2, s, a4, a5, a6) p := by
  unfold wpX_strength
  exact rb_notP h0 h1 (br_t rfl H)
theorem rb_pauseBad {post : Int32 → St1 → Prop} {f p : Int32} {a1 a2 s a4 a5 a6 : Nat → Int32} (h0 : ¬ p = 0) (h1 : ¬ p = 1) (H : post (-1) (f, a1, a2, s, a4, a5, a6)) : wpX_pause post (f, a1, a2, s, a4, a5, a6) p := by
  unfold wpX_pause
  exact rb_notP h0 h1 (br_t rfl H)
theorem rb_325 {post : Int32 → Prop} {L : Nat} {xs : Nat → Int32} {J : Int32 → Int32 → (Nat → Int32) → (Nat → Int32) → (Nat → Int32) → (Nat → Int32) → (Nat → Int32) → (Nat → Int32) → Prop} {z0 : Int32} {kc ks i n k : Nat} {a1 a2 s a4 a5 a6 : Nat → Int32}
    (hn : n ≤ 40) (hC : rb_C s) (hU : rb_U a1 k) (z1 : n ≤ k ∨ rb_O (s k) → z0 = 1) (z2 : k < n → ¬ rb_O (s k) → z0 = 0)
    (H : ∀ b4 b5 b6 : Nat → Int32, J (nI (i + 4)) (nI n) a1 a2 s b4 b5 b6) :
    wL_law_325 post L xs J (nI i) (nI n) z0 kc ks (nI n) a1 a2 s a4 a5 a6 := by
  obtain ⟨x, y, a, b, p, q, hG⟩ := rb_C_D hC hn
  have e := hG.2.2.2.2.2.2
  refine rb_position (P := 0) rfl (by omega) hn hG (fun b4 b5 b6 hx _ => ?_)
  refine rb_position (P := 1) rfl (by omega) hn hG (fun c4 c5 c6 _ hy => ?_)
  refine rb_strength (P := 0) rfl (by omega) hn hG (fun d4 d5 d6 ha _ => ?_)
  refine rb_strength (P := 1) rfl (by omega) hn hG (fun e4 e5 e6 _ hb => ?_)
  refine rb_pause (P := 0) rfl (by omega) hn hG (fun f4 f5 f6 hp _ => ?_)
  refine rb_pause (P := 1) rfl (by omega) hn hG (fun g4 g5 g6 _ hq => ?_)
  refine nm_r (e' := s n) (by rw [hx, hy, ha, hb, hp, hq, rb_sum, e]) ?_
  refine rb_settled hn hU (fun z => br_t (z1 z).symm ?_) (fun z w => br_t (z2 z w).symm ?_)
  all_goals
    refine rb_shown rfl hn (br_t rfl ?_)
    refine rb_moveBad (br_t rfl ?_)
    refine rb_strengthBad (by decide) (by decide) (br_t rfl ?_)
    exact rb_pauseBad (by decide) (by decide) (br_t rfl (nm_r (e' := nI (i + 4)) (nI_add i 4) (H _ _ _)))
theorem rb_inner {post : Int32 → Prop} {L : Nat} {xs : Nat → Int32} {J : Int32 → Int32 → (Nat → Int32) → (Nat → Int32) → (Nat → Int32) → (Nat → Int32) → (Nat → Int32) → (Nat → Int32) → Prop} {ov : Int32} {kc ks i n k : Nat} {a1 a2 s : Nat → Int32}
    (hn : n ≤ 40) (hC : rb_C s) (hU : rb_U a1 k) (hV : rb_V s ov)
    (H : ∀ b4 b5 b6 : Nat → Int32, J (nI (i + 4)) (nI n) a1 a2 s b4 b5 b6) :
    ∀ (fu j : Nat) (a4 a5 a6 : Nat → Int32), 1 ≤ j → j ≤ 41 → 41 - j < fu → wL_law_139 post L xs J (nI i) (nI n) (nI k) ov kc ks fu (nI j) (nI n) a1 a2 s a4 a5 a6 := by
  have hk := rb_U_40 hU
  intro fu
  induction fu with
  | zero => exact fun j a4 a5 a6 _ _ h => absurd h (by omega)
  | succ fu ih =>
    intro j a4 a5 a6 h1 h41 hfu
    refine pk_lt 40 j (fun _ => pk_le n k (fun z => rb_325 hn hC hU (fun _ => rfl) (fun u _ => absurd u (by omega)) H) (fun z => ?_)) (fun hj => ?_)
    · obtain ⟨x, y, a, b, p, q, hG⟩ := rb_C_D hC hk
      have hd := rb_due_O hG
      refine rb_winner rfl hk hG (fun b4 b5 b6 => br_c (fun w => rb_325 hn hC hU (fun u => ?_) (fun _ _ => rfl) H) (fun w => rb_325 hn hC hU (fun _ => rfl) (fun _ u => absurd (hd.mpr u) w) H))
      rcases u with u | u
      · exact absurd u (by omega)
      · exact absurd u (hd.mp w)
    · have hF := hC.2 (j - 1) (by omega)
      rw [show j - 1 + 1 = j by omega] at hF
      obtain ⟨x, y, a, b, p, q, hG⟩ := rb_C_D hC hj
      have hd := rb_due_O hG
      have hat := rb_V_at hC hV hj
      obtain ⟨_, _, d2, d3, _, _⟩ := rb_digs hG
      have hG' := hG
      obtain ⟨_, _, g3, g4, _, _, _⟩ := hG'
      refine rb_shown (g := j - 1) (pk_sub (b := 1) h1) (by omega) (rb_shown rfl hj (rb_winner rfl hj hG (fun b4 b5 b6 => ⟨by decide, by decide, ?_⟩)))
      have hnext : ∀ z : Int32, z = z → wL_law_139 post L xs J (nI i) (nI n) (nI k) ov kc ks fu (nI j + 1) (nI n) a1 a2 s b4 b5 b6 := fun _ _ => by
        rw [nI_1]
        exact ih (j + 1) b4 b5 b6 (by omega) (by omega) (by omega)
      have t243 : wL_law_243 post L xs J (wL_law_139 post L xs J (nI i) (nI n) (nI k) ov kc ks fu) (nI i) (nI n) (nI k) ov (nI j) (s (j - 1)) (s j) (rb_due a b) (rb_due a b) kc ks (nI n) a1 a2 s b4 b5 b6 := by
        refine rb_follows hF (br_f (by decide) (br_t rfl ?_))
        have t278 : (¬ (¬ ov < 0 ∧ ¬ nI j < ov)) → wL_law_278 post L xs J (wL_law_139 post L xs J (nI i) (nI n) (nI k) ov kc ks fu) (nI i) (nI n) (nI k) ov (nI j) (rb_due a b) kc ks (nI n) a1 a2 s b4 b5 b6 := fun hno =>
          br_t (hd.mpr (fun u => hno (hat.mpr u))) (br_t rfl (nm_e (hnext 0 rfl)))
        refine br_c (fun u => t278 (fun v => v.1 u)) (fun u => br_c (fun v => t278 (fun w => w.2 v)) (fun v => br_f (fun w => (hd.mp w) (hat.mp ⟨u, v⟩)) (br_t rfl (nm_e (hnext 0 rfl)))))
      have t223 : ∀ c d : Int32, wL_law_243 post L xs J (wL_law_139 post L xs J (nI i) (nI n) (nI k) ov kc ks fu) (nI i) (nI n) (nI k) ov (nI j) (s (j - 1)) (s j) (rb_due a b) (if d = 0 then (if c = 0 then -2 else 1) else 0) kc ks (nI n) a1 a2 s b4 b5 b6 →
          wL_law_223 post L xs J (wL_law_139 post L xs J (nI i) (nI n) (nI k) ov kc ks fu) (nI i) (nI n) (nI k) ov (nI j) (s (j - 1)) (s j) (rb_due a b) c d kc ks (nI n) a1 a2 s b4 b5 b6 := by
        intro c d h
        refine br_c (fun u => ?_) (fun u => ?_)
        · rw [if_pos u] at h
          refine br_c (fun w => ?_) (fun w => ?_)
          · rw [if_pos w] at h; exact h
          · rw [if_neg w] at h; exact h
        · rw [if_neg u] at h; exact h
      refine pk_eq a 0 (fun za => ⟨by decide, by decide, pk_eq b 0 (fun zb => ?_) (fun zb => ?_) d3⟩) (fun za => ⟨by decide, by decide, pk_eq b 0 (fun zb => ?_) (fun zb => ?_) d3⟩) d2
      · have e : rb_due a b = 2 := by unfold rb_due; rw [if_pos za, if_pos zb]
        refine br_f (by decide) (br_f (by decide) ?_)
        have t := t243
        rw [e] at t ⊢
        exact t
      · have e : rb_due a b = 1 := by unfold rb_due; rw [if_pos za, if_neg zb]
        refine br_f (by decide) (br_t rfl (t223 1 0 ?_))
        have t := t243
        rw [e] at t ⊢
        exact t
      · have e : rb_due a b = 0 := by unfold rb_due; rw [if_neg za, if_pos zb]
        refine br_t rfl (t223 0 1 ?_)
        have t := t243
        rw [e] at t ⊢
        exact t
      · have e : rb_due a b = -2 := by unfold rb_due; rw [if_neg za, if_neg zb]
        refine br_t rfl (t223 0 0 ?_)
        have t := t243
        rw [e] at t ⊢
        exact t
end
section
theorem rb_outer {post : Int32 → Prop} {L : Nat} {xs : Nat → Int32} {kc ks : Nat} (hL : L ≤ 260) (H : post 1) :
    ∀ (fu i n : Nat) (a1 a2 s a4 a5 a6 : Nat → Int32), i ≤ 264 → 264 - i < fu → n ≤ 40 → rb_C s → wL_law_10 post L xs kc ks fu (nI i) (nI n) a1 a2 s a4 a5 a6 := by
  intro fu
  induction fu with
  | zero => exact fun i n a1 a2 s a4 a5 a6 _ h => absurd h (by omega)
  | succ fu ih =>
    intro i n a1 a2 s a4 a5 a6 hi hfu hn hC
    refine pk_le L (i + 3) (fun _ => H) (fun hl => ?_) rfl (nI_add i 3)
    obtain ⟨k, hU⟩ := rb_U_ex a1
    have hk := rb_U_40 hU
    refine rb_sure hU (rb_shown rfl hk ⟨pk_in i L (by omega), pk_in (i + 1) L (by omega) (nI_1 i), pk_in (i + 2) L (by omega) (nI_add i 2), pk_in (i + 3) L (by omega) (nI_add i 3), rb_turn hn hC hU (fun n' b1 b2 s' b4 b5 b6 l1 l2 l3 hm hs hC' => ?_)⟩)
    obtain ⟨k', hU'⟩ := rb_U_ex b1
    have hk' := rb_U_40 hU'
    have hkk := rb_U_le hU hU' hm
    have c2 : ¬ nI n + 1 < nI n' := by
      rw [nI_1]
      exact nI_nlt l2 (by omega)
    refine rb_sure hU' (rb_overAfter (fun ov hV => ?_))
    refine br_f (nI_nlt l1 (by omega)) (br_f c2 (br_f (nI_nlt (b := n') (a := 40) l3 (by omega)) (br_f (nI_nlt hkk (by omega)) (br_f (nI_nlt (b := k') (a := 40) hk' (by omega)) ?_))))
    refine rb_shown rfl hk (br_t hs (rb_shown (g := 0) rfl (by omega) (br_t hC'.1 ⟨41, ?_⟩)))
    exact rb_inner l3 hC' hU' hV (fun c4 c5 c6 => ih (i + 4) n' b1 b2 s' c4 c5 c6 (by omega) (by omega) l3 hC') 41 1 b4 b5 b6 (by omega) (by omega) (by omega)
theorem i_vc (xs : Nat → Int32) (L : Nat) (hL : L ≤ 260) : wpL_law (fun r => r = 1) L xs := by
  refine ⟨6, 207, by omega, by omega, ?_⟩
  refine ⟨by omega, by omega, by omega, by omega, by omega, by omega, by omega, by omega, by omega, by omega, by omega, by omega, nm_e ?_⟩
  refine rb_replay (fr := 0) (by omega) ⟨Nat.le_refl 0, ?_, fun g hg => absurd hg (by omega), fun _ _ => rfl, Or.inl rfl⟩ (fun r s b4 b5 b6 hF hs => ⟨265, ?_⟩)
  · exact ⟨_, _, _, _, _, _, rb_G0⟩
  · exact rb_outer (post := fun r => r = 1) hL rfl 265 0 0 _ _ s b4 b5 b6 (by omega) (by omega) (by omega) ⟨hs 0 (by omega), hF⟩
end
