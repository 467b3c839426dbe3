section
/-! ints and edges, no program in sight -/
theorem rl_le9 (x : Int32) : x ≤ 9 ↔ x < 10 := by
  rw [Int32.le_iff_toInt_le, Int32.lt_iff_toInt_lt]
  have h9 : (9 : Int32).toInt = 9 := by decide
  have h10 : (10 : Int32).toInt = 10 := by decide
  omega
/-- no block -/
def rl_bad (x : Int32) : Prop := x < 0 ∨ ¬ x < 10
/-- no variable -/
def rl_odd (x : Int32) : Prop := x < 0 ∨ ¬ x ≤ 3
/-- no op -/
def rl_nop (x : Int32) : Prop := x < 0 ∨ ¬ x ≤ 5
/-- an operand that is asked to be a variable and is none -/
def rl_opd (x1 x3 : Int32) : Prop := ¬ x1 < 1 ∧ ¬ 3 < x1 ∧ rl_odd x3
/-- x is the int of the boolean P -/
def rl_bit (x : Int32) (P : Prop) : Prop := (x = 0 → ¬ P) ∧ (¬ x = 0 → P)
theorem rl_good {x : Int32} (h : ¬ rl_bad x) : ∃ b : Nat, b < 10 ∧ x = nI b := by
  have h0 : ¬ x < 0 := fun g => h (Or.inl g)
  have h1 : x < 10 := Classical.byContradiction (fun g => h (Or.inr g))
  obtain ⟨j, hj, e⟩ := nI_of2 (M := 9) (n := 9) (by decide) h0 ((rl_le9 x).mpr h1)
  exact ⟨j, by omega, e⟩
theorem rl_even {x : Int32} (h : ¬ rl_odd x) : ∃ b : Nat, b < 4 ∧ x = nI b := by
  have h0 : ¬ x < 0 := fun g => h (Or.inl g)
  have h1 : x ≤ 3 := Classical.byContradiction (fun g => h (Or.inr g))
  obtain ⟨j, hj, e⟩ := nI_of2 (M := 3) (n := 3) (by decide) h0 h1
  exact ⟨j, by omega, e⟩
theorem rl_bit0 {P : Prop} (h : ¬ P) : rl_bit 0 P := ⟨fun _ => h, fun z => absurd rfl z⟩
theorem rl_bit1 {P : Prop} (h : P) : rl_bit 1 P := ⟨fun z => absurd z (by decide), fun _ => h⟩
theorem rl_bz {x : Int32} {P : Prop} (b : rl_bit x P) (h : ¬ P) : x = 0 := Classical.byContradiction (fun z => h (b.2 z))
theorem rl_bn {x : Int32} {P : Prop} (b : rl_bit x P) (h : P) : ¬ x = 0 := fun z => b.1 z h
/-- where an end goes: nowhere, or to a block -/
def rl_E (x : Int32) : Prop := x = -1 ∨ ∃ t : Nat, t < 10 ∧ x = nI t
theorem rl_E1 : rl_E (-1) := Or.inl rfl
theorem rl_Eg {x : Int32} (h : ¬ rl_bad x) : rl_E x := Or.inr (rl_good h)
/-- the graph: all ends lead to blocks or nowhere; either no other block than 0 leads on, or 0 doesn't -/
def rl_G (p q : Nat → Int32) : Prop := (∀ j, j < 10 → rl_E (p j) ∧ rl_E (q j)) ∧ ((∀ j, 0 < j → j < 10 → p j = -1 ∧ q j = -1) ∨ (p 0 = -1 ∧ q 0 = -1))
/-- the order's places hold blocks -/
def rl_K (g : Nat → Int32) : Prop := ∀ j, j < 10 → vp_in (g j) 10
theorem rl_Ku {g : Nat → Int32} {k : Nat} {x : Int32} (h : rl_K g) (hx : vp_in x 10) : rl_K (upd g k x) := by
  intro j hj
  by_cases e : j = k
  · rw [e, pk_us]; exact hx
  · rw [pk_un e]; exact h j hj
theorem rl_K0 : rl_K (fun _ => 0) := fun j _ => pk_in 0 10 (by omega)
/-- one block b leads to T and U, all others nowhere -/
def rl_P (p q : Nat → Int32) (b : Nat) (T U : Int32) : Prop := (∀ j, j < 10 → j ≠ b → p j = -1 ∧ q j = -1) ∧ p b = T ∧ q b = U
/-- no block leads on -/
def rl_N (p q : Nat → Int32) : Prop := ∀ j, j < 10 → p j = -1 ∧ q j = -1
theorem rl_PG {p q : Nat → Int32} {b : Nat} {T U : Int32} (h : rl_P p q b T U) (hT : rl_E T) (hU : rl_E U) : rl_G p q := by
  obtain ⟨h1, h2, h3⟩ := h
  refine ⟨fun j hj => ?_, ?_⟩
  · by_cases e : j = b
    · rw [e, h2, h3]; exact ⟨hT, hU⟩
    · rw [(h1 j hj e).1, (h1 j hj e).2]; exact ⟨rl_E1, rl_E1⟩
  · by_cases e : b = 0
    · exact Or.inl (fun j h0 hj => h1 j hj (by omega))
    · exact Or.inr (h1 0 (by omega) (by omega))
theorem rl_NG {p q : Nat → Int32} (h : rl_N p q) : rl_G p q := by
  refine ⟨fun j hj => ?_, Or.inr (h 0 (by omega))⟩
  rw [(h j hj).1, (h j hj).2]; exact ⟨rl_E1, rl_E1⟩
theorem rl_NP {p q : Nat → Int32} (h : rl_N p q) (b : Nat) (T U : Int32) : rl_P (upd p b T) (upd q b U) b T U :=
  ⟨fun j hj e => by rw [pk_un e, pk_un e]; exact h j hj, pk_us, pk_us⟩
theorem rl_PP {p q : Nat → Int32} {b : Nat} {T U : Int32} (h : rl_P p q b T U) (T' U' : Int32) : rl_P (upd p b T') (upd q b U') b T' U' :=
  ⟨fun j hj e => by rw [pk_un e, pk_un e]; exact h.1 j hj e, pk_us, pk_us⟩
/-- how many blocks the walk places -/
def rl_n1 (T : Int32) : Nat := if 0 < T then 1 else 0
def rl_n2 (T U : Int32) : Nat := if 0 < U ∧ ¬ U = T then 1 else 0
def rl_cnt (T U : Int32) : Nat := rl_n1 T + rl_n2 T U + 1
theorem rl_c0 : rl_cnt (-1) (-1) = 1 := by decide
theorem rl_cA : ∀ t, t < 10 → rl_cnt (nI t) (-1) = if t = 0 then 1 else 2 := by decide +kernel
theorem rl_cB : ∀ t, t < 10 → ∀ u, u < 10 → rl_cnt (nI t) (nI u) = (if t = 0 then 1 else 2) + (if u = 0 ∨ u = t then 0 else 1) := by decide +kernel
theorem rl_n1m : rl_n1 (-1) = 0 := by decide
theorem rl_n1t : ∀ t, t < 10 → rl_n1 (nI t) = if t = 0 then 0 else 1 := by decide +kernel
theorem rl_n2m (T : Int32) : rl_n2 T (-1) = 0 := by
  unfold rl_n2
  exact if_neg (fun h => absurd h.1 (by decide))
theorem rl_n2u (T : Int32) {u : Nat} (hu : u < 10) (h : u = 0 ∨ nI u = T) : rl_n2 T (nI u) = 0 := by
  unfold rl_n2
  refine if_neg (fun g => ?_)
  rcases h with h | h
  · rw [h] at g; exact absurd g.1 (by decide)
  · exact g.2 h
theorem rl_n2v (T : Int32) {u : Nat} (hu : u < 10) (h0 : u ≠ 0) (h : ¬ nI u = T) : rl_n2 T (nI u) = 1 := by
  unfold rl_n2
  exact if_pos ⟨nI_lt (a := 0) (by omega) (by omega), h⟩
theorem rl_n1le (T : Int32) : rl_n1 T ≤ 1 := by unfold rl_n1; split <;> omega
theorem rl_n2le (T U : Int32) : rl_n2 T U ≤ 1 := by unfold rl_n2; split <;> omega
/-- the set of blocks met: its bits -/
theorem rl_m1 : ∀ u, u < 10 → ((((1 : Int32) >>> (nI u &&& 31)) &&& 1) = 0 ↔ u ≠ 0) := by decide +kernel
theorem rl_m2 : ∀ t, t < 10 → ∀ u, u < 10 → (((((1 : Int32) ||| ((1 : Int32) <<< (nI t &&& 31))) >>> (nI u &&& 31)) &&& 1) = 0 ↔ (u ≠ 0 ∧ u ≠ t)) := by decide +kernel
theorem rl_m1n : ∀ t, t < 10 → ¬ nI t = -1 := by decide +kernel
theorem rl_b3 {b : Nat} : nI b * 3 = nI (b * 3) := pk_mul b 3
/-- what assign answers on an empty block -/
def rl_due (x0 x1 x2 x3 d : Int32) : Prop := (rl_bad x0 → d = -1) ∧ (¬ rl_bad x0 → (rl_nop x1 → d = -3) ∧ (¬ rl_nop x1 → ((rl_odd x2 ∨ rl_opd x1 x3) → d = -2) ∧ (¬ (rl_odd x2 ∨ rl_opd x1 x3) → d = 1)))
theorem rl_due1 {x0 x1 x2 x3 d e : Int32} (h : rl_due x0 x1 x2 x3 d) (g : rl_due x0 x1 x2 x3 e) : d = e := by
  by_cases a : rl_bad x0
  · rw [h.1 a, g.1 a]
  · by_cases b : rl_nop x1
    · rw [(h.2 a).1 b, (g.2 a).1 b]
    · by_cases c : rl_odd x2 ∨ rl_opd x1 x3
      · rw [((h.2 a).2 b).1 c, ((g.2 a).2 b).1 c]
      · rw [((h.2 a).2 b).2 c, ((g.2 a).2 b).2 c]
theorem rl_dA {x0 x1 x2 x3 : Int32} (a : rl_bad x0) : rl_due x0 x1 x2 x3 (-1) := ⟨fun _ => rfl, fun z => absurd a z⟩
theorem rl_dB {x0 x1 x2 x3 : Int32} (a : ¬ rl_bad x0) (b : rl_nop x1) : rl_due x0 x1 x2 x3 (-3) := ⟨fun z => absurd z a, fun _ => ⟨fun _ => rfl, fun z => absurd b z⟩⟩
theorem rl_dC {x0 x1 x2 x3 : Int32} (a : ¬ rl_bad x0) (b : ¬ rl_nop x1) (c : rl_odd x2 ∨ rl_opd x1 x3) : rl_due x0 x1 x2 x3 (-2) := ⟨fun z => absurd z a, fun _ => ⟨fun z => absurd z b, fun _ => ⟨fun _ => rfl, fun z => absurd c z⟩⟩⟩
theorem rl_dD {x0 x1 x2 x3 : Int32} (a : ¬ rl_bad x0) (b : ¬ rl_nop x1) (c : ¬ (rl_odd x2 ∨ rl_opd x1 x3)) : rl_due x0 x1 x2 x3 1 := ⟨fun z => absurd z a, fun _ => ⟨fun z => absurd z b, fun _ => ⟨fun z => absurd z c, fun _ => rfl⟩⟩⟩
end
section
section
variable {post : St2 → Prop} {f1 f2 f3 f4 f5 f6 f7 f8 : Int32} {a1 a2 a3 a4 a5 a6 a7 a8 a9 a10 a11 a12 a13 a14 a15 a16 a17 a18 a19 : Nat → Int32}
/-! the constructor -/
theorem rl_init {mc ms : Nat} (hc : 19 ≤ mc) (hs : 390 ≤ ms) (H : ∀ s5 s6 s7 : Nat → Int32, rl_N s6 s7 → post (0, 0, 0, 0, 0, 0, -1, 0, (fun _ => 0), (fun _ => 0), (fun _ => 0), (fun _ => 0), s5, s6, s7, (fun _ => 0), (fun _ => 0), (fun _ => 0), (fun _ => 0), (fun _ => 0), (fun _ => 0), (fun _ => 0), (fun _ => 0), (fun _ => 0), (fun _ => 0), (fun _ => 0), (fun _ => 0))) : wpX_init post mc ms (0, 0, 0, 0, 0, 0, 0, 0) :=
  ⟨by omega, by omega, by omega, by omega, by omega, by omega, by omega, by omega, by omega, by omega, by omega, by omega, by omega, by omega, by omega, by omega, by omega, by omega, by omega, by omega, by omega, by omega, by omega, by omega, by omega, by omega, by omega, by omega, by omega, by omega, by omega, by omega, by omega, by omega, by omega, by omega, by omega, by omega, pk_loop (σ := (Nat → Int32) × (Nat → Int32) × (Nat → Int32)) (fun n i s => wX_init_157 post mc ms 19 390 0 0 0 0 0 0 0 0 n (nI i) (fun _ => 0) (fun _ => 0) (fun _ => 0) (fun _ => 0) s.1 s.2.1 s.2.2 (fun _ => 0) (fun _ => 0) (fun _ => 0) (fun _ => 0) (fun _ => 0) (fun _ => 0) (fun _ => 0) (fun _ => 0) (fun _ => 0) (fun _ => 0) (fun _ => 0) (fun _ => 0)) (fun i s => ∀ j, j < i → s.2.1 j = -1 ∧ s.2.2 j = -1) 10 0 ((fun _ => 0), (fun _ => 0), (fun _ => 0)) (by omega) (fun j hj => absurd hj (by omega))
    (fun n s h => pk_le 10 10 (fun _ => H s.1 s.2.1 s.2.2 h) (fun z => absurd z (by omega)))
    (fun n i s hi h hw => pk_le 10 i (fun z => absurd z (by omega)) (fun _ => ⟨pk_in i 10 hi, fun s5 _ => ⟨pk_in i 10 hi, fun s6 e6 => ⟨pk_in i 10 hi, fun s7 e7 => nm_r (nI_1 i) (hw (s5, s6, s7) (by
      intro j hj
      show s6 j = -1 ∧ s7 j = -1
      rw [e6, e7, nI_clamp (show i < 2 ^ 31 by omega)]
      by_cases e : j = i
      · rw [e, pk_us, pk_us]; exact ⟨rfl, rfl⟩
      · rw [pk_un e, pk_un e]; exact h j (by omega)))⟩⟩⟩))⟩
/-! the order's last loop: any left and count that make ten -/
theorem rl_201 {c : Nat} (hc : c ≤ 10) (h8 : rl_K a8) (H : ∀ s8 s9 : Nat → Int32, rl_K s8 → post (f1, nI c, f3, f4, f5, f6, f7, f8, a1, a2, a3, a4, a5, a6, a7, s8, s9, a10, a11, a12, a13, a14, a15, a16, a17, a18, a19)) : ∃ n, wX_orderBlocks_201 post (nI (10 - c)) f1 (nI c) f3 f4 f5 f6 f7 f8 n 0 a1 a2 a3 a4 a5 a6 a7 a8 a9 a10 a11 a12 a13 a14 a15 a16 a17 a18 a19 :=
  pk_loop (σ := (Nat → Int32) × (Nat → Int32)) (fun n i s => wX_orderBlocks_201 post (nI (10 - c)) f1 (nI c) f3 f4 f5 f6 f7 f8 n (nI i) a1 a2 a3 a4 a5 a6 a7 s.1 s.2 a10 a11 a12 a13 a14 a15 a16 a17 a18 a19) (fun i s => rl_K s.1) c 0 (a8, a9) (by omega) h8
    (fun n s h => pk_le c c (fun _ => H s.1 s.2 h) (fun z => absurd z (by omega)))
    (fun n i s hi h hw => pk_le c i (fun z => absurd z (by omega)) (fun _ => ⟨pk_in (10 - c + i) 10 (by omega) (nI_add _ _), pk_in i 10 (by omega), fun b8 e8 => by
      have k8 : rl_K b8 := by
        rw [e8, nI_add, nI_clamp (show 10 - c + i < 2 ^ 31 by omega)]
        exact rl_Ku h (h _ (by omega))
      exact ⟨pk_in i 10 (by omega), k8 _ (by rw [nI_clamp (show i < 2 ^ 31 by omega)]; omega), fun b9 _ => nm_r (nI_1 i) (hw (b8, b9) k8)⟩⟩))
/-! the walk's steps -/
theorem rl_stop {n c k : Nat} {x2 : Int32} (hc : c ≤ 10) (hk : k < 100) (h8 : rl_K a8) (H : ∀ s8 s9 : Nat → Int32, rl_K s8 → post (f1, nI c, f3, f4, f5, f6, f7, f8, a1, a2, a3, a4, a5, a6, a7, s8, s9, a10, a11, a12, a13, a14, a15, a16, a17, a18, a19)) : wX_orderBlocks_45 post f1 f2 f3 f4 f5 f6 f7 f8 (n + 1) (nI (10 - c)) x2 0 (nI k) a1 a2 a3 a4 a5 a6 a7 a8 a9 a10 a11 a12 a13 a14 a15 a16 a17 a18 a19 := by
  have e : (10 : Int32) - nI (10 - c) = nI c := by
    rw [show (10 : Int32) = nI 10 from rfl, pk_sub (by omega), show 10 - (10 - c) = c by omega]
  exact pk_le 40 k (fun _ => nm_r e (rl_201 hc h8 H)) (fun _ => pk_le 0 0 (fun _ => nm_r e (rl_201 hc h8 H)) (fun z => absurd z (by omega)))
theorem rl_s0 {n d k b : Nat} {x1 x2 : Int32} (hd : d < 11) (hk : k < 40) (hb : b < 10) (eb : a10 d = nI b) (es : a11 d = 0)
    (H : wX_orderBlocks_120 post (wX_orderBlocks_45 post f1 f2 f3 f4 f5 f6 f7 f8 n) x1 x2 (nI (d + 1)) (nI k) (nI b) 0 (a6 b) f1 f2 f3 f4 f5 f6 f7 f8 a1 a2 a3 a4 a5 a6 a7 a8 a9 a10 (upd a11 d 1) a12 a13 a14 a15 a16 a17 a18 a19) : wX_orderBlocks_45 post f1 f2 f3 f4 f5 f6 f7 f8 (n + 1) x1 x2 (nI (d + 1)) (nI k) a1 a2 a3 a4 a5 a6 a7 a8 a9 a10 a11 a12 a13 a14 a15 a16 a17 a18 a19 := by
  refine pk_le 40 k (fun z => absurd z (by omega)) (fun _ => pk_le (d + 1) 0 (fun z => absurd z (by omega)) (fun _ => ?_))
  rw [nI_pred, nI_clamp (show d < 2 ^ 31 by omega)]
  refine ⟨pk_in d 11 hd, nm_r eb ⟨pk_in d 11 hd, nm_r es ⟨pk_in d 11 hd, pk_in d 11 hd, nm_r (e' := upd a11 d 1) (by rw [es]; rfl) (br_t rfl ⟨pk_in b 10 hb, ?_⟩)⟩⟩⟩
  rw [nI_clamp (show b < 2 ^ 31 by omega)]
  exact H
theorem rl_s1 {n d k b : Nat} {x1 x2 : Int32} (hd : d < 11) (hk : k < 40) (hb : b < 10) (eb : a10 d = nI b) (es : a11 d = 1)
    (H : wX_orderBlocks_120 post (wX_orderBlocks_45 post f1 f2 f3 f4 f5 f6 f7 f8 n) x1 x2 (nI (d + 1)) (nI k) (nI b) 1 (a7 b) f1 f2 f3 f4 f5 f6 f7 f8 a1 a2 a3 a4 a5 a6 a7 a8 a9 a10 (upd a11 d 2) a12 a13 a14 a15 a16 a17 a18 a19) : wX_orderBlocks_45 post f1 f2 f3 f4 f5 f6 f7 f8 (n + 1) x1 x2 (nI (d + 1)) (nI k) a1 a2 a3 a4 a5 a6 a7 a8 a9 a10 a11 a12 a13 a14 a15 a16 a17 a18 a19 := by
  refine pk_le 40 k (fun z => absurd z (by omega)) (fun _ => pk_le (d + 1) 0 (fun z => absurd z (by omega)) (fun _ => ?_))
  rw [nI_pred, nI_clamp (show d < 2 ^ 31 by omega)]
  refine ⟨pk_in d 11 hd, nm_r eb ⟨pk_in d 11 hd, nm_r es ⟨pk_in d 11 hd, pk_in d 11 hd, nm_r (e' := upd a11 d 2) (by rw [es]; rfl) (br_f (by decide) (br_t rfl ⟨pk_in b 10 hb, ?_⟩))⟩⟩⟩
  rw [nI_clamp (show b < 2 ^ 31 by omega)]
  exact H
theorem rl_s2 {n d k b l : Nat} {x2 : Int32} (hd : d < 11) (hk : k < 40) (hl : l < 10) (eb : a10 d = nI b) (es : a11 d = 2)
    (H : wX_orderBlocks_45 post f1 f2 f3 f4 f5 f6 f7 f8 n (nI l) x2 (nI d) (nI (k + 1)) a1 a2 a3 a4 a5 a6 a7 (upd a8 l (nI b)) a9 a10 (upd a11 d 3) a12 a13 a14 a15 a16 a17 a18 a19) : wX_orderBlocks_45 post f1 f2 f3 f4 f5 f6 f7 f8 (n + 1) (nI (l + 1)) x2 (nI (d + 1)) (nI k) a1 a2 a3 a4 a5 a6 a7 a8 a9 a10 a11 a12 a13 a14 a15 a16 a17 a18 a19 := by
  refine pk_le 40 k (fun z => absurd z (by omega)) (fun _ => pk_le (d + 1) 0 (fun z => absurd z (by omega)) (fun _ => ?_))
  rw [nI_pred, nI_clamp (show d < 2 ^ 31 by omega)]
  refine ⟨pk_in d 11 hd, nm_r eb ⟨pk_in d 11 hd, nm_r es ⟨pk_in d 11 hd, pk_in d 11 hd, nm_r (e' := upd a11 d 3) (by rw [es]; rfl) (br_f (by decide) (br_f (by decide) ?_))⟩⟩⟩
  exact br_t rfl (nm_r (pk_m1 l) ⟨pk_in l 10 hl, nm_r (by rw [nI_clamp (show l < 2 ^ 31 by omega)]) (nm_r (pk_m1 d) (nm_r (nI_1 k) H))⟩)
theorem rl_skip {n k : Nat} {x1 x2 x3 x5 x6 z0 : Int32} (h6 : ¬ x6 = 2) (hz : z0 < 0 ∨ ¬ ((x2 >>> (z0 &&& 31)) &&& 1) = 0)
    (H : wX_orderBlocks_45 post f1 f2 f3 f4 f5 f6 f7 f8 n x1 x2 x3 (nI (k + 1)) a1 a2 a3 a4 a5 a6 a7 a8 a9 a10 a11 a12 a13 a14 a15 a16 a17 a18 a19) : wX_orderBlocks_120 post (wX_orderBlocks_45 post f1 f2 f3 f4 f5 f6 f7 f8 n) x1 x2 x3 (nI k) x5 x6 z0 f1 f2 f3 f4 f5 f6 f7 f8 a1 a2 a3 a4 a5 a6 a7 a8 a9 a10 a11 a12 a13 a14 a15 a16 a17 a18 a19 :=
  br_f h6 (br_c (fun _ => nm_r (nI_1 k) H) (fun g => br_f (hz.elim (fun z => absurd z g) id) (nm_r (nI_1 k) H)))
theorem rl_push {n k d t : Nat} {x1 x2 x5 x6 z0 : Int32} (h6 : ¬ x6 = 2) (ht : t < 10) (ez : z0 = nI t) (hm : ((x2 >>> (nI t &&& 31)) &&& 1) = 0) (hd : d < 11)
    (H : wX_orderBlocks_45 post f1 f2 f3 f4 f5 f6 f7 f8 n x1 (x2 ||| ((1 : Int32) <<< (nI t &&& 31))) (nI (d + 1)) (nI (k + 1)) a1 a2 a3 a4 a5 a6 a7 a8 a9 (upd a10 d (nI t)) (upd a11 d 0) a12 a13 a14 a15 a16 a17 a18 a19) : wX_orderBlocks_120 post (wX_orderBlocks_45 post f1 f2 f3 f4 f5 f6 f7 f8 n) x1 x2 (nI d) (nI k) x5 x6 z0 f1 f2 f3 f4 f5 f6 f7 f8 a1 a2 a3 a4 a5 a6 a7 a8 a9 a10 a11 a12 a13 a14 a15 a16 a17 a18 a19 := by
  subst ez
  exact br_f h6 (br_f (nI_pos (by omega)) (br_t hm (nm_e ⟨pk_in d 11 hd, nm_r (by rw [nI_clamp (show d < 2 ^ 31 by omega)]) ⟨pk_in d 11 hd, nm_r (by rw [nI_clamp (show d < 2 ^ 31 by omega)]) (nm_r (nI_1 d) (nm_r (nI_1 k) H))⟩⟩)))
/-- a block that leads nowhere, just pushed: three steps place it -/
theorem rl_leaf {n d k b l : Nat} {x2 : Int32} (hd : d < 11) (hk : k + 2 < 40) (hb : b < 10) (hl : l < 10) (eb : a10 d = nI b) (es : a11 d = 0) (e6 : a6 b = -1) (e7 : a7 b = -1)
    (H : wX_orderBlocks_45 post f1 f2 f3 f4 f5 f6 f7 f8 n (nI l) x2 (nI d) (nI (k + 3)) a1 a2 a3 a4 a5 a6 a7 (upd a8 l (nI b)) a9 a10 (upd (upd (upd a11 d 1) d 2) d 3) a12 a13 a14 a15 a16 a17 a18 a19) : wX_orderBlocks_45 post f1 f2 f3 f4 f5 f6 f7 f8 (n + 3) (nI (l + 1)) x2 (nI (d + 1)) (nI k) a1 a2 a3 a4 a5 a6 a7 a8 a9 a10 a11 a12 a13 a14 a15 a16 a17 a18 a19 :=
  rl_s0 hd (by omega) hb eb es (rl_skip (by decide) (Or.inl (by rw [e6]; decide)) (rl_s1 hd (by omega) hb eb pk_us (rl_skip (by decide) (Or.inl (by rw [e7]; decide)) (rl_s2 hd (by omega) hl eb pk_us H))))
end
end
section
section
variable {post : St2 → Prop} {f1 f2 f3 f4 f5 f6 f7 f8 : Int32} {a1 a2 a3 a4 a5 a6 a7 a8 a9 a10 a11 a12 a13 a14 a15 a16 a17 a18 a19 : Nat → Int32}
/-- block 0 is left -/
theorem rl_ph3 {n c k l : Nat} {x2 : Int32} (h1 : 1 ≤ c) (hc : c ≤ 10) (el : l = 10 - c + 1) (hk : k < 40) (e10 : a10 0 = nI 0) (e11 : a11 0 = 2) (h8 : rl_K a8)
    (H : ∀ s8 s9 s11 : Nat → Int32, rl_K s8 → post (f1, nI c, f3, f4, f5, f6, f7, f8, a1, a2, a3, a4, a5, a6, a7, s8, s9, a10, s11, a12, a13, a14, a15, a16, a17, a18, a19)) : wX_orderBlocks_45 post f1 f2 f3 f4 f5 f6 f7 f8 (n + 2) (nI l) x2 (nI 1) (nI k) a1 a2 a3 a4 a5 a6 a7 a8 a9 a10 a11 a12 a13 a14 a15 a16 a17 a18 a19 := by
  subst el
  exact rl_s2 (d := 0) (b := 0) (by omega) hk (by omega) e10 e11 (rl_stop hc (by omega) (rl_Ku h8 (pk_in 0 10 (by omega))) (fun s8 s9 h => H s8 s9 _ h))
/-- block 0's second side -/
theorem rl_ph2 {k l : Nat} {x2 : Int32} (hG : rl_G a6 a7) (el : l = 10 - rl_n1 (a6 0)) (hk : k ≤ 4) (hm : ∀ u, u < 10 → (((x2 >>> (nI u &&& 31)) &&& 1) = 0 ↔ (u ≠ 0 ∧ ¬ nI u = a6 0))) (e10 : a10 0 = nI 0) (e11 : a11 0 = 1) (h8 : rl_K a8)
    (H : ∀ s8 s9 s10 s11 : Nat → Int32, rl_K s8 → post (f1, nI (rl_cnt (a6 0) (a7 0)), f3, f4, f5, f6, f7, f8, a1, a2, a3, a4, a5, a6, a7, s8, s9, s10, s11, a12, a13, a14, a15, a16, a17, a18, a19)) : ∃ n, wX_orderBlocks_45 post f1 f2 f3 f4 f5 f6 f7 f8 n (nI l) x2 (nI 1) (nI k) a1 a2 a3 a4 a5 a6 a7 a8 a9 a10 a11 a12 a13 a14 a15 a16 a17 a18 a19 := by
  have c1 := rl_n1le (a6 0)
  have skip : rl_n2 (a6 0) (a7 0) = 0 → (a7 0 < 0 ∨ ¬ ((x2 >>> (a7 0 &&& 31)) &&& 1) = 0) → ∃ n, wX_orderBlocks_45 post f1 f2 f3 f4 f5 f6 f7 f8 n (nI l) x2 (nI 1) (nI k) a1 a2 a3 a4 a5 a6 a7 a8 a9 a10 a11 a12 a13 a14 a15 a16 a17 a18 a19 := by
    intro e hz
    have ec : rl_cnt (a6 0) (a7 0) = rl_n1 (a6 0) + 1 := by unfold rl_cnt; omega
    rw [ec] at H
    exact ⟨3, rl_s1 (d := 0) (b := 0) (by omega) (by omega) (by omega) e10 e11 (rl_skip (by decide) hz (rl_ph3 (c := rl_n1 (a6 0) + 1) (by omega) (by omega) (by omega) (by omega) e10 pk_us h8 (fun s8 s9 s11 h => H s8 s9 _ s11 h)))⟩
  rcases (hG.1 0 (by omega)).2 with eU | ⟨u, hu, eU⟩
  · exact skip (by rw [eU]; exact rl_n2m _) (Or.inl (by rw [eU]; decide))
  · by_cases hc : u = 0 ∨ nI u = a6 0
    · refine skip (by rw [eU]; exact rl_n2u _ hu hc) (Or.inr ?_)
      rw [eU]
      intro z
      have hz := (hm u hu).mp z
      rcases hc with hc | hc
      · exact hz.1 hc
      · exact hz.2 hc
    · have h0 : u ≠ 0 := fun z => hc (Or.inl z)
      have hT : ¬ nI u = a6 0 := fun z => hc (Or.inr z)
      have ec : rl_cnt (a6 0) (a7 0) = rl_n1 (a6 0) + 2 := by
        have := rl_n2v (a6 0) hu h0 hT
        rw [← eU] at this
        unfold rl_cnt; omega
      rw [ec] at H
      have lf : a6 u = -1 ∧ a7 u = -1 := by
        rcases hG.2 with g | g
        · exact g u (by omega) hu
        · rw [eU] at g
          exact absurd g.2 (rl_m1n u hu)
      refine ⟨6, rl_s1 (d := 0) (b := 0) (by omega) (by omega) (by omega) e10 e11 (rl_push (d := 1) (by decide) hu eU ((hm u hu).mpr ⟨h0, hT⟩) (by omega) ?_)⟩
      rw [show l = (l - 1) + 1 by omega]
      exact rl_leaf (d := 1) (b := u) (by omega) (by omega) hu (by omega) pk_us pk_us lf.1 lf.2 (rl_ph3 (c := rl_n1 (a6 0) + 2) (by omega) (by omega) (by omega) (by omega) (by rw [pk_un (by omega)]; exact e10) (by rw [pk_un (by omega), pk_un (by omega), pk_un (by omega), pk_un (by omega), pk_us]) (rl_Ku h8 (pk_in u 10 hu)) (fun s8 s9 s11 h => H s8 s9 _ s11 h))
/-- the walk, from its start -/
theorem rl_ph1 (hG : rl_G a6 a7) (e10 : a10 0 = nI 0) (e11 : a11 0 = 0) (h8 : rl_K a8)
    (H : ∀ s8 s9 s10 s11 : Nat → Int32, rl_K s8 → post (f1, nI (rl_cnt (a6 0) (a7 0)), f3, f4, f5, f6, f7, f8, a1, a2, a3, a4, a5, a6, a7, s8, s9, s10, s11, a12, a13, a14, a15, a16, a17, a18, a19)) : ∃ n, wX_orderBlocks_45 post f1 f2 f3 f4 f5 f6 f7 f8 n 10 1 1 0 a1 a2 a3 a4 a5 a6 a7 a8 a9 a10 a11 a12 a13 a14 a15 a16 a17 a18 a19 := by
  have skip : rl_n1 (a6 0) = 0 → (∀ u, u < 10 → u ≠ 0 → ¬ nI u = a6 0) → (a6 0 < 0 ∨ ¬ (((1 : Int32) >>> (a6 0 &&& 31)) &&& 1) = 0) → ∃ n, wX_orderBlocks_45 post f1 f2 f3 f4 f5 f6 f7 f8 n 10 1 1 0 a1 a2 a3 a4 a5 a6 a7 a8 a9 a10 a11 a12 a13 a14 a15 a16 a17 a18 a19 := by
    intro e ho hz
    obtain ⟨n, hn⟩ := rl_ph2 (post := post) (a11 := upd a11 0 1) (k := 1) (l := 10) (x2 := 1) hG (by omega) (by omega) (fun u hu => ⟨fun z => ⟨(rl_m1 u hu).mp z, ho u hu ((rl_m1 u hu).mp z)⟩, fun z => (rl_m1 u hu).mpr z.1⟩) e10 pk_us h8 H
    exact ⟨n + 1, rl_s0 (d := 0) (b := 0) (k := 0) (by omega) (by omega) (by omega) e10 e11 (rl_skip (by decide) hz hn)⟩
  rcases (hG.1 0 (by omega)).1 with eT | ⟨t, ht, eT⟩
  · exact skip (by rw [eT]; exact rl_n1m) (fun u hu _ => by rw [eT]; exact rl_m1n u hu) (Or.inl (by rw [eT]; decide))
  · by_cases h0 : t = 0
    · subst h0
      refine skip (by rw [eT]; exact rl_n1t 0 ht) (fun u hu hn z => ?_) (Or.inr ?_)
      · rw [eT, nI_eq (by omega) (by omega)] at z
        exact hn z
      · rw [eT]
        exact fun z => (rl_m1 0 ht).mp z rfl
    · have lf : a6 t = -1 ∧ a7 t = -1 := by
        rcases hG.2 with g | g
        · exact g t (by omega) ht
        · rw [eT] at g
          exact absurd g.1 (rl_m1n t ht)
      have en : rl_n1 (a6 0) = 1 := by rw [eT, rl_n1t t ht, if_neg h0]
      obtain ⟨n, hn⟩ := rl_ph2 (post := post) (a8 := upd a8 9 (nI t)) (a10 := upd a10 1 (nI t)) (a11 := upd (upd (upd (upd (upd a11 0 1) 1 0) 1 1) 1 2) 1 3) (k := 4) (l := 9) (x2 := (1 : Int32) ||| ((1 : Int32) <<< (nI t &&& 31))) hG (by omega) (by omega)
        (fun u hu => by rw [rl_m2 t ht u hu, eT, nI_eq (by omega) (by omega)]) (by rw [pk_un (by omega)]; exact e10) (by rw [pk_un (by omega), pk_un (by omega), pk_un (by omega), pk_un (by omega), pk_us]) (rl_Ku h8 (pk_in t 10 ht)) H
      exact ⟨n + 4, rl_s0 (d := 0) (b := 0) (k := 0) (by omega) (by omega) (by omega) e10 e11 (rl_push (d := 1) (by decide) ht eT ((rl_m1 t ht).mpr h0) (by omega) (rl_leaf (d := 1) (b := t) (l := 9) (by omega) (by omega) ht (by omega) pk_us pk_us lf.1 lf.2 hn))⟩
/-- the order: it counts the blocks that are reached -/
theorem rl_order (hG : rl_G a6 a7) (h8 : rl_K a8)
    (H : ∀ s8 s9 s10 s11 : Nat → Int32, rl_K s8 → post (f1, nI (rl_cnt (a6 0) (a7 0)), f3, f4, f5, f6, f7, f8, a1, a2, a3, a4, a5, a6, a7, s8, s9, s10, s11, a12, a13, a14, a15, a16, a17, a18, a19)) : wpX_orderBlocks post (f1, f2, f3, f4, f5, f6, f7, f8, a1, a2, a3, a4, a5, a6, a7, a8, a9, a10, a11, a12, a13, a14, a15, a16, a17, a18, a19) :=
  pk_loop (σ := Nat → Int32) (fun n i s => wX_orderBlocks_2 post f1 f2 f3 f4 f5 f6 f7 f8 n (nI i) a1 a2 a3 a4 a5 a6 a7 a8 s a10 a11 a12 a13 a14 a15 a16 a17 a18 a19) (fun _ _ => True) 10 0 a9 (by omega) trivial
    (fun n s _ => pk_le 10 10 (fun _ => nm_e (nm_e (rl_ph1 hG pk_us pk_us h8 H))) (fun z => absurd z (by omega)))
    (fun n i s hi _ hw => pk_le 10 i (fun z => absurd z (by omega)) (fun _ => ⟨pk_in i 10 hi, fun s9 _ => nm_r (nI_1 i) (hw s9 trivial)⟩))
end
end
section
section
variable {post : St2 → Prop} {f1 f2 f3 f4 f5 f6 f7 f8 : Int32} {a1 a2 a3 a4 a5 a6 a7 a8 a9 a10 a11 a12 a13 a14 a15 a16 a17 a18 a19 : Nat → Int32}
/-! loops are found: at most two a place, so at most 20 -/
theorem rl_add {m : Nat} {x1 x2 : Int32} (hm : m < 20) (H : ∀ (m' : Nat) (s12 s13 : Nat → Int32), m' ≤ m + 1 → post (f1, f2, nI m', f4, f5, f6, f7, f8, a1, a2, a3, a4, a5, a6, a7, a8, a9, a10, a11, s12, s13, a14, a15, a16, a17, a18, a19)) : wpX_addLoop post (f1, f2, nI m, f4, f5, f6, f7, f8, a1, a2, a3, a4, a5, a6, a7, a8, a9, a10, a11, a12, a13, a14, a15, a16, a17, a18, a19) x1 x2 :=
  pk_loop (σ := Unit) (fun n i _ => wX_addLoop_2 post x1 x2 f1 f2 (nI m) f4 f5 f6 f7 f8 a1 a2 a3 a4 a5 a6 a7 a8 a9 a10 a11 a12 a13 a14 a15 a16 a17 a18 a19 n (nI i)) (fun _ _ => True) m 0 () (by omega) trivial
    (fun n _ _ => pk_le m m (fun _ => ⟨pk_in m 20 hm, fun s12 _ => ⟨pk_in m 20 hm, fun s13 _ => nm_r (nI_1 m) (H (m + 1) s12 s13 (by omega))⟩⟩) (fun z => absurd z (by omega)))
    (fun n i _ hi _ hw => pk_le m i (fun z => absurd z (by omega)) (fun _ => ⟨pk_in i 20 (by omega), br_c (fun _ => ⟨pk_in i 20 (by omega), br_c (fun _ => H m a12 a13 (by omega)) (fun _ => ⟨pk_in i 20 (by omega), fun s13 _ => H m a12 s13 (by omega)⟩)⟩) (fun _ => nm_r (nI_1 i) (hw () trivial))⟩))
theorem rl_64 {n p m : Nat} {x3 : Int32} (hE : rl_E x3) (hm : m < 20) (H : ∀ (m' : Nat) (s12 s13 : Nat → Int32), m' ≤ m + 1 → wX_findLoops_7 post n (nI (p + 1)) f1 f2 (nI m') f4 f5 f6 f7 f8 a1 a2 a3 a4 a5 a6 a7 a8 a9 a10 a11 s12 s13 a14 a15 a16 a17 a18 a19) : wX_findLoops_64 post (wX_findLoops_7 post n) (nI p) x3 f1 f2 (nI m) f4 f5 f6 f7 f8 a1 a2 a3 a4 a5 a6 a7 a8 a9 a10 a11 a12 a13 a14 a15 a16 a17 a18 a19 := by
  rcases hE with e | ⟨t, ht, e⟩
  · subst e
    exact br_t (by decide) (nm_r (nI_1 p) (H m a12 a13 (by omega)))
  · subst e
    exact br_f (nI_pos (by omega)) ⟨pk_in t 10 ht, br_c (fun _ => nm_r (nI_1 p) (H m a12 a13 (by omega))) (fun _ => ⟨pk_in t 10 ht, rl_add hm (fun m' s12 s13 h => nm_r (nI_1 p) (H m' s12 s13 h))⟩)⟩
theorem rl_find {c : Nat} (hc : c ≤ 10) (h6 : ∀ j, j < 10 → rl_E (a6 j) ∧ rl_E (a7 j)) (h8 : rl_K a8) (H : ∀ (m : Nat) (s12 s13 : Nat → Int32), m ≤ 20 → post (f1, nI c, nI m, f4, f5, f6, f7, f8, a1, a2, a3, a4, a5, a6, a7, a8, a9, a10, a11, s12, s13, a14, a15, a16, a17, a18, a19)) : wpX_findLoops post (f1, nI c, f3, f4, f5, f6, f7, f8, a1, a2, a3, a4, a5, a6, a7, a8, a9, a10, a11, a12, a13, a14, a15, a16, a17, a18, a19) :=
  pk_loop (σ := Nat × (Nat → Int32) × (Nat → Int32)) (fun n i s => wX_findLoops_7 post n (nI i) f1 (nI c) (nI s.1) f4 f5 f6 f7 f8 a1 a2 a3 a4 a5 a6 a7 a8 a9 a10 a11 s.2.1 s.2.2 a14 a15 a16 a17 a18 a19) (fun i s => s.1 ≤ 2 * i) c 0 (0, a12, a13) (by omega) (Nat.le_refl 0)
    (fun n s h => pk_le c c (fun _ => H s.1 s.2.1 s.2.2 (by omega)) (fun z => absurd z (by omega)))
    (fun n i s hi h hw => pk_le c i (fun z => absurd z (by omega)) (fun _ => by
      have k8 := h8 i (by omega)
      obtain ⟨b, hb, eb⟩ := vp_in_of k8 (by omega)
      rw [nI_clamp (show i < 2 ^ 31 by omega), eb, nI_clamp (show b < 2 ^ 31 by omega)]
      have hx : ∀ (m' : Nat) (s12 s13 : Nat → Int32), m' ≤ 2 * i + 2 → wX_findLoops_7 post n (nI (i + 1)) f1 (nI c) (nI m') f4 f5 f6 f7 f8 a1 a2 a3 a4 a5 a6 a7 a8 a9 a10 a11 s12 s13 a14 a15 a16 a17 a18 a19 := fun m' s12 s13 h' => hw (m', s12, s13) (by show m' ≤ 2 * (i + 1); omega)
      refine ⟨pk_in i 10 (by omega), pk_in b 10 hb, nm_e ⟨pk_in i 10 (by omega), pk_in b 10 hb, nm_e ?_⟩⟩
      obtain ⟨E6, E7⟩ := h6 b hb
      rcases E6 with e | ⟨t, ht, e⟩
      · rw [e]
        exact br_t (by decide) (rl_64 E7 (by omega) (fun m' s12 s13 h' => hx m' s12 s13 (by omega)))
      · rw [e]
        exact br_f (nI_pos (by omega)) ⟨pk_in t 10 ht, br_c (fun _ => rl_64 E7 (by omega) (fun m' s12 s13 h' => hx m' s12 s13 (by omega))) (fun _ => ⟨pk_in t 10 ht, rl_add (by omega) (fun m1 t12 t13 h1 => rl_64 E7 (by omega) (fun m' s12 s13 h' => hx m' s12 s13 (by omega)))⟩)⟩))
/-! widening: whatever the loops are, it ends and stays among them -/
theorem rl_14 {P : Int32 → St2 → Prop} {n p m : Nat} {x1 : Int32} (hm : m ≤ 20) (hp : p < m) (h1 : x1 = 0 ∨ x1 = 1) (H : ∀ (y : Int32) (s13 : Nat → Int32), (y = 0 ∨ y = 1) → wX_widenOnce_4 P f1 f2 (nI m) f4 f5 f6 f7 f8 n y (nI (p + 1)) a1 a2 a3 a4 a5 a6 a7 a8 a9 a10 a11 a12 s13 a14 a15 a16 a17 a18 a19) : ∃ k, wX_widenOnce_14 P (wX_widenOnce_4 P f1 f2 (nI m) f4 f5 f6 f7 f8 n) (nI p) f1 f2 (nI m) f4 f5 f6 f7 f8 k x1 0 a1 a2 a3 a4 a5 a6 a7 a8 a9 a10 a11 a12 a13 a14 a15 a16 a17 a18 a19 :=
  pk_loop (σ := Int32 × (Nat → Int32)) (fun k i s => wX_widenOnce_14 P (wX_widenOnce_4 P f1 f2 (nI m) f4 f5 f6 f7 f8 n) (nI p) f1 f2 (nI m) f4 f5 f6 f7 f8 k s.1 (nI i) a1 a2 a3 a4 a5 a6 a7 a8 a9 a10 a11 a12 s.2 a14 a15 a16 a17 a18 a19) (fun _ s => s.1 = 0 ∨ s.1 = 1) m 0 (x1, a13) (by omega) h1
    (fun k s h => pk_le m m (fun _ => nm_r (nI_1 p) (H s.1 s.2 h)) (fun z => absurd z (by omega)))
    (fun k i s hi h hw => pk_le m i (fun z => absurd z (by omega)) (fun _ => ⟨pk_in p 20 (by omega), pk_in i 20 (by omega), br_c (fun _ => nm_r (nI_1 i) (hw s h)) (fun _ => ⟨pk_in i 20 (by omega), pk_in p 20 (by omega), br_c (fun _ => nm_r (nI_1 i) (hw s h)) (fun _ => ⟨pk_in p 20 (by omega), pk_in i 20 (by omega), br_c (fun _ => nm_r (nI_1 i) (hw s h)) (fun _ => ⟨pk_in i 20 (by omega), pk_in p 20 (by omega), fun s13 _ => nm_r (nI_1 i) (hw (1, s13) (Or.inr rfl))⟩)⟩)⟩)⟩))
theorem rl_widen {P : Int32 → St2 → Prop} {m : Nat} (hm : m ≤ 20) (H : ∀ (y : Int32) (s13 : Nat → Int32), P y (f1, f2, nI m, f4, f5, f6, f7, f8, a1, a2, a3, a4, a5, a6, a7, a8, a9, a10, a11, a12, s13, a14, a15, a16, a17, a18, a19)) : wpX_widenOnce P (f1, f2, nI m, f4, f5, f6, f7, f8, a1, a2, a3, a4, a5, a6, a7, a8, a9, a10, a11, a12, a13, a14, a15, a16, a17, a18, a19) :=
  pk_loop (σ := Int32 × (Nat → Int32)) (fun n i s => wX_widenOnce_4 P f1 f2 (nI m) f4 f5 f6 f7 f8 n s.1 (nI i) a1 a2 a3 a4 a5 a6 a7 a8 a9 a10 a11 a12 s.2 a14 a15 a16 a17 a18 a19) (fun _ s => s.1 = 0 ∨ s.1 = 1) m 0 (0, a13) (by omega) (Or.inl rfl)
    (fun n s h => pk_le m m (fun _ => ⟨by
      rcases h with h | h
      · rw [h]; rfl
      · rw [h]; rfl, H s.1 s.2⟩) (fun z => absurd z (by omega)))
    (fun n i s hi h hw => pk_le m i (fun z => absurd z (by omega)) (fun _ => rl_14 hm hi h (fun y s13 hy => hw (y, s13) hy)))
/-! the code is written: it never holds more than 64 words -/
theorem rl_put {q : Nat} {x1 x2 : Int32} (hq : q ≤ 64) (H : ∀ (q' : Nat) (s14 s15 : Nat → Int32), q' ≤ 64 → post (f1, f2, f3, nI q', f5, f6, f7, f8, a1, a2, a3, a4, a5, a6, a7, a8, a9, a10, a11, a12, a13, s14, s15, a16, a17, a18, a19)) : wpX_put post (f1, f2, f3, nI q, f5, f6, f7, f8, a1, a2, a3, a4, a5, a6, a7, a8, a9, a10, a11, a12, a13, a14, a15, a16, a17, a18, a19) x1 x2 :=
  pk_lt q 64 (fun z => ⟨pk_in q 64 z, fun s14 _ => ⟨pk_in q 64 z, fun s15 _ => nm_r (nI_1 q) (H (q + 1) s14 s15 (by omega))⟩⟩) (fun _ => H q a14 a15 hq)
theorem rl_endl {q m : Nat} {x1 x2 : Int32} (hm : m ≤ 20) (hq : q ≤ 64) (H : ∀ (q' : Nat) (s14 s15 : Nat → Int32), q' ≤ 64 → post (f1, f2, nI m, nI q', f5, f6, f7, f8, a1, a2, a3, a4, a5, a6, a7, a8, a9, a10, a11, a12, a13, s14, s15, a16, a17, a18, a19)) : wpX_endLoop post (f1, f2, nI m, nI q, f5, f6, f7, f8, a1, a2, a3, a4, a5, a6, a7, a8, a9, a10, a11, a12, a13, a14, a15, a16, a17, a18, a19) x1 x2 :=
  pk_loop (σ := Nat × (Nat → Int32) × (Nat → Int32)) (fun n i s => wX_endLoop_2 post x1 x2 n (nI i) f1 f2 (nI m) (nI s.1) f5 f6 f7 f8 a1 a2 a3 a4 a5 a6 a7 a8 a9 a10 a11 a12 a13 s.2.1 s.2.2 a16 a17 a18 a19) (fun _ s => s.1 ≤ 64) m 0 (q, a14, a15) (by omega) hq
    (fun n s h => pk_le m m (fun _ => H s.1 s.2.1 s.2.2 h) (fun z => absurd z (by omega)))
    (fun n i s hi h hw => pk_le m i (fun z => absurd z (by omega)) (fun _ => ⟨pk_in i 20 (by omega), br_c (fun _ => ⟨pk_in i 20 (by omega), br_c (fun _ => rl_put h (fun q' s14 s15 h' => nm_r (nI_1 i) (hw (q', s14, s15) h'))) (fun _ => nm_r (nI_1 i) (hw s h))⟩) (fun _ => nm_r (nI_1 i) (hw s h))⟩))
theorem rl_65 {n p m q : Nat} (hp : p < 10) (hm : m ≤ 20) (hq : q ≤ 64) (H : ∀ (q' : Nat) (s14 s15 : Nat → Int32), q' ≤ 64 → wX_emit_7 post n (nI (p + 1)) f1 f2 (nI m) (nI q') f5 f6 f7 f8 a1 a2 a3 a4 a5 a6 a7 a8 a9 a10 a11 a12 a13 s14 s15 a16 a17 a18 a19) : ∃ k, wX_emit_65 post (wX_emit_7 post n) (nI p) k (nI p) f1 f2 (nI m) (nI q) f5 f6 f7 f8 a1 a2 a3 a4 a5 a6 a7 a8 a9 a10 a11 a12 a13 a14 a15 a16 a17 a18 a19 := by
  have t := pk_loopD (σ := Nat × (Nat → Int32) × (Nat → Int32)) (fun k i s => wX_emit_65 post (wX_emit_7 post n) (nI p) k (nI i + (-1)) f1 f2 (nI m) (nI s.1) f5 f6 f7 f8 a1 a2 a3 a4 a5 a6 a7 a8 a9 a10 a11 a12 a13 s.2.1 s.2.2 a16 a17 a18 a19) (fun i s => i ≤ p + 1 ∧ s.1 ≤ 64)
    (fun k s h => br_t (by decide) (nm_r (nI_1 p) (H s.1 s.2.1 s.2.2 h.2)))
    (fun k i s h hw => by
      rw [pk_m1]
      exact br_f (nI_pos (by omega)) (rl_endl hm h.2 (fun q' s14 s15 h' => nm_e (hw (q', s14, s15) ⟨by omega, h'⟩))))
    (p + 1) (q, a14, a15) ⟨by omega, hq⟩
  dsimp only at t
  rw [pk_m1] at t
  exact ⟨_, t⟩
theorem rl_17 {n p m q : Nat} (hp : p < 10) (hm : m ≤ 20) (hq : q ≤ 64) (H : ∀ (q' : Nat) (s14 s15 s16 : Nat → Int32), q' ≤ 64 → wX_emit_7 post n (nI (p + 1)) f1 f2 (nI m) (nI q') f5 f6 f7 f8 a1 a2 a3 a4 a5 a6 a7 a8 a9 a10 a11 a12 a13 s14 s15 s16 a17 a18 a19) : ∃ k, wX_emit_17 post (wX_emit_7 post n) (nI p) k 0 f1 f2 (nI m) (nI q) f5 f6 f7 f8 a1 a2 a3 a4 a5 a6 a7 a8 a9 a10 a11 a12 a13 a14 a15 a16 a17 a18 a19 :=
  pk_loop (σ := Nat × (Nat → Int32) × (Nat → Int32) × (Nat → Int32)) (fun k i s => wX_emit_17 post (wX_emit_7 post n) (nI p) k (nI i) f1 f2 (nI m) (nI s.1) f5 f6 f7 f8 a1 a2 a3 a4 a5 a6 a7 a8 a9 a10 a11 a12 a13 s.2.1 s.2.2.1 s.2.2.2 a17 a18 a19) (fun _ s => s.1 ≤ 64) m 0 (q, a14, a15, a16) (by omega) hq
    (fun k s h => pk_le m m (fun _ => rl_put h (fun q' s14 s15 h' => rl_65 hp hm h' (fun q2 t14 t15 h2 => H q2 t14 t15 s.2.2.2 h2))) (fun z => absurd z (by omega)))
    (fun k i s hi h hw => pk_le m i (fun z => absurd z (by omega)) (fun _ => ⟨pk_in i 20 (by omega), br_c (fun _ => ⟨pk_in i 20 (by omega), fun s16 _ => rl_put h (fun q' s14 s15 h' => nm_r (nI_1 i) (hw (q', s14, s15, s16) h'))⟩) (fun _ => nm_r (nI_1 i) (hw s h))⟩))
theorem rl_emit {c m : Nat} (hc : c ≤ 10) (hm : m ≤ 20) (H : ∀ (g4 : Int32) (s14 s15 s16 : Nat → Int32), post (f1, nI c, nI m, g4, f5, f6, f7, f8, a1, a2, a3, a4, a5, a6, a7, a8, a9, a10, a11, a12, a13, s14, s15, s16, a17, a18, a19)) : wpX_emit post (f1, nI c, nI m, f4, f5, f6, f7, f8, a1, a2, a3, a4, a5, a6, a7, a8, a9, a10, a11, a12, a13, a14, a15, a16, a17, a18, a19) :=
  pk_loop (σ := Nat × (Nat → Int32) × (Nat → Int32) × (Nat → Int32)) (fun k i s => wX_emit_7 post k (nI i) f1 (nI c) (nI m) (nI s.1) f5 f6 f7 f8 a1 a2 a3 a4 a5 a6 a7 a8 a9 a10 a11 a12 a13 s.2.1 s.2.2.1 s.2.2.2 a17 a18 a19) (fun _ s => s.1 ≤ 64) c 0 (0, a14, a15, a16) (by omega) (Nat.zero_le _)
    (fun k s h => pk_le c c (fun _ => H (nI s.1) s.2.1 s.2.2.1 s.2.2.2) (fun z => absurd z (by omega)))
    (fun k i s hi h hw => pk_le c i (fun z => absurd z (by omega)) (fun _ => rl_17 (by omega) hm h (fun q' s14 s15 s16 h' => hw (q', s14, s15, s16) h')))
/-! prepare, reachable -/
theorem rl_46 {c m : Nat} (hc : c ≤ 10) (hm : m ≤ 20) (H : ∀ (g4 : Int32) (s14 s15 s16 : Nat → Int32), post (f1, nI c, nI m, g4, f5, f6, f7, f8, a1, a2, a3, a4, a5, a6, a7, a8, a9, a10, a11, a12, a13, s14, s15, s16, a17, a18, a19)) : wX_prepare_46 post f1 (nI c) (nI m) f4 f5 f6 f7 f8 a1 a2 a3 a4 a5 a6 a7 a8 a9 a10 a11 a12 a13 a14 a15 a16 a17 a18 a19 := by
  unfold wX_prepare_46
  exact rl_emit hc hm H
theorem rl_25 {c m : Nat} (hc : c ≤ 10) (hm : m ≤ 20) (H : ∀ (g4 : Int32) (s13 s14 s15 s16 : Nat → Int32), post (f1, nI c, nI m, g4, f5, f6, f7, f8, a1, a2, a3, a4, a5, a6, a7, a8, a9, a10, a11, a12, s13, s14, s15, s16, a17, a18, a19)) : ∃ k, wX_prepare_25 post k 1 0 f1 (nI c) (nI m) f4 f5 f6 f7 f8 a1 a2 a3 a4 a5 a6 a7 a8 a9 a10 a11 a12 a13 a14 a15 a16 a17 a18 a19 :=
  pk_loop (σ := Int32 × (Nat → Int32)) (fun k i s => wX_prepare_25 post k s.1 (nI i) f1 (nI c) (nI m) f4 f5 f6 f7 f8 a1 a2 a3 a4 a5 a6 a7 a8 a9 a10 a11 a12 s.2 a14 a15 a16 a17 a18 a19) (fun _ _ => True) 100 0 (1, a13) (by omega) trivial
    (fun k s _ => pk_le 100 100 (fun _ => rl_46 hc hm (fun g4 => H g4 s.2)) (fun z => absurd z (by omega)))
    (fun k i s hi _ hw => pk_le 100 i (fun z => absurd z (by omega)) (fun _ => br_c (fun _ => rl_46 hc hm (fun g4 => H g4 s.2)) (fun _ => rl_widen hm (fun y s13 => nm_r (nI_1 i) (hw (y, s13) trivial)))))
theorem rl_cle (T U : Int32) : rl_cnt T U ≤ 10 := by
  have h1 := rl_n1le T
  have h2 := rl_n2le T U
  unfold rl_cnt
  omega
theorem rl_prep (hf : f1 = 0) (hG : rl_G a6 a7) (h8 : rl_K a8) (H : ∀ (g3 g4 : Int32) (s8 s9 s10 s11 s12 s13 s14 s15 s16 : Nat → Int32), post (1, nI (rl_cnt (a6 0) (a7 0)), g3, g4, f5, f6, f7, f8, a1, a2, a3, a4, a5, a6, a7, s8, s9, s10, s11, s12, s13, s14, s15, s16, a17, a18, a19)) : wpX_prepare post (f1, f2, f3, f4, f5, f6, f7, f8, a1, a2, a3, a4, a5, a6, a7, a8, a9, a10, a11, a12, a13, a14, a15, a16, a17, a18, a19) := by
  unfold wpX_prepare
  exact br_t hf (rl_order hG h8 (fun s8 s9 s10 s11 k8 => rl_find (rl_cle _ _) hG.1 k8 (fun m s12 s13 hm => rl_25 (rl_cle _ _) hm (fun g4 t13 s14 s15 s16 => H (nI m) g4 s8 s9 s10 s11 s12 t13 s14 s15 s16))))
theorem rl_reach {P : Int32 → St2 → Prop} (hf : f1 = 0) (hG : rl_G a6 a7) (h8 : rl_K a8) (H : ∀ (g3 g4 : Int32) (s8 s9 s10 s11 s12 s13 s14 s15 s16 : Nat → Int32), P (nI (rl_cnt (a6 0) (a7 0))) (1, nI (rl_cnt (a6 0) (a7 0)), g3, g4, f5, f6, f7, f8, a1, a2, a3, a4, a5, a6, a7, s8, s9, s10, s11, s12, s13, s14, s15, s16, a17, a18, a19)) : wpX_reachable P (f1, f2, f3, f4, f5, f6, f7, f8, a1, a2, a3, a4, a5, a6, a7, a8, a9, a10, a11, a12, a13, a14, a15, a16, a17, a18, a19) := by
  unfold wpX_reachable
  exact rl_prep hf hG h8 H
end
end
section
/-! the small methods -/
theorem rl_b {P : Int32 → Prop} {x : Int32} (ht : rl_bad x → P 1) (hf : ¬ rl_bad x → P 0) : wpX_bad P () x :=
  br_c (fun a => ht (Or.inl a)) (fun a => br_c (fun b => hf (fun g => g.elim a (fun k => k b))) (fun b => ht (Or.inr b)))
theorem rl_v {P : Int32 → Prop} {x : Int32} (ht : rl_odd x → P 1) (hf : ¬ rl_odd x → P 0) : wpX_badVar P () x :=
  br_c (fun a => ht (Or.inl a)) (fun a => br_c (fun b => hf (fun g => g.elim a (fun k => k b))) (fun b => ht (Or.inr b)))
theorem rl_in10 {x : Int32} (h : ¬ rl_bad x) : vp_in x 10 := by
  obtain ⟨b, hb, e⟩ := rl_good h
  exact pk_in b 10 hb e
theorem rl_in4 {x : Int32} (h : ¬ rl_odd x) : vp_in x 4 := by
  obtain ⟨b, hb, e⟩ := rl_even h
  exact pk_in b 4 hb e
/-- the size of the law's block: one if the assignment was taken, none if not -/
def rl_Z (s : Nat → Int32) (x0 d : Int32) : Prop := ¬ rl_bad x0 → (d = 1 → s x0.toNatClampNeg = 1) ∧ (¬ d = 1 → s x0.toNatClampNeg = 0)
section
variable {P : Int32 → St2 → Prop} {f1 f2 f3 f4 f5 f6 f7 f8 : Int32} {a1 a2 a3 a4 a5 a6 a7 a8 a9 a10 a11 a12 a13 a14 a15 a16 a17 a18 a19 : Nat → Int32} {x0 x1 x2 x3 x4 x5 : Int32}
theorem rl_set (ho : rl_odd x2 → P (-2) (f1, f2, f3, f4, f5, f6, f7, f8, a1, a2, a3, a4, a5, a6, a7, a8, a9, a10, a11, a12, a13, a14, a15, a16, a17, a18, a19)) (he : ¬ rl_odd x2 → ∀ s17 : Nat → Int32, P 0 (f1, f2, f3, f4, f5, f6, f7, f8, a1, a2, a3, a4, a5, a6, a7, a8, a9, a10, a11, a12, a13, a14, a15, a16, s17, a18, a19)) : wpX_set P (f1, f2, f3, f4, f5, f6, f7, f8, a1, a2, a3, a4, a5, a6, a7, a8, a9, a10, a11, a12, a13, a14, a15, a16, a17, a18, a19) x2 x3 := by
  unfold wpX_set
  exact rl_v (fun h => br_f (by decide) (ho h)) (fun h => br_t rfl ⟨rl_in4 h, fun s17 _ => he h s17⟩)
theorem rl_empty (hb : rl_bad x0 → P (-1) (f1, f2, f3, f4, f5, f6, f7, f8, a1, a2, a3, a4, a5, a6, a7, a8, a9, a10, a11, a12, a13, a14, a15, a16, a17, a18, a19)) (hg : ¬ rl_bad x0 → ∀ s1 : Nat → Int32, P (a1 x0.toNatClampNeg) (f1, f2, f3, f4, f5, f6, f7, f8, s1, a2, a3, a4, a5, a6, a7, a8, a9, a10, a11, a12, a13, a14, a15, a16, a17, a18, a19)) : wpX_empty P (f1, f2, f3, f4, f5, f6, f7, f8, a1, a2, a3, a4, a5, a6, a7, a8, a9, a10, a11, a12, a13, a14, a15, a16, a17, a18, a19) x0 := by
  unfold wpX_empty
  exact rl_b (fun h => br_f (by decide) (hb h)) (fun h => br_t rfl ⟨rl_in10 h, nm_e ⟨rl_in10 h, fun s1 _ => hg h s1⟩⟩)
theorem rl_end {Q : St2 → Prop} {v t u : Int32} (h : ¬ rl_bad x0) (H : ∀ s5 : Nat → Int32, Q (0, f2, f3, f4, f5, f6, f7, f8, a1, a2, a3, a4, s5, upd a6 x0.toNatClampNeg t, upd a7 x0.toNatClampNeg u, a8, a9, a10, a11, a12, a13, a14, a15, a16, a17, a18, a19)) : wpX_setEnd Q (f1, f2, f3, f4, f5, f6, f7, f8, a1, a2, a3, a4, a5, a6, a7, a8, a9, a10, a11, a12, a13, a14, a15, a16, a17, a18, a19) x0 v t u := by
  unfold wpX_setEnd
  exact ⟨rl_in10 h, fun s5 _ => ⟨rl_in10 h, nm_e ⟨rl_in10 h, nm_e (H s5)⟩⟩⟩
theorem rl_go (hb : rl_bad x0 ∨ rl_bad x4 → P (-1) (f1, f2, f3, f4, f5, f6, f7, f8, a1, a2, a3, a4, a5, a6, a7, a8, a9, a10, a11, a12, a13, a14, a15, a16, a17, a18, a19)) (hg : ¬ (rl_bad x0 ∨ rl_bad x4) → ∀ s5 : Nat → Int32, P 0 (0, f2, f3, f4, f5, f6, f7, f8, a1, a2, a3, a4, s5, upd a6 x0.toNatClampNeg x4, upd a7 x0.toNatClampNeg (-1), a8, a9, a10, a11, a12, a13, a14, a15, a16, a17, a18, a19)) : wpX_go P (f1, f2, f3, f4, f5, f6, f7, f8, a1, a2, a3, a4, a5, a6, a7, a8, a9, a10, a11, a12, a13, a14, a15, a16, a17, a18, a19) x0 x4 := by
  unfold wpX_go
  exact rl_b (fun h => br_f (by decide) (hb (Or.inl h))) (fun h => br_t rfl (rl_b (fun g => br_f (by decide) (hb (Or.inr g))) (fun g => br_t rfl (rl_end h (fun s5 => hg (fun z => z.elim h g) s5)))))
theorem rl_branch (hn : rl_bad x0 ∨ rl_bad x4 ∨ rl_bad x5 → P (-1) (f1, f2, f3, f4, f5, f6, f7, f8, a1, a2, a3, a4, a5, a6, a7, a8, a9, a10, a11, a12, a13, a14, a15, a16, a17, a18, a19)) (ho : ¬ (rl_bad x0 ∨ rl_bad x4 ∨ rl_bad x5) → rl_odd x2 → P (-2) (f1, f2, f3, f4, f5, f6, f7, f8, a1, a2, a3, a4, a5, a6, a7, a8, a9, a10, a11, a12, a13, a14, a15, a16, a17, a18, a19))
    (hy : ¬ (rl_bad x0 ∨ rl_bad x4 ∨ rl_bad x5) → ¬ rl_odd x2 → ∀ s5 : Nat → Int32, P 0 (0, f2, f3, f4, f5, f6, f7, f8, a1, a2, a3, a4, s5, upd a6 x0.toNatClampNeg x4, upd a7 x0.toNatClampNeg x5, a8, a9, a10, a11, a12, a13, a14, a15, a16, a17, a18, a19)) : wpX_branch P (f1, f2, f3, f4, f5, f6, f7, f8, a1, a2, a3, a4, a5, a6, a7, a8, a9, a10, a11, a12, a13, a14, a15, a16, a17, a18, a19) x0 x2 x4 x5 := by
  unfold wpX_branch
  exact rl_b (fun h => br_f (by decide) (hn (Or.inl h))) (fun h => br_t rfl (rl_b (fun g => br_f (by decide) (hn (Or.inr (Or.inl g)))) (fun g => br_t rfl (rl_b (fun k => br_f (by decide) (hn (Or.inr (Or.inr k)))) (fun k => br_t rfl
    (rl_v (fun o => br_f (by decide) (ho (fun z => z.elim h (fun z => z.elim g k)) o)) (fun o => br_t rfl (rl_end h (fun s5 => hy (fun z => z.elim h (fun z => z.elim g k)) o s5)))))))))
theorem rl_49 (h : ¬ rl_bad x0) (h1 : ∀ j, j < 10 → a1 j = 0) (H : ∀ s1 s2 s3 s4 : Nat → Int32, s1 x0.toNatClampNeg = 1 → P 1 (f1, f2, f3, f4, f5, f6, f7, f8, s1, s2, s3, s4, a5, a6, a7, a8, a9, a10, a11, a12, a13, a14, a15, a16, a17, a18, a19)) : wX_assign_49 P x0 x1 x2 x3 f1 f2 f3 f4 f5 f6 f7 f8 a1 a2 a3 a4 a5 a6 a7 a8 a9 a10 a11 a12 a13 a14 a15 a16 a17 a18 a19 := by
  obtain ⟨b, hb, e⟩ := rl_good h
  subst e
  have e0 : a1 b = 0 := h1 b hb
  have e1 : (0 : Int32) + 1 = 1 := by decide
  have e3 : nI b * 3 + 0 = nI (b * 3) := by rw [rl_b3, Int32.add_zero]
  unfold wX_assign_49
  rw [nI_clamp (show b < 2 ^ 31 by omega), e0, e1, e3] at *
  refine ⟨pk_in b 10 hb, br_t (by decide) ⟨pk_in b 10 hb, nm_e ⟨pk_in (b * 3) 30 (by omega), fun s2 _ => ⟨pk_in (b * 3) 30 (by omega), fun s3 _ => ⟨pk_in (b * 3) 30 (by omega), fun s4 _ => ⟨pk_in b 10 hb, pk_in b 10 hb, nm_e ⟨pk_in b 10 hb, ?_⟩⟩⟩⟩⟩⟩⟩
  rw [pk_us]
  exact H _ s2 s3 s4 pk_us
theorem rl_assign (h1 : ∀ j, j < 10 → a1 j = 0) (H : ∀ (d : Int32) (s1 s2 s3 s4 : Nat → Int32), rl_due x0 x1 x2 x3 d → rl_Z s1 x0 d → P d (f1, f2, f3, f4, f5, f6, f7, f8, s1, s2, s3, s4, a5, a6, a7, a8, a9, a10, a11, a12, a13, a14, a15, a16, a17, a18, a19)) : wpX_assign P (f1, f2, f3, f4, f5, f6, f7, f8, a1, a2, a3, a4, a5, a6, a7, a8, a9, a10, a11, a12, a13, a14, a15, a16, a17, a18, a19) x0 x1 x2 x3 := by
  have zz : ∀ d : Int32, ¬ d = 1 → rl_Z a1 x0 d := by
    intro d hd h
    obtain ⟨b, hb, e⟩ := rl_good h
    refine ⟨fun z => absurd z hd, fun _ => ?_⟩
    rw [e, nI_clamp (show b < 2 ^ 31 by omega)]
    exact h1 b hb
  have fin : ¬ rl_bad x0 → ¬ rl_nop x1 → ¬ (rl_odd x2 ∨ rl_opd x1 x3) → wX_assign_49 P x0 x1 x2 x3 f1 f2 f3 f4 f5 f6 f7 f8 a1 a2 a3 a4 a5 a6 a7 a8 a9 a10 a11 a12 a13 a14 a15 a16 a17 a18 a19 := fun h g k => rl_49 h h1 (fun s1 s2 s3 s4 e => H 1 s1 s2 s3 s4 (rl_dD h g k) (fun _ => ⟨fun _ => e, fun z => absurd rfl z⟩))
  unfold wpX_assign
  refine rl_b (fun h => br_f (by decide) (H (-1) a1 a2 a3 a4 (rl_dA h) (zz _ (by decide)))) (fun h => br_t rfl (br_c (fun g => H (-3) a1 a2 a3 a4 (rl_dB h (Or.inl g)) (zz _ (by decide))) (fun g => br_c (fun k => ?_) (fun k => H (-3) a1 a2 a3 a4 (rl_dB h (Or.inr k)) (zz _ (by decide))))))
  have nn : ¬ rl_nop x1 := fun z => z.elim g (fun z => z k)
  exact rl_v (fun o => br_f (by decide) (H (-2) a1 a2 a3 a4 (rl_dC h nn (Or.inl o)) (zz _ (by decide)))) (fun o => br_t rfl (br_c (fun p => fin h nn (fun z => z.elim o (fun z => z.1 p))) (fun p => br_c (fun q => fin h nn (fun z => z.elim o (fun z => z.2.1 q))) (fun q =>
    rl_v (fun w => br_f (by decide) (H (-2) a1 a2 a3 a4 (rl_dC h nn (Or.inr ⟨p, q, w⟩)) (zz _ (by decide)))) (fun w => br_t rfl (fin h nn (fun z => z.elim o (fun z => w z.2.2))))))))
end
section
variable {post : Int32 → St0 → Prop} {mc ms kc ks : Nat} {f1 f2 f3 f4 f5 f6 f7 f8 : Int32} {a1 a2 a3 a4 a5 a6 a7 a8 a9 a10 a11 a12 a13 a14 a15 a16 a17 a18 a19 : Nat → Int32} {x0 x1 x2 x3 x4 x5 x7 x8 x9 x10 x12 x13 z0 z1 : Int32}
/-! the law, from its end -/
theorem rl_321 (hp : post 1 ()) (b8 : rl_bit x8 (rl_odd x2)) (hz : z1 = z0) : wL_lawOf_321 post mc ms x2 x3 x8 z0 z1 kc ks f1 f2 f3 f4 f5 f6 f7 f8 a1 a2 a3 a4 a5 a6 a7 a8 a9 a10 a11 a12 a13 a14 a15 a16 a17 a18 a19 := by
  unfold wL_lawOf_321
  exact br_t hz (rl_set (fun h => br_f (rl_bn b8 h) (br_t rfl hp)) (fun h s17 => br_t (rl_bz b8 h) (br_t rfl hp)))
theorem rl_285 (hp : post 1 ()) (h8 : rl_K a8) (hf : f1 = 0) (b7 : rl_bit x7 (rl_bad x0)) (b8 : rl_bit x8 (rl_odd x2)) (hZ : rl_Z a1 x0 x9) (hG : rl_G a6 a7) (hx : x13 = nI (rl_cnt (a6 0) (a7 0))) : wL_lawOf_285 post mc ms x0 x2 x3 x7 x8 x9 x13 kc ks f1 f2 f3 f4 f5 f6 f7 f8 a1 a2 a3 a4 a5 a6 a7 a8 a9 a10 a11 a12 a13 a14 a15 a16 a17 a18 a19 := by
  unfold wL_lawOf_285
  exact rl_reach hf hG h8 (fun g3 g4 s8 s9 s10 s11 s12 s13 s14 s15 s16 => br_t hx.symm (rl_empty (fun h => br_f (rl_bn b7 h) (rl_321 hp b8 rfl)) (fun h s1 => br_t (rl_bz b7 h) (br_c (fun g => rl_321 hp b8 ((hZ h).1 g)) (fun g => rl_321 hp b8 ((hZ h).2 g))))))
theorem rl_255 {t : Nat} (R : ∀ z : Int32, z = nI (rl_cnt (a6 0) (a7 0)) → wL_lawOf_285 post mc ms x0 x2 x3 x7 x8 x9 z kc ks f1 f2 f3 f4 f5 f6 f7 f8 a1 a2 a3 a4 a5 a6 a7 a8 a9 a10 a11 a12 a13 a14 a15 a16 a17 a18 a19) (ht : t < 10) (e4 : x4 = nI t) (e6 : a6 0 = x4) (hv : x12 = 0 → ¬ rl_bad x5 ∧ a7 0 = x5) (hv' : ¬ x12 = 0 → a7 0 = -1) (hz : z0 = nI (if t = 0 then 1 else 2)) : wL_lawOf_255 post mc ms x0 x2 x3 x4 x5 x7 x8 x9 x12 z0 kc ks f1 f2 f3 f4 f5 f6 f7 f8 a1 a2 a3 a4 a5 a6 a7 a8 a9 a10 a11 a12 a13 a14 a15 a16 a17 a18 a19 := by
  unfold wL_lawOf_255 wL_lawOf_281 wL_lawOf_283
  refine br_c (fun h => ?_) (fun h => R _ ?_)
  · obtain ⟨h5, e7⟩ := hv h
    obtain ⟨u, hu, e5⟩ := rl_good h5
    have ec : rl_cnt (a6 0) (a7 0) = (if t = 0 then 1 else 2) + (if u = 0 ∨ u = t then 0 else 1) := by
      rw [e6, e7, e4, e5]
      exact rl_cB t ht u hu
    refine br_c (fun g => R _ ?_) (fun g => br_c (fun k => R _ ?_) (fun k => R _ ?_))
    · have : u = 0 := by
        rw [e5, ← nI_0, nI_eq (by omega) (by omega)] at g
        exact g
      rw [ec, if_pos (Or.inl this), hz]
      rfl
    · have : u = t := by
        rw [e5, e4, nI_eq (by omega) (by omega)] at k
        exact k
      rw [ec, if_pos (Or.inr this), hz]
      rfl
    · have : ¬ (u = 0 ∨ u = t) := by
        rintro (z | z)
        · exact g (by rw [e5, z]; rfl)
        · exact k (by rw [e5, e4, z])
      rw [ec, if_neg this, hz, nI_1]
  · rw [e6, hv' h, e4, rl_cA t ht, hz]
/-- what holds of the object and of the law's answers so far, once 'far' is known -/
def rl_C (x0 x2 x4 x7 x8 x9 x10 f1 : Int32) (a1 a8 : Nat → Int32) : Prop := rl_K a8 ∧ f1 = 0 ∧ rl_bit x7 (rl_bad x0) ∧ rl_bit x8 (rl_odd x2) ∧ rl_Z a1 x0 x9 ∧ rl_bit x10 (rl_bad x0 ∨ rl_bad x4)
/-- the graph: nothing if 'far', else the law's block leads to x4 and V -/
def rl_Y (a6 a7 : Nat → Int32) (x0 x4 V : Int32) : Prop := (rl_bad x0 ∨ rl_bad x4 → rl_N a6 a7) ∧ (¬ (rl_bad x0 ∨ rl_bad x4) → rl_P a6 a7 x0.toNatClampNeg x4 V)
theorem rl_tail {V : Int32} (hp : post 1 ()) (C : rl_C x0 x2 x4 x7 x8 x9 x10 f1 a1 a8) (Y : rl_Y a6 a7 x0 x4 V) (hV : z0 = 0 → ¬ rl_bad x5 ∧ V = x5) (hV' : ¬ z0 = 0 → V = -1) :
    ((x10 = 0 → (((x0 = 0 → (((x4 = 0 → (wL_lawOf_255 post mc ms x0 x2 x3 x4 x5 x7 x8 x9 z0 1 kc ks f1 f2 f3 f4 f5 f6 f7 f8 a1 a2 a3 a4 a5 a6 a7 a8 a9 a10 a11 a12 a13 a14 a15 a16 a17 a18 a19)) ∧ (¬ x4 = 0 → (wL_lawOf_255 post mc ms x0 x2 x3 x4 x5 x7 x8 x9 z0 2 kc ks f1 f2 f3 f4 f5 f6 f7 f8 a1 a2 a3 a4 a5 a6 a7 a8 a9 a10 a11 a12 a13 a14 a15 a16 a17 a18 a19))))) ∧ (¬ x0 = 0 → (wL_lawOf_285 post mc ms x0 x2 x3 x7 x8 x9 1 kc ks f1 f2 f3 f4 f5 f6 f7 f8 a1 a2 a3 a4 a5 a6 a7 a8 a9 a10 a11 a12 a13 a14 a15 a16 a17 a18 a19))))) ∧ (¬ x10 = 0 → (wL_lawOf_285 post mc ms x0 x2 x3 x7 x8 x9 1 kc ks f1 f2 f3 f4 f5 f6 f7 f8 a1 a2 a3 a4 a5 a6 a7 a8 a9 a10 a11 a12 a13 a14 a15 a16 a17 a18 a19))) := by
  obtain ⟨h8, hf, b7, b8, hZ, b10⟩ := C
  have R : rl_G a6 a7 → ∀ z : Int32, z = nI (rl_cnt (a6 0) (a7 0)) → wL_lawOf_285 post mc ms x0 x2 x3 x7 x8 x9 z kc ks f1 f2 f3 f4 f5 f6 f7 f8 a1 a2 a3 a4 a5 a6 a7 a8 a9 a10 a11 a12 a13 a14 a15 a16 a17 a18 a19 := fun hG z e => rl_285 hp h8 hf b7 b8 hZ hG e
  refine br_c (fun h => ?_) (fun h => ?_)
  · have hb := b10.1 h
    have hP := Y.2 hb
    obtain ⟨b, hb10, e0⟩ := rl_good (fun z => hb (Or.inl z))
    obtain ⟨t, ht, e4⟩ := rl_good (fun z => hb (Or.inr z))
    have EV : rl_E V := by
      by_cases g : z0 = 0
      · rw [(hV g).2]; exact rl_Eg (hV g).1
      · rw [hV' g]; exact rl_E1
    have hG : rl_G a6 a7 := rl_PG hP (Or.inr ⟨t, ht, e4⟩) EV
    rw [e0, nI_clamp (show b < 2 ^ 31 by omega)] at hP
    refine br_c (fun g => ?_) (fun g => R hG _ ?_)
    · have hb0 : b = 0 := by
        rw [e0, ← nI_0, nI_eq (by omega) (by omega)] at g
        exact g
      rw [hb0] at hP
      refine br_c (fun k => ?_) (fun k => ?_)
      · have ht0 : t = 0 := by
          rw [e4, ← nI_0, nI_eq (by omega) (by omega)] at k
          exact k
        exact rl_255 (R hG) ht e4 hP.2.1 (fun z => ⟨(hV z).1, hP.2.2.trans (hV z).2⟩) (fun z => hP.2.2.trans (hV' z)) (by rw [if_pos ht0]; rfl)
      · have ht0 : ¬ t = 0 := fun z => k (by rw [e4, z]; rfl)
        exact rl_255 (R hG) ht e4 hP.2.1 (fun z => ⟨(hV z).1, hP.2.2.trans (hV z).2⟩) (fun z => hP.2.2.trans (hV' z)) (by rw [if_neg ht0]; rfl)
    · have hb0 : 0 ≠ b := fun z => g (by rw [e0, ← z]; rfl)
      have e := hP.1 0 (by omega) hb0
      rw [e.1, e.2, rl_c0]
      rfl
  · have hN := Y.1 (b10.2 h)
    refine R (rl_NG hN) _ ?_
    have e := hN 0 (by omega)
    rw [e.1, e.2, rl_c0]
    rfl
theorem rl_213 (hp : post 1 ()) (C : rl_C x0 x2 x4 x7 x8 x9 x10 f1 a1 a8) (Y : rl_Y a6 a7 x0 x4 (-1)) (h1 : rl_bad x0 ∨ rl_bad x4 ∨ rl_bad x5 → z0 = -1) (h2 : ¬ (rl_bad x0 ∨ rl_bad x4 ∨ rl_bad x5) → rl_odd x2 → z0 = -2) (h3 : ¬ (rl_bad x0 ∨ rl_bad x4 ∨ rl_bad x5) → ¬ rl_odd x2 → z0 = 0) : wL_lawOf_213 post mc ms x0 x2 x3 x4 x5 x7 x8 x9 x10 z0 kc ks f1 f2 f3 f4 f5 f6 f7 f8 a1 a2 a3 a4 a5 a6 a7 a8 a9 a10 a11 a12 a13 a14 a15 a16 a17 a18 a19 := by
  unfold wL_lawOf_213
  refine rl_branch (fun hn => br_t (h1 hn).symm (rl_tail hp C Y (fun z => ?_) (fun _ => rfl))) (fun hn ho => br_t (h2 hn ho).symm (rl_tail hp C Y (fun z => ?_) (fun _ => rfl))) (fun hn ho s5 => br_t (h3 hn ho).symm ?_)
  · rw [h1 hn] at z
    exact absurd z (by decide)
  · rw [h2 hn ho] at z
    exact absurd z (by decide)
  · have hb : ¬ (rl_bad x0 ∨ rl_bad x4) := fun z => hn (z.elim Or.inl (fun z => Or.inr (Or.inl z)))
    exact rl_tail (V := x5) hp ⟨C.1, rfl, C.2.2⟩ ⟨fun z => absurd z hb, fun z => rl_PP (Y.2 z) _ _⟩ (fun _ => ⟨fun z => hn (Or.inr (Or.inr z)), rfl⟩) (fun z => absurd (h3 hn ho) z)
theorem rl_191 (hp : post 1 ()) (C : rl_C x0 x2 x4 x7 x8 x9 x10 f1 a1 a8) (Y : rl_Y a6 a7 x0 x4 (-1)) (b : rl_bit z0 (rl_bad x0 ∨ rl_bad x4 ∨ rl_bad x5)) : wL_lawOf_191 post mc ms x0 x2 x3 x4 x5 x7 x8 x9 x10 z0 kc ks f1 f2 f3 f4 f5 f6 f7 f8 a1 a2 a3 a4 a5 a6 a7 a8 a9 a10 a11 a12 a13 a14 a15 a16 a17 a18 a19 := by
  unfold wL_lawOf_191
  have b8 := C.2.2.2.1
  exact br_c (fun h => br_c (fun g => rl_213 hp C Y (fun z => absurd z (b.1 h)) (fun _ z => absurd z (b8.1 g)) (fun _ _ => rfl)) (fun g => rl_213 hp C Y (fun z => absurd z (b.1 h)) (fun _ _ => rfl) (fun _ z => absurd (b8.2 g) z))) (fun h => rl_213 hp C Y (fun _ => rfl) (fun z => absurd (b.2 h) z) (fun z => absurd (b.2 h) z))
theorem rl_164 (hp : post 1 ()) (C : rl_C x0 x2 x4 x7 x8 x9 x10 f1 a1 a8) (Y : rl_Y a6 a7 x0 x4 (-1)) (hz : z1 = z0) : wL_lawOf_164 post mc ms x0 x2 x3 x4 x5 x7 x8 x9 x10 z0 z1 kc ks f1 f2 f3 f4 f5 f6 f7 f8 a1 a2 a3 a4 a5 a6 a7 a8 a9 a10 a11 a12 a13 a14 a15 a16 a17 a18 a19 := by
  unfold wL_lawOf_164 wL_lawOf_186
  have b10 := C.2.2.2.2.2
  exact br_t hz (br_c (fun h => br_c (fun g => rl_191 hp C Y (rl_bit1 (Or.inr (Or.inr (Or.inl g))))) (fun g => br_c (fun k => rl_191 hp C Y (rl_bit0 (fun z => z.elim (fun z => b10.1 h (Or.inl z)) (fun z => z.elim (fun z => b10.1 h (Or.inr z)) (fun z => z.elim g (fun z => z ((rl_le9 x5).mp k))))))) (fun k => rl_191 hp C Y (rl_bit1 (Or.inr (Or.inr (Or.inr (fun z => k ((rl_le9 x5).mpr z))))))))) (fun h => rl_191 hp C Y (rl_bit1 ((b10.2 h).elim Or.inl (fun z => Or.inr (Or.inl z))))))
theorem rl_144 (hp : post 1 ()) (h8 : rl_K a8) (hf : f1 = 0) (b7 : rl_bit x7 (rl_bad x0)) (b8 : rl_bit x8 (rl_odd x2)) (hZ : rl_Z a1 x0 x9) (b10 : rl_bit z0 (rl_bad x0 ∨ rl_bad x4)) (hN : rl_N a6 a7) : wL_lawOf_144 post mc ms x0 x2 x3 x4 x5 x7 x8 x9 z0 kc ks f1 f2 f3 f4 f5 f6 f7 f8 a1 a2 a3 a4 a5 a6 a7 a8 a9 a10 a11 a12 a13 a14 a15 a16 a17 a18 a19 := by
  unfold wL_lawOf_144
  exact rl_go (fun hb => br_f (rl_bn b10 hb) (rl_164 hp ⟨h8, hf, b7, b8, hZ, b10⟩ ⟨fun _ => hN, fun z => absurd hb z⟩ rfl)) (fun hb s5 => br_t (rl_bz b10 hb) (rl_164 hp ⟨h8, rfl, b7, b8, hZ, b10⟩ ⟨fun z => absurd z hb, fun _ => rl_NP hN _ _ _⟩ rfl))
theorem rl_95 (hp : post 1 ()) (h8 : rl_K a8) (hf : f1 = 0) (hN : rl_N a6 a7) (h1 : ∀ j, j < 10 → a1 j = 0) (he : f7 = -1) (b7 : rl_bit x7 (rl_bad x0)) (b8 : rl_bit x8 (rl_odd x2)) (hd : rl_due x0 x1 x2 x3 z0) : wL_lawOf_95 post mc ms x0 x1 x2 x3 x4 x5 x7 x8 z0 kc ks f1 f2 f3 f4 f5 f6 f7 f8 a1 a2 a3 a4 a5 a6 a7 a8 a9 a10 a11 a12 a13 a14 a15 a16 a17 a18 a19 := by
  unfold wL_lawOf_95 wL_lawOf_139
  refine rl_assign h1 (fun d s1 s2 s3 s4 hD hZ => ?_)
  have e := rl_due1 hD hd
  subst e
  exact br_t rfl (br_t he (br_c (fun h => br_c (fun g => rl_144 hp h8 hf b7 b8 hZ (rl_bit1 (Or.inr (Or.inl g))) hN) (fun g => br_c (fun k => rl_144 hp h8 hf b7 b8 hZ (rl_bit0 (fun z => z.elim (b7.1 h) (fun z => z.elim g (fun z => z ((rl_le9 x4).mp k))))) hN) (fun k => rl_144 hp h8 hf b7 b8 hZ (rl_bit1 (Or.inr (Or.inr (fun z => k ((rl_le9 x4).mpr z))))) hN))) (fun h => rl_144 hp h8 hf b7 b8 hZ (rl_bit1 (Or.inl (b7.2 h))) hN)))
theorem rl_40 (hp : post 1 ()) (h8 : rl_K a8) (hf : f1 = 0) (hN : rl_N a6 a7) (h1 : ∀ j, j < 10 → a1 j = 0) (he : f7 = -1) (b7 : rl_bit x7 (rl_bad x0)) (b8 : rl_bit z0 (rl_odd x2)) : wL_lawOf_40 post mc ms x0 x1 x2 x3 x4 x5 x7 z0 kc ks f1 f2 f3 f4 f5 f6 f7 f8 a1 a2 a3 a4 a5 a6 a7 a8 a9 a10 a11 a12 a13 a14 a15 a16 a17 a18 a19 := by
  unfold wL_lawOf_40 wL_lawOf_60 wL_lawOf_89 wL_lawOf_94
  have W : ∀ z : Int32, rl_due x0 x1 x2 x3 z → wL_lawOf_95 post mc ms x0 x1 x2 x3 x4 x5 x7 z0 z kc ks f1 f2 f3 f4 f5 f6 f7 f8 a1 a2 a3 a4 a5 a6 a7 a8 a9 a10 a11 a12 a13 a14 a15 a16 a17 a18 a19 := fun z hd => rl_95 hp h8 hf hN h1 he b7 b8 hd
  refine br_c (fun h => ?_) (fun h => W _ (rl_dA (b7.2 h)))
  have hb := b7.1 h
  refine br_c (fun g => W _ (rl_dB hb (Or.inl g))) (fun g => br_c (fun k => ?_) (fun k => W _ (rl_dB hb (Or.inr k))))
  have nn : ¬ rl_nop x1 := fun z => z.elim g (fun z => z k)
  refine br_c (fun o => ?_) (fun o => W _ (rl_dC hb nn (Or.inl (b8.2 o))))
  have no := b8.1 o
  exact br_c (fun p => W _ (rl_dD hb nn (fun z => z.elim no (fun z => z.1 p)))) (fun p => br_c (fun q => W _ (rl_dD hb nn (fun z => z.elim no (fun z => z.2.1 q)))) (fun q => br_c (fun r => W _ (rl_dC hb nn (Or.inr ⟨p, q, Or.inl r⟩))) (fun r => br_c (fun s => W _ (rl_dD hb nn (fun z => z.elim no (fun z => z.2.2.elim r (fun z => z s))))) (fun s => W _ (rl_dC hb nn (Or.inr ⟨p, q, Or.inr s⟩))))))
theorem rl_24 (hp : post 1 ()) (h8 : rl_K a8) (hf : f1 = 0) (hN : rl_N a6 a7) (h1 : ∀ j, j < 10 → a1 j = 0) (he : f7 = -1) (b7 : rl_bit z0 (rl_bad x0)) : wL_lawOf_24 post mc ms x0 x1 x2 x3 x4 x5 z0 kc ks f1 f2 f3 f4 f5 f6 f7 f8 a1 a2 a3 a4 a5 a6 a7 a8 a9 a10 a11 a12 a13 a14 a15 a16 a17 a18 a19 := by
  unfold wL_lawOf_24 wL_lawOf_35
  exact br_c (fun g => rl_40 hp h8 hf hN h1 he b7 (rl_bit1 (Or.inl g))) (fun g => br_c (fun k => rl_40 hp h8 hf hN h1 he b7 (rl_bit0 (fun z => z.elim g (fun z => z k)))) (fun k => rl_40 hp h8 hf hN h1 he b7 (rl_bit1 (Or.inr k))))
end
theorem rl_lawOf {post : Int32 → St0 → Prop} (hp : post 1 ()) (p0 p1 p2 p3 p4 p5 : Int32) : wpL_lawOf post 20 417 () p0 p1 p2 p3 p4 p5 := by
  unfold wpL_lawOf wL_lawOf_19
  refine ⟨by omega, by omega, 19, 390, by omega, by omega, rl_init (by omega) (by omega) (fun s5 s6 s7 hN => ?_)⟩
  have h1 : ∀ j : Nat, j < 10 → (fun _ : Nat => (0 : Int32)) j = 0 := fun _ _ => rfl
  exact br_c (fun g => rl_24 hp rl_K0 rfl hN h1 rfl (rl_bit1 (Or.inl g))) (fun g => br_c (fun k => rl_24 hp rl_K0 rfl hN h1 rfl (rl_bit0 (fun z => z.elim g (fun z => z ((rl_le9 p0).mp k))))) (fun k => rl_24 hp rl_K0 rfl hN h1 rfl (rl_bit1 (Or.inr (fun z => k ((rl_le9 p0).mpr z))))))
end
section
theorem rl_cell {P : Int32 → Prop} {L k : Nat} {xs : Nat → Int32} {x : Int32} (hL : L ≤ 6) (hk : k < 6) (e : x = nI k) (H : ∀ r, P r) : wpL_cellAt P L xs () x :=
  pk_le L k (fun _ => H _) (fun z => ⟨pk_in k L z e, H _⟩) rfl e
theorem i_vc (xs : Nat → Int32) (L : Nat) (hL : L ≤ 6) : wpL_law (fun r => r = 1) L xs := by
  unfold wpL_law
  exact rl_cell (k := 0) hL (by omega) rfl (fun r1 => rl_cell (k := 1) hL (by omega) rfl (fun r2 => rl_cell (k := 2) hL (by omega) rfl (fun r3 => rl_cell (k := 3) hL (by omega) rfl (fun r4 => rl_cell (k := 4) hL (by omega) rfl (fun r5 => rl_cell (k := 5) hL (by omega) rfl (fun r6 => ⟨20, 417, by omega, by omega, rl_lawOf rfl r1 r2 r3 r4 r5 r6⟩))))))
end
