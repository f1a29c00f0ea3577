section
/-! The program (12 instructions), its heights, its flat code: tables; what the arrays hold -/
section
/-- operation and number at each place of the program -/
def fz_op (p : Nat) : Nat := [2, 10, 2, 2, 8, 3, 2, 0, 9, 3, 12, 13].getD p 0
def fz_nm (p : Nat) : Nat := [0, 11, 2, 1, 1, 2, 0, 1, 1, 0, 0, 0].getD p 0
/-- the stack's height ahead of each place -/
def fz_h (p : Nat) : Nat := [0, 1, 0, 1, 2, 1, 0, 1, 2, 1, 0, 0].getD p 0
/-- where the place's flat code begins in the one table of flat code; how long the block from there is (flat, and in instructions); the block's last place -/
def fz_t (p : Nat) : Nat := [0, 1, 3, 4, 5, 6, 7, 8, 9, 10, 11, 12].getD p 0
def fz_w (p : Nat) : Nat := [3, 2, 9, 8, 7, 6, 5, 4, 3, 2, 1, 1].getD p 0
def fz_m (p : Nat) : Nat := [2, 1, 9, 8, 7, 6, 5, 4, 3, 2, 1, 1].getD p 0
def fz_l (p : Nat) : Nat := [1, 1, 10, 10, 10, 10, 10, 10, 10, 10, 10, 11].getD p 0
/-- the flat code: operation, target, left, right -/
def fz_tO (g : Nat) : Nat := [5, 1, 8, 5, 5, 2, 6, 5, 0, 3, 6, 7, 10].getD g 0
def fz_tX (g : Nat) : Nat := [0, 8, 2, 0, 1, 0, 2, 0, 1, 0, 0, 0, 11].getD g 0
def fz_tY (g : Nat) : Nat := [0, 0, 0, 2, 1, 0, 0, 0, 0, 0, 0, 0, 0].getD g 0
def fz_tZ (g : Nat) : Nat := [0, 0, 11, 0, 0, 1, 0, 0, 1, 1, 0, 0, 0].getD g 0
theorem fz_n8 : ∀ a, a < 128 → (nI a).toInt8.toInt32 = nI a := by decide +kernel
theorem fz_n16 : ∀ a, a < 1024 → (nI a).toInt16.toInt32 = nI a := by decide +kernel
theorem fz_tS : ∀ p, p < 10 → p ≠ 1 → fz_t (p + 1) = fz_t p + 1 := by decide
theorem fz_tM : ∀ p, p < 12 → ∀ q, q < 12 → p ≤ q → fz_t p ≤ fz_t q := by decide
theorem fz_lB : ∀ p, p < 12 → p ≤ fz_l p ∧ fz_l p ≤ 11 := by decide
theorem fz_lN : ∀ p, p < 12 → ∀ q, q < 12 → p ≤ q → q < fz_l p → q ≤ 9 ∧ q ≠ 1 := by decide
theorem fz_lT : ∀ p, p < 12 → fz_l p = 1 ∨ fz_l p = 10 ∨ fz_l p = 11 := by decide
theorem fz_mL : ∀ p, p < 12 → fz_l p - p + 1 = fz_m p ∧ fz_m p < 12 ∧ 1 ≤ fz_m p := by decide
theorem fz_wL1 : ∀ p, p < 12 → fz_l p = 1 → fz_t 1 - fz_t p + 2 = fz_w p := by decide
theorem fz_wL2 : ∀ p, p < 12 → fz_l p ≠ 1 → fz_t (fz_l p) - fz_t p + 1 = fz_w p := by decide
theorem fz_wB : ∀ p, p < 12 → fz_w p ≤ 9 := by decide
theorem fz_hB : ∀ p, p < 12 → fz_h p ≤ 2 := by decide
theorem fz_tB : ∀ p, p < 12 → fz_t p + fz_w p ≤ 13 := by decide
theorem fz_key : ∀ p, p < 12 → 9 * p + fz_h p < 297 := by decide
theorem fz_keyI : ∀ p, p < 12 → ∀ q, q < 12 → q ≠ p → 9 * q + fz_h q ≠ 9 * p + fz_h p := by decide
theorem fz_opN : ∀ p, p < 10 → p ≠ 1 → ¬ nI (fz_op p) = 13 ∧ ¬ nI (fz_op p) = 12 ∧ ¬ nI (fz_op p) = 10 ∧ ¬ nI (fz_op p) = 11 := by decide +kernel
/-- a place of the program by cases -/
theorem fz_cases {P : Nat → Prop} (h0 : P 0) (h1 : P 1) (h2 : P 2) (h3 : P 3) (h4 : P 4) (h5 : P 5) (h6 : P 6) (h7 : P 7) (h8 : P 8) (h9 : P 9) (h10 : P 10) (h11 : P 11) : ∀ p, p < 12 → P p
  | 0, _ => h0 | 1, _ => h1 | 2, _ => h2 | 3, _ => h3 | 4, _ => h4 | 5, _ => h5 | 6, _ => h6 | 7, _ => h7 | 8, _ => h8 | 9, _ => h9 | 10, _ => h10 | 11, _ => h11
  | n + 12, h => absurd h (by omega)
/-- the first n instructions stand in the two arrays -/
def fz_P (n : Nat) (a1 a2 : Nat → Int32) : Prop := ∀ p, p < n → a1 p = nI (fz_op p) ∧ a2 p = nI (fz_nm p)
theorem fz_P_0 {a1 a2 : Nat → Int32} : fz_P 0 a1 a2 := fun p h => absurd h (by omega)
theorem fz_P_add {n : Nat} {a1 a2 : Nat → Int32} (h : fz_P n a1 a2) : fz_P (n + 1) (upd a1 n (nI (fz_op n))) (upd a2 n (nI (fz_nm n))) := by
  intro p hp
  by_cases e : p = n
  · rw [e, pk_us, pk_us]
    exact ⟨rfl, rfl⟩
  · rw [pk_un e, pk_un e]
    exact h p (by omega)
/-- each value is in the register of its height -/
def fz_I (a : Nat → Int32) : Prop := ∀ j, j < 8 → a j = nI j
theorem fz_I_put {a : Nat → Int32} {d : Nat} (h : fz_I a) : fz_I (upd a d (nI d)) := by
  intro j hj
  by_cases e : j = d
  · rw [e, pk_us]
  · rw [pk_un e]
    exact h j hj
/-- flat code from s on: n rows of the table from g on; below s what stood there -/
def fz_F (o9 o10 o11 o12 : Nat → Int32) (g s n : Nat) (a9 a10 a11 a12 : Nat → Int32) : Prop :=
  (∀ j, j < s → a9 j = o9 j ∧ a10 j = o10 j ∧ a11 j = o11 j ∧ a12 j = o12 j) ∧
  (∀ j, j < n → a9 (s + j) = nI (fz_tO (g + j)) ∧ a10 (s + j) = nI (fz_tX (g + j)) ∧ a11 (s + j) = nI (fz_tY (g + j)) ∧ a12 (s + j) = nI (fz_tZ (g + j)))
theorem fz_F_0 {g s : Nat} {a9 a10 a11 a12 : Nat → Int32} : fz_F a9 a10 a11 a12 g s 0 a9 a10 a11 a12 :=
  ⟨fun j _ => ⟨rfl, rfl, rfl, rfl⟩, fun j h => absurd h (by omega)⟩
theorem fz_F_add {o9 o10 o11 o12 : Nat → Int32} {g s n : Nat} {a9 a10 a11 a12 : Nat → Int32} (h : fz_F o9 o10 o11 o12 g s n a9 a10 a11 a12) {c q : Nat} (hc : c = s + n) (hq : q = g + n) :
    fz_F o9 o10 o11 o12 g s (n + 1) (upd a9 c (nI (fz_tO q))) (upd a10 c (nI (fz_tX q))) (upd a11 c (nI (fz_tY q))) (upd a12 c (nI (fz_tZ q))) := by
  subst hc hq
  refine ⟨fun j hj => ?_, fun j hj => ?_⟩
  · have e : j ≠ s + n := by omega
    rw [pk_un e, pk_un e, pk_un e, pk_un e]
    exact h.1 j hj
  · by_cases e : j = n
    · subst e
      rw [pk_us, pk_us, pk_us, pk_us]
      exact ⟨rfl, rfl, rfl, rfl⟩
    · have e' : s + j ≠ s + n := by omega
      rw [pk_un e', pk_un e', pk_un e', pk_un e']
      exact h.2 j (by omega)
/-- a block that is kept: the block q is the translation of place p, below c -/
def fz_B (p q c : Nat) (a6 a7 a8 a9 a10 a11 a12 : Nat → Int32) : Prop :=
  ∃ s, a6 q = nI s ∧ s + fz_w p ≤ c ∧ a7 q = nI (fz_m p) ∧ a8 q = nI (fz_m p) ∧
    ∀ j, j < fz_w p → a9 (s + j) = nI (fz_tO (fz_t p + j)) ∧ a10 (s + j) = nI (fz_tX (fz_t p + j)) ∧ a11 (s + j) = nI (fz_tY (fz_t p + j)) ∧ a12 (s + j) = nI (fz_tZ (fz_t p + j))
/-- all that is kept for the program's places is right: b blocks, c rows of flat code -/
def fz_C (b c : Nat) (a5 a6 a7 a8 a9 a10 a11 a12 : Nat → Int32) : Prop :=
  b ≤ 48 ∧ c ≤ 640 ∧ ∀ p, p < 12 → a5 (9 * p + fz_h p) = -1 ∨ ∃ q, q < b ∧ a5 (9 * p + fz_h p) = nI q ∧ fz_B p q c a6 a7 a8 a9 a10 a11 a12
theorem fz_C_0 {a5 a6 a7 a8 a9 a10 a11 a12 : Nat → Int32} (h : ∀ j, j < 297 → a5 j = -1) : fz_C 0 0 a5 a6 a7 a8 a9 a10 a11 a12 :=
  ⟨by omega, by omega, fun p hp => Or.inl (h _ (fz_key p hp))⟩
theorem fz_C_add {b c p : Nat} {a5 a6 a7 a8 a9 a10 a11 a12 b9 b10 b11 b12 : Nat → Int32} (h : fz_C b c a5 a6 a7 a8 a9 a10 a11 a12) (hb : b < 48) (hc : c ≤ 600) (hp : p < 12)
    (hF : fz_F a9 a10 a11 a12 (fz_t p) c (fz_w p) b9 b10 b11 b12) :
    fz_C (b + 1) (c + fz_w p) (upd a5 (9 * p + fz_h p) (nI b)) (upd a6 b (nI c)) (upd a7 b (nI (fz_m p))) (upd a8 b (nI (fz_m p))) b9 b10 b11 b12 ∧
    fz_B p b (c + fz_w p) (upd a6 b (nI c)) (upd a7 b (nI (fz_m p))) (upd a8 b (nI (fz_m p))) b9 b10 b11 b12 := by
  have hw := fz_wB p hp
  have hB : fz_B p b (c + fz_w p) (upd a6 b (nI c)) (upd a7 b (nI (fz_m p))) (upd a8 b (nI (fz_m p))) b9 b10 b11 b12 := by
    refine ⟨c, pk_us, Nat.le_refl _, pk_us, pk_us, fun j hj => hF.2 j hj⟩
  refine ⟨⟨by omega, by omega, fun q hq => ?_⟩, hB⟩
  by_cases e : q = p
  · subst e
    exact Or.inr ⟨b, by omega, pk_us, hB⟩
  · rw [pk_un (fz_keyI p hp q hq e)]
    rcases h.2.2 q hq with z | ⟨x, hx, h5, s, h6, hs, h7, h8, hj⟩
    · exact Or.inl z
    · have ne : x ≠ b := by omega
      refine Or.inr ⟨x, by omega, h5, s, ?_, by omega, ?_, ?_, fun j hjw => ?_⟩
      · rw [pk_un ne]; exact h6
      · rw [pk_un ne]; exact h7
      · rw [pk_un ne]; exact h8
      · have k := hF.1 (s + j) (by omega)
        rw [k.1, k.2.1, k.2.2.1, k.2.2.2]
        exact hj j hjw
end
end
section
/-! Methods that stand below: forgetBlocks, write, straighten, freeRegister, faults, poke, isInstruction, emit -/
section
variable {fl fh fp fs fc fb fe fd : Int32} {a1 a2 a3 a4 a5 a6 a7 a8 a9 a10 a11 a12 a13 : Nat → Int32}
theorem fz_fill {s : Nat → Int32} {i : Nat} (hi : i < 297) (h : ∀ j, j < i → s j = -1) : ∀ j, j < i + 1 → upd s (nI i).toNatClampNeg (-1) j = -1 := by
  intro j hj
  rw [nI_clamp (show i < 2 ^ 31 by omega)]
  by_cases e : j = i
  · rw [e, pk_us]
  · rw [pk_un e]
    exact h j (by omega)
theorem fz_forget {post : St2 → Prop} (H : ∀ a5' : Nat → Int32, (∀ j, j < 297 → a5' j = -1) → post (fl, fh, fp, fs, fc, 0, 0, fd, a1, a2, a3, a4, a5', a6, a7, a8, a9, a10, a11, a12, a13)) : wpX_forgetBlocks post (fl, fh, fp, fs, fc, fb, fe, fd, a1, a2, a3, a4, a5, a6, a7, a8, a9, a10, a11, a12, a13) :=
  pk_loop (fun n i s => wX_forgetBlocks_2 post fl fh fp fs fc fb fe fd n (nI i) a1 a2 a3 a4 s a6 a7 a8 a9 a10 a11 a12 a13) (fun i s => ∀ j, j < i → s j = -1) 297 0 a5 (by omega) (fun j hj => absurd hj (by omega))
    (fun n s h => pk_le 297 297 (fun _ => H s h) (fun z => absurd z (by omega)))
    (fun n i s hi h hw => pk_le 297 i (fun z => absurd z (by omega)) (fun _ => ⟨pk_in i 297 hi, nm_e (nm_r (nI_1 i) (hw _ (fz_fill hi h)))⟩))
theorem fz_write {post : St2 → Prop} {x y z v : Int32} (o xx yy : Nat) {c : Nat} (hc : c < 640) (ho : o < 128) (hxx : xx < 128) (hyy : yy < 128)
    (H : post (fl, fh, fp, fs, fc, fb, nI (c + 1), fd, a1, a2, a3, a4, a5, a6, a7, a8, upd a9 c (nI o), upd a10 c (nI xx), upd a11 c (nI yy), upd a12 c v, a13)) (hx : x = nI o := by rfl) (hy : y = nI xx := by rfl) (hz : z = nI yy := by rfl) :
    wpX_write post (fl, fh, fp, fs, fc, fb, nI c, fd, a1, a2, a3, a4, a5, a6, a7, a8, a9, a10, a11, a12, a13) x y z v := by
  subst hx hy hz
  have e : (nI c).toNatClampNeg = c := nI_clamp (by omega)
  unfold wpX_write
  exact And.intro (pk_in c 640 hc) (nm_r (by rw [e, fz_n8 o ho]) (And.intro (pk_in c 640 hc) (nm_r (by rw [e, fz_n8 xx hxx]) (And.intro (pk_in c 640 hc) (nm_r (by rw [e, fz_n8 yy hyy]) (And.intro (pk_in c 640 hc) (nm_r (by rw [e]) (nm_r (nI_1 c) H))))))))
theorem fz_str {post : St2 → Prop} {d : Nat} (hd : d ≤ 8) (hh : fz_I a13) (H : post (fl, fh, fp, fs, fc, fb, fe, nI d, a1, a2, a3, a4, a5, a6, a7, a8, a9, a10, a11, a12, a13)) : wpX_straighten post (fl, fh, fp, fs, fc, fb, fe, nI d, a1, a2, a3, a4, a5, a6, a7, a8, a9, a10, a11, a12, a13) :=
  pk_loop (σ := Unit) (fun n i _ => wX_straighten_2 post n (nI i) fl fh fp fs fc fb fe (nI d) a1 a2 a3 a4 a5 a6 a7 a8 a9 a10 a11 a12 a13) (fun _ _ => True) d 0 () (by omega) trivial
    (fun n _ _ => pk_le d d (fun _ => H) (fun z => absurd z (by omega)))
    (fun n i _ hi _ hw => pk_le d i (fun z => absurd z (by omega)) (fun _ => ⟨pk_in i 8 (by omega), nm_r (show a13 (nI i).toNatClampNeg = nI i by rw [nI_clamp (by omega)]; exact hh i (by omega)) (br_t rfl (nm_r (nI_1 i) (hw () trivial)))⟩))
theorem fz_free {post : Int32 → Prop} {d : Nat} (hd : d < 2) (hh : fz_I a13) (H : post (nI d)) : wpX_freeRegister post (fl, fh, fp, fs, fc, fb, fe, nI d, a1, a2, a3, a4, a5, a6, a7, a8, a9, a10, a11, a12, a13) := by
  have h0 : a13 (0 : Int32).toNatClampNeg = 0 := hh 0 (by omega)
  unfold wpX_freeRegister
  rcases (show d = 0 ∨ d = 1 by omega) with rfl | rfl
  · exact Exists.intro (0 + 1) (br_t (by decide) (Exists.intro (0 + 1) (br_f (by decide) (br_t (by decide +kernel) H))))
  · exact Exists.intro (0 + 1 + 1) (br_f (by decide) (And.intro (pk_in 0 8 (by omega)) (nm_r (e' := 1) (by rw [h0]; decide +kernel) (nm_r (e' := 1) (by decide) (br_t (by decide)
      (Exists.intro (0 + 1 + 1) (br_f (by decide) (br_f (by decide +kernel) (nm_r (e' := 1) (by decide) (br_f (by decide) (br_t (by decide +kernel) H)))))))))))
theorem fz_faults {post : Int32 → Prop} {p : Nat} (hp : p < 12) (H : post 0) : wpX_faults post (fl, fh, fp, fs, fc, fb, fe, fd, a1, a2, a3, a4, a5, a6, a7, a8, a9, a10, a11, a12, a13) (nI (fz_op p)) (nI (fz_nm p)) (nI (fz_h p)) := by
  refine fz_cases (P := fun p => wpX_faults post (fl, fh, fp, fs, fc, fb, fe, fd, a1, a2, a3, a4, a5, a6, a7, a8, a9, a10, a11, a12, a13) (nI (fz_op p)) (nI (fz_nm p)) (nI (fz_h p))) ?_ ?_ ?_ ?_ ?_ ?_ ?_ ?_ ?_ ?_ ?_ ?_ p hp
  all_goals repeat (first | exact H | refine br_t (by decide) ?_ | refine br_f (by decide) ?_)
theorem fz_poke {post : Int32 → St2 → Prop} {c : Nat} {v : Int32} (hc : c ≤ 7) (H : post 1 (fl, fh, fp, fs, fc, fb, fe, fd, a1, a2, upd a3 c v, a4, a5, a6, a7, a8, a9, a10, a11, a12, a13)) : wpX_poke post (fl, fh, fp, fs, fc, fb, fe, fd, a1, a2, a3, a4, a5, a6, a7, a8, a9, a10, a11, a12, a13) (nI c) v :=
  br_f (nI_pos (by omega)) (pk_le c 7 (fun _ => ⟨pk_in c 8 (by omega), nm_r (by rw [nI_clamp (by omega)]) H⟩) (fun z => absurd z (by omega)))
theorem fz_isI {post : Int32 → Prop} {p : Nat} (hp : p < 12) (H : post 1) : wpX_isInstruction post (fl, fh, fp, fs, fc, fb, fe, fd, a1, a2, a3, a4, a5, a6, a7, a8, a9, a10, a11, a12, a13) (nI (fz_op p)) (nI (fz_nm p)) := by
  refine fz_cases (P := fun p => wpX_isInstruction post (fl, fh, fp, fs, fc, fb, fe, fd, a1, a2, a3, a4, a5, a6, a7, a8, a9, a10, a11, a12, a13) (nI (fz_op p)) (nI (fz_nm p))) ?_ ?_ ?_ ?_ ?_ ?_ ?_ ?_ ?_ ?_ ?_ ?_ p hp
  all_goals repeat (first | exact H | refine br_t (by decide) ?_ | refine br_f (by decide) ?_)
theorem fz_opB : ∀ p, p < 12 → fz_op p < 128 := by decide
theorem fz_emit {post : Int32 → St2 → Prop} {p : Nat} (hp : p < 12) (hP : fz_P p a1 a2)
    (H : ∀ a1' a2' a5' : Nat → Int32, fz_P (p + 1) a1' a2' → (∀ j, j < 297 → a5' j = -1) → post (nI (p + 1)) (nI (p + 1), fh, fp, fs, fc, 0, 0, fd, a1', a2', a3, a4, a5', a6, a7, a8, a9, a10, a11, a12, a13)) :
    wpX_emit post (nI p, fh, fp, fs, fc, fb, fe, fd, a1, a2, a3, a4, a5, a6, a7, a8, a9, a10, a11, a12, a13) (nI (fz_op p)) (nI (fz_nm p)) := by
  have e : (nI p).toNatClampNeg = p := nI_clamp (by omega)
  unfold wpX_emit
  refine br_t (nI_lt (b := 32) (by omega) (by decide)) (fz_isI hp (br_f (by decide) (And.intro (pk_in p 32 (by omega)) (nm_r (by rw [e, fz_n8 _ (fz_opB p hp)]) (And.intro (pk_in p 32 (by omega)) (nm_r (by rw [e]) (nm_r (nI_1 p) (fz_forget (fun a5' h5 => H _ _ a5' (fz_P_add hP) h5)))))))))
end
end
section
/-! translateOne: one instruction becomes its rows of flat code -/
section
variable {fl fh fp fs fc fb fe fd : Int32} {a1 a2 a3 a4 a5 a6 a7 a8 a9 a10 a11 a12 a13 : Nat → Int32}
/-- LOAD a at height d -/
theorem fz_t1_load {post : Int32 → St2 → Prop} {p a d c : Nat} (hp : p < 32) (ho : a1 p = 2) (hn : a2 p = nI a) (ha : a < 8) (hd : d < 2) (hc : c < 640) (hh : fz_I a13)
    (H : ∀ a13' : Nat → Int32, fz_I a13' → post 1 (fl, fh, fp, fs, fc, fb, nI (c + 1), nI (d + 1), a1, a2, a3, a4, a5, a6, a7, a8, upd a9 c (nI 5), upd a10 c (nI d), upd a11 c (nI a), upd a12 c (nI 0), a13')) :
    wpX_translateOne post (fl, fh, fp, fs, fc, fb, nI c, nI d, a1, a2, a3, a4, a5, a6, a7, a8, a9, a10, a11, a12, a13) (nI p) := by
  have ep : (nI p).toNatClampNeg = p := nI_clamp (by omega)
  have ed : (nI d).toNatClampNeg = d := nI_clamp (by omega)
  unfold wpX_translateOne
  refine And.intro (pk_in p 32 hp) (nm_r (e' := 2) (by rw [ep, ho]) (And.intro (pk_in p 32 hp) (nm_r (e' := nI a) (by rw [ep, hn]) ?_)))
  refine br_f (by decide) (br_f (by decide) (br_f (by decide) (br_f (by decide) (br_f (by decide) ?_))))
  unfold wpX_translateMove
  refine br_f (by decide) (fz_free hd hh ?_)
  refine br_f (by decide) (br_f (by decide) (fz_write 5 d a hc (by omega) (by omega) (by omega) ?_))
  exact And.intro (pk_in d 8 (by omega)) (nm_r (e' := upd a13 d (nI d)) (by rw [ed, fz_n8 d (by omega)]) (nm_r (nI_1 d) (H _ (fz_I_put hh))))
/-- LIT a at height d -/
theorem fz_t1_lit {post : Int32 → St2 → Prop} {p a d c : Nat} (hp : p < 32) (ho : a1 p = 0) (hn : a2 p = nI a) (hd : d < 2) (hc : c < 640) (hh : fz_I a13)
    (H : ∀ a13' : Nat → Int32, fz_I a13' → post 1 (fl, fh, fp, fs, fc, fb, nI (c + 1), nI (d + 1), a1, a2, a3, a4, a5, a6, a7, a8, upd a9 c (nI 0), upd a10 c (nI d), upd a11 c (nI 0), upd a12 c (nI a), a13')) :
    wpX_translateOne post (fl, fh, fp, fs, fc, fb, nI c, nI d, a1, a2, a3, a4, a5, a6, a7, a8, a9, a10, a11, a12, a13) (nI p) := by
  have ep : (nI p).toNatClampNeg = p := nI_clamp (by omega)
  have ed : (nI d).toNatClampNeg = d := nI_clamp (by omega)
  unfold wpX_translateOne
  refine And.intro (pk_in p 32 hp) (nm_r (e' := 0) (by rw [ep, ho]) (And.intro (pk_in p 32 hp) (nm_r (e' := nI a) (by rw [ep, hn]) ?_)))
  refine br_f (by decide) (br_f (by decide) (br_f (by decide) (br_f (by decide) (br_f (by decide) ?_))))
  unfold wpX_translateMove
  refine br_f (by decide) (fz_free hd hh ?_)
  refine br_t rfl (fz_write 0 d 0 hc (by omega) (by omega) (by omega) ?_)
  exact And.intro (pk_in d 8 (by omega)) (nm_r (e' := upd a13 d (nI d)) (by rw [ed, fz_n8 d (by omega)]) (nm_r (nI_1 d) (H _ (fz_I_put hh))))
/-- STORE a at height 1 -/
theorem fz_t1_store {post : Int32 → St2 → Prop} {p a c : Nat} (hp : p < 32) (ho : a1 p = 3) (hn : a2 p = nI a) (ha : a < 8) (hc : c < 640) (hh : fz_I a13)
    (H : post 1 (fl, fh, fp, fs, fc, fb, nI (c + 1), nI 0, a1, a2, a3, a4, a5, a6, a7, a8, upd a9 c (nI 6), upd a10 c (nI a), upd a11 c (nI 0), upd a12 c (nI 0), a13)) :
    wpX_translateOne post (fl, fh, fp, fs, fc, fb, nI c, nI 1, a1, a2, a3, a4, a5, a6, a7, a8, a9, a10, a11, a12, a13) (nI p) := by
  have ep : (nI p).toNatClampNeg = p := nI_clamp (by omega)
  have h0 : a13 (nI 0).toNatClampNeg = nI 0 := hh 0 (by omega)
  unfold wpX_translateOne
  refine And.intro (pk_in p 32 hp) (nm_r (e' := 3) (by rw [ep, ho]) (And.intro (pk_in p 32 hp) (nm_r (e' := nI a) (by rw [ep, hn]) ?_)))
  refine br_f (by decide) (br_f (by decide) (br_f (by decide) (br_f (by decide) (br_f (by decide) ?_))))
  unfold wpX_translateMove
  refine br_t rfl (nm_r (e' := nI 0) (by decide) (And.intro (pk_in 0 8 (by omega)) ?_))
  exact fz_write 6 a 0 hc (by omega) (by omega) (by omega) H (hz := h0)
/-- ADDP 1 at height 2 -/
theorem fz_t1_addp {post : Int32 → St2 → Prop} {p c : Nat} (hp : p < 32) (ho : a1 p = 8) (hn : a2 p = 1) (hc : c < 640) (hh : fz_I a13)
    (H : post 1 (fl, fh, fp, fs, fc, fb, nI (c + 1), nI 1, a1, a2, a3, a4, a5, a6, a7, a8, upd a9 c (nI 2), upd a10 c (nI 0), upd a11 c (nI 0), upd a12 c (nI 1), a13)) :
    wpX_translateOne post (fl, fh, fp, fs, fc, fb, nI c, nI 2, a1, a2, a3, a4, a5, a6, a7, a8, a9, a10, a11, a12, a13) (nI p) := by
  have ep : (nI p).toNatClampNeg = p := nI_clamp (by omega)
  have h1 : a13 (nI 2 - 1).toNatClampNeg = nI 1 := hh 1 (by omega)
  have h0 : a13 ((nI 2 - 1) - 1).toNatClampNeg = nI 0 := hh 0 (by omega)
  unfold wpX_translateOne
  refine And.intro (pk_in p 32 hp) (nm_r (e' := 8) (by rw [ep, ho]) (And.intro (pk_in p 32 hp) (nm_r (e' := 1) (by rw [ep, hn]) ?_)))
  refine br_f (by decide) (br_f (by decide) (br_f (by decide) (br_f (by decide) (br_t (by decide) ?_))))
  unfold wpX_translateCombine
  refine And.intro (pk_in 1 8 (by omega)) (nm_r (e' := nI 1) h1 (And.intro (pk_in 0 8 (by omega)) (nm_r (e' := nI 0) h0 ?_)))
  refine br_f (by decide) (br_f (by decide) (br_f (by decide) (br_f (by decide) (br_t rfl ?_))))
  unfold wX_translateCombine_129
  exact fz_write 2 0 0 hc (by omega) (by omega) (by omega) (nm_r (e' := nI 1) (by decide) H)
/-- SUBP 1 at height 2 -/
theorem fz_t1_subp {post : Int32 → St2 → Prop} {p c : Nat} (hp : p < 32) (ho : a1 p = 9) (hn : a2 p = 1) (hc : c < 640) (hh : fz_I a13)
    (H : post 1 (fl, fh, fp, fs, fc, fb, nI (c + 1), nI 1, a1, a2, a3, a4, a5, a6, a7, a8, upd a9 c (nI 3), upd a10 c (nI 0), upd a11 c (nI 0), upd a12 c (nI 1), a13)) :
    wpX_translateOne post (fl, fh, fp, fs, fc, fb, nI c, nI 2, a1, a2, a3, a4, a5, a6, a7, a8, a9, a10, a11, a12, a13) (nI p) := by
  have ep : (nI p).toNatClampNeg = p := nI_clamp (by omega)
  have h1 : a13 (nI 2 - 1).toNatClampNeg = nI 1 := hh 1 (by omega)
  have h0 : a13 ((nI 2 - 1) - 1).toNatClampNeg = nI 0 := hh 0 (by omega)
  unfold wpX_translateOne
  refine And.intro (pk_in p 32 hp) (nm_r (e' := 9) (by rw [ep, ho]) (And.intro (pk_in p 32 hp) (nm_r (e' := 1) (by rw [ep, hn]) ?_)))
  refine br_f (by decide) (br_f (by decide) (br_f (by decide) (br_f (by decide) (br_t (by decide) ?_))))
  unfold wpX_translateCombine
  refine And.intro (pk_in 1 8 (by omega)) (nm_r (e' := nI 1) h1 (And.intro (pk_in 0 8 (by omega)) (nm_r (e' := nI 0) h0 ?_)))
  refine br_f (by decide) (br_f (by decide) (br_f (by decide) (br_f (by decide) (br_f (by decide) ?_))))
  unfold wX_translateCombine_129
  exact fz_write 3 0 0 hc (by omega) (by omega) (by omega) (nm_r (e' := nI 1) (by decide) H)
/-- an instruction that ends no block -/
theorem fz_t1N {post : Int32 → St2 → Prop} {p c : Nat} (hp : p ≤ 9) (hp1 : p ≠ 1) (hP : fz_P 12 a1 a2) (hc : c < 640) (hh : fz_I a13)
    (H : ∀ a13' : Nat → Int32, fz_I a13' → post 1 (fl, fh, fp, fs, fc, fb, nI (c + 1), nI (fz_h (p + 1)), a1, a2, a3, a4, a5, a6, a7, a8, upd a9 c (nI (fz_tO (fz_t p))), upd a10 c (nI (fz_tX (fz_t p))), upd a11 c (nI (fz_tY (fz_t p))), upd a12 c (nI (fz_tZ (fz_t p))), a13')) :
    wpX_translateOne post (fl, fh, fp, fs, fc, fb, nI c, nI (fz_h p), a1, a2, a3, a4, a5, a6, a7, a8, a9, a10, a11, a12, a13) (nI p) := by
  rcases (show p = 0 ∨ p = 2 ∨ p = 3 ∨ p = 4 ∨ p = 5 ∨ p = 6 ∨ p = 7 ∨ p = 8 ∨ p = 9 by omega) with rfl | rfl | rfl | rfl | rfl | rfl | rfl | rfl | rfl
  · exact fz_t1_load (p := 0) (a := 0) (d := 0) (by omega) (hP 0 (by omega)).1 (hP 0 (by omega)).2 (by omega) (by omega) hc hh H
  · exact fz_t1_load (p := 2) (a := 2) (d := 0) (by omega) (hP 2 (by omega)).1 (hP 2 (by omega)).2 (by omega) (by omega) hc hh H
  · exact fz_t1_load (p := 3) (a := 1) (d := 1) (by omega) (hP 3 (by omega)).1 (hP 3 (by omega)).2 (by omega) (by omega) hc hh H
  · exact fz_t1_addp (p := 4) (by omega) (hP 4 (by omega)).1 (hP 4 (by omega)).2 hc hh (H _ hh)
  · exact fz_t1_store (p := 5) (a := 2) (by omega) (hP 5 (by omega)).1 (hP 5 (by omega)).2 (by omega) hc hh (H _ hh)
  · exact fz_t1_load (p := 6) (a := 0) (d := 0) (by omega) (hP 6 (by omega)).1 (hP 6 (by omega)).2 (by omega) (by omega) hc hh H
  · exact fz_t1_lit (p := 7) (a := 1) (d := 1) (by omega) (hP 7 (by omega)).1 (hP 7 (by omega)).2 (by omega) hc hh H
  · exact fz_t1_subp (p := 8) (by omega) (hP 8 (by omega)).1 (hP 8 (by omega)).2 hc hh (H _ hh)
  · exact fz_t1_store (p := 9) (a := 0) (by omega) (hP 9 (by omega)).1 (hP 9 (by omega)).2 (by omega) hc hh (H _ hh)
/-- JZ 11 at place 1, height 1 -/
theorem fz_t1J {post : Int32 → St2 → Prop} {c : Nat} (hP : fz_P 12 a1 a2) (hc : c < 639) (hh : fz_I a13)
    (H : post 0 (fl, fh, fp, fs, fc, fb, nI (c + 1 + 1), nI 0, a1, a2, a3, a4, a5, a6, a7, a8, upd (upd a9 c (nI (fz_tO 1))) (c + 1) (nI (fz_tO 2)), upd (upd a10 c (nI (fz_tX 1))) (c + 1) (nI (fz_tX 2)), upd (upd a11 c (nI (fz_tY 1))) (c + 1) (nI (fz_tY 2)), upd (upd a12 c (nI (fz_tZ 1))) (c + 1) (nI (fz_tZ 2)), a13)) :
    wpX_translateOne post (fl, fh, fp, fs, fc, fb, nI c, nI 1, a1, a2, a3, a4, a5, a6, a7, a8, a9, a10, a11, a12, a13) (nI 1) := by
  have h0 : a13 (nI 0).toNatClampNeg = nI 0 := hh 0 (by omega)
  unfold wpX_translateOne
  refine And.intro (pk_in 1 32 (by omega)) (nm_r (e' := 10) (hP 1 (by omega)).1 (And.intro (pk_in 1 32 (by omega)) (nm_r (e' := nI 11) (hP 1 (by omega)).2 ?_)))
  refine br_t rfl ?_
  unfold wX_translateOne_26
  refine nm_r (e' := nI 0) (by decide) (And.intro (pk_in 0 8 (by omega)) (fz_write 1 8 0 (by omega) (by omega) (by omega) (by omega) ?_ (hz := h0)))
  refine fz_str (d := 0) (by omega) hh (br_t rfl ?_)
  unfold wX_translateOne_71
  exact fz_write 8 2 0 (by omega) (by omega) (by omega) (by omega) H
/-- JMP 0 at place 10, HALT at place 11; height 0 -/
theorem fz_t1K {post : Int32 → St2 → Prop} {p c : Nat} (hp : p = 10 ∨ p = 11) (hP : fz_P 12 a1 a2) (hc : c < 640) (hh : fz_I a13)
    (H : post 0 (fl, fh, fp, fs, fc, fb, nI (c + 1), nI 0, a1, a2, a3, a4, a5, a6, a7, a8, upd a9 c (nI (fz_tO (fz_t p))), upd a10 c (nI (fz_tX (fz_t p))), upd a11 c (nI (fz_tY (fz_t p))), upd a12 c (nI (fz_tZ (fz_t p))), a13)) :
    wpX_translateOne post (fl, fh, fp, fs, fc, fb, nI c, nI 0, a1, a2, a3, a4, a5, a6, a7, a8, a9, a10, a11, a12, a13) (nI p) := by
  unfold wpX_translateOne
  rcases hp with rfl | rfl
  · refine And.intro (pk_in 10 32 (by omega)) (nm_r (e' := 12) (hP 10 (by omega)).1 (And.intro (pk_in 10 32 (by omega)) (nm_r (e' := nI 0) (hP 10 (by omega)).2 ?_)))
    refine br_f (by decide) (br_f (by decide) (br_t rfl ?_))
    unfold wX_translateOne_96
    refine fz_str (d := 0) (by omega) hh (br_t rfl (br_t rfl ?_))
    unfold wX_translateOne_125
    exact fz_write 7 0 0 hc (by omega) (by omega) (by omega) H
  · refine And.intro (pk_in 11 32 (by omega)) (nm_r (e' := 13) (hP 11 (by omega)).1 (And.intro (pk_in 11 32 (by omega)) (nm_r (e' := nI 0) (hP 11 (by omega)).2 ?_)))
    refine br_f (by decide) (br_f (by decide) (br_f (by decide) (br_t rfl ?_)))
    unfold wX_translateOne_96
    refine fz_str (d := 0) (by omega) hh (br_f (by decide) (br_f (by decide) ?_))
    unfold wX_translateOne_125
    exact fz_write 10 11 0 hc (by omega) (by omega) (by omega) H
end
end
section
/-! translate: a block of the program; blockAt: the block is there, or is made -/
section
variable {fl fh fp fs fc fb fe fd : Int32} {a1 a2 a3 a4 a5 a6 a7 a8 a9 a10 a11 a12 a13 : Nat → Int32}
/-- the loop's end: the block's numbers are written down -/
theorem fz_tEnd {post : St2 → Prop} {b d n : Nat} {x4 : Int32} (hb : b < 48) (hd : d < 128) (hn : 1 ≤ n) (H : post (fl, fh, fp, fs, fc, fb, fe, fd, a1, a2, a3, a4, a5, a6, upd a7 b (nI d), upd a8 b (nI d), a9, a10, a11, a12, a13)) :
    wX_translate_43 post (nI b) n x4 (nI d) 0 0 fl fh fp fs fc fb fe fd a1 a2 a3 a4 a5 a6 a7 a8 a9 a10 a11 a12 a13 := by
  have e : (nI b).toNatClampNeg = b := nI_clamp (by omega)
  obtain ⟨n', rfl⟩ : ∃ n', n = n' + 1 := ⟨n - 1, by omega⟩
  refine br_t rfl (br_t rfl ?_)
  unfold wX_translate_154
  exact And.intro (pk_in b 48 hb) (nm_r (by rw [e, fz_n8 d hd]) (br_t rfl (And.intro (pk_in b 48 hb) (nm_r (by rw [e, fz_n8 d hd]) H))))
/-- the loop, at place p of the block from p0 -/
theorem fz_tl {post : St2 → Prop} {b s p0 : Nat} {o9 o10 o11 o12 : Nat → Int32} (hb : b < 48) (hs : s ≤ 600) (hp0 : p0 < 12) (hP : fz_P 12 a1 a2)
    (H : ∀ (d' : Int32) (a9' a10' a11' a12' a13' : Nat → Int32), fz_F o9 o10 o11 o12 (fz_t p0) s (fz_w p0) a9' a10' a11' a12' →
      post (nI 12, fh, fp, fs, fc, fb, nI (s + fz_w p0), d', a1, a2, a3, a4, a5, a6, upd a7 b (nI (fz_m p0)), upd a8 b (nI (fz_m p0)), a9', a10', a11', a12', a13')) :
    ∀ (n p d c g : Nat) (a9 a10 a11 a12 a13 : Nat → Int32), p0 ≤ p → p ≤ fz_l p0 → 14 ≤ n + p → d = p - p0 → g = fz_t p - fz_t p0 → c = s + g → fz_F o9 o10 o11 o12 (fz_t p0) s g a9 a10 a11 a12 → fz_I a13 →
      wX_translate_43 post (nI b) n (nI p) (nI d) 1 0 (nI 12) fh fp fs fc fb (nI c) (nI (fz_h p)) a1 a2 a3 a4 a5 a6 a7 a8 a9 a10 a11 a12 a13 := by
  intro n
  have hl := fz_lB p0 hp0
  have hm := fz_mL p0 hp0
  induction n with
  | zero => intro p d c g a9 a10 a11 a12 a13 h1 h2 h3; omega
  | succ n ih =>
    intro p d c g a9 a10 a11 a12 a13 h1 h2 h3 hd hg hc hF hI
    have hp : p < 12 := by omega
    have ep : (nI p).toNatClampNeg = p := nI_clamp (by omega)
    have hgB : g ≤ 13 := by
      have := fz_tB p hp
      omega
    have hdB : d < 12 := by omega
    refine br_f (by decide) (br_f (nI_ge (b := 12) hdB (by decide)) (br_f (nI_ge (b := 12) hp (by decide)) (And.intro (pk_in p 32 (by omega)) (And.intro (pk_in p 32 (by omega)) ?_))))
    rw [ep, (hP p hp).1, (hP p hp).2]
    refine fz_faults hp (br_t rfl (nm_r (nI_1 d) ?_))
    by_cases hlast : p < fz_l p0
    · have hN := fz_lN p0 hp0 p hp h1 hlast
      have hS := fz_tS p (by omega) hN.2
      have hM := fz_tM p0 hp0 p hp h1
      refine fz_t1N hN.1 hN.2 hP (by omega) hI (fun a13' hI' => nm_r (nI_1 p) ?_)
      exact ih (p + 1) (d + 1) (c + 1) (g + 1) _ _ _ _ a13' (by omega) (by omega) (by omega) (by omega) (by omega) (by omega) (fz_F_add hF hc (by omega)) hI'
    · have hpe : p = fz_l p0 := by omega
      have hM := fz_tM p0 hp0 p hp h1
      have hdm : d + 1 = fz_m p0 := by omega
      rcases fz_lT p0 hp0 with z | z | z
      · have z' : p = 1 := by omega
        have hw := fz_wL1 p0 hp0 z
        subst z'
        refine fz_t1J hP (by omega) hI (nm_e (fz_tEnd hb (by omega) (by omega) ?_))
        have hF2 := fz_F_add (fz_F_add hF hc (q := 1) (by rw [hg]; have : fz_t 1 = 1 := rfl; omega)) (c := c + 1) (q := 2) (by omega) (by rw [hg]; have : fz_t 1 = 1 := rfl; omega)
        have e1 : g + 1 + 1 = fz_w p0 := by omega
        have e2 : c + 1 + 1 = s + fz_w p0 := by omega
        rw [e1] at hF2
        rw [e2, hdm]
        exact H _ _ _ _ _ _ hF2
      all_goals
        have z' : p = 10 ∨ p = 11 := by omega
        have hw := fz_wL2 p0 hp0 (by omega)
        rw [← hpe] at hw
        have hh0 : fz_h p = 0 := by rcases z' with rfl | rfl <;> rfl
        rw [hh0]
        refine fz_t1K z' hP (by omega) hI (nm_e (fz_tEnd hb (by omega) (by omega) ?_))
        have hF2 := fz_F_add hF hc (q := fz_t p) (by omega)
        have e1 : g + 1 = fz_w p0 := by omega
        have e2 : c + 1 = s + fz_w p0 := by omega
        rw [e1] at hF2
        rw [e2, hdm]
        exact H _ _ _ _ _ _ hF2
theorem fz_translate {post : St2 → Prop} {b s p : Nat} (hb : b < 48) (hs : s ≤ 600) (hp : p < 12) (hP : fz_P 12 a1 a2)
    (H : ∀ (d' : Int32) (a9' a10' a11' a12' a13' : Nat → Int32), fz_F a9 a10 a11 a12 (fz_t p) s (fz_w p) a9' a10' a11' a12' →
      post (nI 12, fh, fp, fs, fc, fb, nI (s + fz_w p), d', a1, a2, a3, a4, a5, a6, upd a7 b (nI (fz_m p)), upd a8 b (nI (fz_m p)), a9', a10', a11', a12', a13')) :
    wpX_translate post (nI 12, fh, fp, fs, fc, fb, nI s, fd, a1, a2, a3, a4, a5, a6, a7, a8, a9, a10, a11, a12, a13) (nI b) (nI p) (nI (fz_h p)) :=
  pk_loop (fun n i t => wX_translate_8 post (nI b) (nI p) (nI 12) fh fp fs fc fb (nI s) (nI (fz_h p)) n (nI i) a1 a2 a3 a4 a5 a6 a7 a8 a9 a10 a11 a12 t) (fun i t => ∀ j, j < i → t j = nI j) 8 0 a13 (by omega) (fun j hj => absurd hj (by omega))
    (fun n t h => pk_le 8 8 (fun _ => Exists.intro 14 (fz_tl hb hs hp hP H 14 p 0 s 0 a9 a10 a11 a12 t (Nat.le_refl p) (fz_lB p hp).1 (by omega) (by omega) (by omega) rfl fz_F_0 h)) (fun z => absurd z (by omega)))
    (fun n i t hi h hw => pk_le 8 i (fun z => absurd z (by omega)) (fun _ => ⟨pk_in i 8 hi, nm_r (e' := upd t i (nI i)) (by rw [nI_clamp (by omega), fz_n8 i (by omega)]) (nm_r (nI_1 i) (hw _ (fun j hj => by
      by_cases e : j = i
      · rw [e, pk_us]
      · rw [pk_un e]
        exact h j (by omega))))⟩))
/-- what blockAt hands on: the block q holds the translation of p -/
def fz_K (p q : Nat) (fb fe : Int32) (a5 a6 a7 a8 a9 a10 a11 a12 : Nat → Int32) : Prop :=
  ∃ b c, fb = nI b ∧ fe = nI c ∧ q < b ∧ fz_C b c a5 a6 a7 a8 a9 a10 a11 a12 ∧ fz_B p q c a6 a7 a8 a9 a10 a11 a12
theorem fz_b46 {post : Int32 → St2 → Prop} {p b c : Nat} (hp : p < 12) (hb : b < 48) (hc : c ≤ 600) (hP : fz_P 12 a1 a2) (hC : fz_C b c a5 a6 a7 a8 a9 a10 a11 a12)
    (H : ∀ (q : Nat) (b' c' d' : Int32) (a5' a6' a7' a8' a9' a10' a11' a12' a13' : Nat → Int32), fz_K p q b' c' a5' a6' a7' a8' a9' a10' a11' a12' →
      post (nI q) (nI 12, fh, fp, fs, fc, b', c', d', a1, a2, a3, a4, a5', a6', a7', a8', a9', a10', a11', a12', a13')) :
    wX_blockAt_46 post (nI p) (nI (fz_h p)) (nI (9 * p + fz_h p)) (nI 12) fh fp fs fc (nI b) (nI c) fd a1 a2 a3 a4 a5 a6 a7 a8 a9 a10 a11 a12 a13 := by
  have hk := fz_key p hp
  have ek : (nI (9 * p + fz_h p)).toNatClampNeg = 9 * p + fz_h p := nI_clamp (by omega)
  have eb : (nI b).toNatClampNeg = b := nI_clamp (by omega)
  unfold wX_blockAt_46
  refine nm_r (nI_1 b) (And.intro (pk_in (9 * p + fz_h p) 297 hk) (nm_r (e' := upd a5 (9 * p + fz_h p) (nI b)) (by rw [ek, fz_n16 b (by omega)]) (And.intro (pk_in b 48 hb) (nm_r (e' := upd a6 b (nI c)) (by rw [eb, fz_n16 c (by omega)]) ?_))))
  refine fz_translate hb hc hp hP (fun d' a9' a10' a11' a12' a13' hF => ?_)
  have hA := fz_C_add hC hb hc hp hF
  exact H b _ _ d' _ _ _ _ a9' a10' a11' a12' a13' ⟨b + 1, c + fz_w p, rfl, rfl, by omega, hA.1, hA.2⟩
theorem fz_blockAt {post : Int32 → St2 → Prop} {p b c : Nat} (hp : p < 12) (hP : fz_P 12 a1 a2) (hC : fz_C b c a5 a6 a7 a8 a9 a10 a11 a12)
    (H : ∀ (q : Nat) (b' c' d' : Int32) (a5' a6' a7' a8' a9' a10' a11' a12' a13' : Nat → Int32), fz_K p q b' c' a5' a6' a7' a8' a9' a10' a11' a12' →
      post (nI q) (nI 12, fh, fp, fs, fc, b', c', d', a1, a2, a3, a4, a5', a6', a7', a8', a9', a10', a11', a12', a13')) :
    wpX_blockAt post (nI 12, fh, fp, fs, fc, nI b, nI c, fd, a1, a2, a3, a4, a5, a6, a7, a8, a9, a10, a11, a12, a13) (nI p) (nI (fz_h p)) := by
  have hk := fz_key p hp
  have ek : (nI (9 * p + fz_h p)).toNatClampNeg = 9 * p + fz_h p := nI_clamp (by omega)
  have e9 : 9 * nI p + nI (fz_h p) = nI (9 * p + fz_h p) := by
    rw [show (9 : Int32) = nI 9 from rfl, pk_mul, nI_add]
  have hb := hC.1
  have hc := hC.2.1
  have f42 : wX_blockAt_42 post (nI p) (nI (fz_h p)) (nI (9 * p + fz_h p)) (nI 12) fh fp fs fc (nI b) (nI c) fd a1 a2 a3 a4 a5 a6 a7 a8 a9 a10 a11 a12 a13 := by
    unfold wX_blockAt_42
    exact fz_forget (fun a5' h5 => fz_b46 (b := 0) (c := 0) hp (by omega) (by omega) hP (fz_C_0 h5) H)
  unfold wpX_blockAt
  refine nm_r e9 (And.intro (pk_in (9 * p + fz_h p) 297 hk) ?_)
  rw [ek]
  rcases hC.2.2 p hp with z | ⟨q, hq, h5, hB⟩
  · rw [z]
    exact br_t (by decide) (pk_le 48 b (fun _ => f42) (fun hb' => pk_le c 600 (fun hc' => fz_b46 hp hb' hc' hP hC H) (fun _ => f42)))
  · rw [h5]
    exact br_f (nI_pos (by omega)) (And.intro (pk_in (9 * p + fz_h p) 297 hk) (H q _ _ fd a5 a6 a7 a8 a9 a10 a11 a12 a13 ⟨b, c, rfl, rfl, hq, hC, hB⟩))
end
end
section
/-! work, execute, tryOne: what one row of flat code, a whole block, a single instruction does to cells and registers -/
section
variable {fl fh fp fs fc fb fe fd : Int32} {a1 a2 a3 a4 a5 a6 a7 a8 a9 a10 a11 a12 a13 : Nat → Int32}
/-- cells 0, 1, 2: the counter x, the step, the sum after y additions -/
def fz_A (x y : Nat) (st sm : Int32) (a3 : Nat → Int32) : Prop := a3 0 = nI x ∧ a3 1 = st ∧ a3 2 = sm + nI y * st
/-- cells and registers ahead of row g of the flat code, in turn i of k -/
def fz_D (k i : Nat) (st sm : Int32) (a3 a4 : Nat → Int32) : Nat → Prop
  | 0 => fz_A (k - i) i st sm a3
  | 1 => fz_A (k - i) i st sm a3 ∧ a4 0 = nI (k - i)
  | 2 => fz_A (k - i) i st sm a3 ∧ a4 8 = nI (k - i)
  | 3 => fz_A (k - i) i st sm a3
  | 4 => fz_A (k - i) i st sm a3 ∧ a4 0 = sm + nI i * st
  | 5 => fz_A (k - i) i st sm a3 ∧ a4 0 = sm + nI i * st ∧ a4 1 = st
  | 6 => fz_A (k - i) i st sm a3 ∧ a4 0 = sm + nI (i + 1) * st
  | 7 => fz_A (k - i) (i + 1) st sm a3
  | 8 => fz_A (k - i) (i + 1) st sm a3 ∧ a4 0 = nI (k - i)
  | 9 => fz_A (k - i) (i + 1) st sm a3 ∧ a4 0 = nI (k - i) ∧ a4 1 = 1
  | 10 => fz_A (k - i) (i + 1) st sm a3 ∧ a4 0 = nI (k - i - 1)
  | 11 => fz_A (k - i - 1) (i + 1) st sm a3
  | _ => fz_A (k - i) i st sm a3
/-- what row g does to the cells, to the registers -/
def fz_e3 (a3 a4 : Nat → Int32) : Nat → Nat → Int32
  | 6 => upd a3 2 (a4 0)
  | 10 => upd a3 0 (a4 0)
  | _ => a3
def fz_e4 (a3 a4 : Nat → Int32) : Nat → Nat → Int32
  | 0 => upd a4 0 (a3 0)
  | 1 => upd a4 8 (a4 0)
  | 3 => upd a4 0 (a3 2)
  | 4 => upd a4 1 (a3 1)
  | 5 => upd a4 0 (a4 0 + a4 1)
  | 7 => upd a4 0 (a3 0)
  | 8 => upd a4 1 (nI 1)
  | 9 => upd a4 0 (a4 0 - a4 1)
  | _ => a4
theorem fz_mulS (i : Nat) (st sm : Int32) : sm + nI i * st + st = sm + nI (i + 1) * st := by
  rw [nI_succ, Int32.add_mul, Int32.one_mul, Int32.add_assoc]
theorem fz_Dstep {k i g : Nat} {st sm : Int32} {a3 a4 : Nat → Int32} (hg : g ≤ 10) (hg2 : g ≠ 2) (hi : 3 ≤ g → i < k) (h : fz_D k i st sm a3 a4 g) : fz_D k i st sm (fz_e3 a3 a4 g) (fz_e4 a3 a4 g) (g + 1) := by
  rcases (show g = 0 ∨ g = 1 ∨ g = 3 ∨ g = 4 ∨ g = 5 ∨ g = 6 ∨ g = 7 ∨ g = 8 ∨ g = 9 ∨ g = 10 by omega) with rfl | rfl | rfl | rfl | rfl | rfl | rfl | rfl | rfl | rfl
  · have h : fz_A (k - i) i st sm a3 := h
    exact And.intro h h.1
  · have h : fz_A (k - i) i st sm a3 ∧ a4 0 = nI (k - i) := h
    exact And.intro h.1 h.2
  · have h : fz_A (k - i) i st sm a3 := h
    exact And.intro h h.2.2
  · have h : fz_A (k - i) i st sm a3 ∧ a4 0 = sm + nI i * st := h
    exact And.intro h.1 (And.intro h.2 h.1.2.1)
  · have h : fz_A (k - i) i st sm a3 ∧ a4 0 = sm + nI i * st ∧ a4 1 = st := h
    refine And.intro h.1 ?_
    show a4 0 + a4 1 = _
    rw [h.2.1, h.2.2, fz_mulS]
  · have h : fz_A (k - i) i st sm a3 ∧ a4 0 = sm + nI (i + 1) * st := h
    exact And.intro h.1.1 (And.intro h.1.2.1 h.2)
  · have h : fz_A (k - i) (i + 1) st sm a3 := h
    exact And.intro h h.1
  · have h : fz_A (k - i) (i + 1) st sm a3 ∧ a4 0 = nI (k - i) := h
    exact And.intro h.1 (And.intro h.2 rfl)
  · have h : fz_A (k - i) (i + 1) st sm a3 ∧ a4 0 = nI (k - i) ∧ a4 1 = 1 := h
    refine And.intro h.1 ?_
    show a4 0 - a4 1 = _
    have hk : i < k := hi (by omega)
    rw [h.2.1, h.2.2, show (1 : Int32) = nI 1 from rfl, pk_sub (by omega)]
  · have h : fz_A (k - i) (i + 1) st sm a3 ∧ a4 0 = nI (k - i - 1) := h
    exact And.intro h.2 (And.intro h.1.2.1 h.1.2.2)
/-- the four loads at the head of work -/
theorem fz_wk0 {post : St2 → Prop} {x X : Nat} {v : Int32} (hx : x < 640) (h9 : a9 x = 0) (h10 : a10 x = nI X) (h12 : a12 x = v) (hX : X < 10)
    (H : post (fl, fh, fp, fs, fc, fb, fe, fd, a1, a2, a3, upd a4 X v, a5, a6, a7, a8, a9, a10, a11, a12, a13)) : wpX_work post (fl, fh, fp, fs, fc, fb, fe, fd, a1, a2, a3, a4, a5, a6, a7, a8, a9, a10, a11, a12, a13) (nI x) := by
  have ex : (nI x).toNatClampNeg = x := nI_clamp (by omega)
  have eX : (nI X).toNatClampNeg = X := nI_clamp (by omega)
  unfold wpX_work
  refine And.intro (pk_in x 640 hx) (nm_r (e' := 0) (by rw [ex, h9]) (And.intro (pk_in x 640 hx) (nm_r (e' := nI X) (by rw [ex, h10]) (And.intro (pk_in x 640 hx) (nm_e (And.intro (pk_in x 640 hx) (nm_r (e' := v) (by rw [ex, h12]) ?_)))))))
  exact br_t rfl (And.intro (pk_in X 10 hX) (nm_r (by rw [eX]) H))
theorem fz_wk1 {post : St2 → Prop} {x X Y : Nat} (hx : x < 640) (h9 : a9 x = 1) (h10 : a10 x = nI X) (h11 : a11 x = nI Y) (hX : X < 10) (hY : Y < 10)
    (H : post (fl, fh, fp, fs, fc, fb, fe, fd, a1, a2, a3, upd a4 X (a4 Y), a5, a6, a7, a8, a9, a10, a11, a12, a13)) : wpX_work post (fl, fh, fp, fs, fc, fb, fe, fd, a1, a2, a3, a4, a5, a6, a7, a8, a9, a10, a11, a12, a13) (nI x) := by
  have ex : (nI x).toNatClampNeg = x := nI_clamp (by omega)
  have eX : (nI X).toNatClampNeg = X := nI_clamp (by omega)
  have eY : (nI Y).toNatClampNeg = Y := nI_clamp (by omega)
  unfold wpX_work
  refine And.intro (pk_in x 640 hx) (nm_r (e' := 1) (by rw [ex, h9]) (And.intro (pk_in x 640 hx) (nm_r (e' := nI X) (by rw [ex, h10]) (And.intro (pk_in x 640 hx) (nm_r (e' := nI Y) (by rw [ex, h11]) (And.intro (pk_in x 640 hx) (nm_e ?_)))))))
  exact br_f (by decide) (br_t rfl (And.intro (pk_in Y 10 hY) (And.intro (pk_in X 10 hX) (nm_r (by rw [eX, eY]) H))))
theorem fz_wk2 {post : St2 → Prop} {x X Y Z : Nat} (hx : x < 640) (h9 : a9 x = 2) (h10 : a10 x = nI X) (h11 : a11 x = nI Y) (h12 : a12 x = nI Z) (hX : X < 10) (hY : Y < 10) (hZ : Z < 10)
    (H : post (fl, fh, fp, fs, fc, fb, fe, fd, a1, a2, a3, upd a4 X (a4 Y + a4 Z), a5, a6, a7, a8, a9, a10, a11, a12, a13)) : wpX_work post (fl, fh, fp, fs, fc, fb, fe, fd, a1, a2, a3, a4, a5, a6, a7, a8, a9, a10, a11, a12, a13) (nI x) := by
  have ex : (nI x).toNatClampNeg = x := nI_clamp (by omega)
  have eX : (nI X).toNatClampNeg = X := nI_clamp (by omega)
  have eY : (nI Y).toNatClampNeg = Y := nI_clamp (by omega)
  have eZ : (nI Z).toNatClampNeg = Z := nI_clamp (by omega)
  unfold wpX_work
  refine And.intro (pk_in x 640 hx) (nm_r (e' := 2) (by rw [ex, h9]) (And.intro (pk_in x 640 hx) (nm_r (e' := nI X) (by rw [ex, h10]) (And.intro (pk_in x 640 hx) (nm_r (e' := nI Y) (by rw [ex, h11]) (And.intro (pk_in x 640 hx) (nm_r (e' := nI Z) (by rw [ex, h12]) ?_)))))))
  exact br_f (by decide) (br_f (by decide) (br_t rfl (And.intro (pk_in Y 10 hY) (And.intro (pk_in Z 10 hZ) (And.intro (pk_in X 10 hX) (nm_r (by rw [eX, eY, eZ]) H))))))
theorem fz_wk3 {post : St2 → Prop} {x X Y Z : Nat} (hx : x < 640) (h9 : a9 x = 3) (h10 : a10 x = nI X) (h11 : a11 x = nI Y) (h12 : a12 x = nI Z) (hX : X < 10) (hY : Y < 10) (hZ : Z < 10)
    (H : post (fl, fh, fp, fs, fc, fb, fe, fd, a1, a2, a3, upd a4 X (a4 Y - a4 Z), a5, a6, a7, a8, a9, a10, a11, a12, a13)) : wpX_work post (fl, fh, fp, fs, fc, fb, fe, fd, a1, a2, a3, a4, a5, a6, a7, a8, a9, a10, a11, a12, a13) (nI x) := by
  have ex : (nI x).toNatClampNeg = x := nI_clamp (by omega)
  have eX : (nI X).toNatClampNeg = X := nI_clamp (by omega)
  have eY : (nI Y).toNatClampNeg = Y := nI_clamp (by omega)
  have eZ : (nI Z).toNatClampNeg = Z := nI_clamp (by omega)
  unfold wpX_work
  refine And.intro (pk_in x 640 hx) (nm_r (e' := 3) (by rw [ex, h9]) (And.intro (pk_in x 640 hx) (nm_r (e' := nI X) (by rw [ex, h10]) (And.intro (pk_in x 640 hx) (nm_r (e' := nI Y) (by rw [ex, h11]) (And.intro (pk_in x 640 hx) (nm_r (e' := nI Z) (by rw [ex, h12]) ?_)))))))
  exact br_f (by decide) (br_f (by decide) (br_f (by decide) (br_t rfl (And.intro (pk_in Y 10 hY) (And.intro (pk_in Z 10 hZ) (And.intro (pk_in X 10 hX) (nm_r (by rw [eX, eY, eZ]) H)))))))
theorem fz_wk5 {post : St2 → Prop} {x X Y : Nat} (hx : x < 640) (h9 : a9 x = 5) (h10 : a10 x = nI X) (h11 : a11 x = nI Y) (hX : X < 10) (hY : Y < 8)
    (H : post (fl, fh, fp, fs, fc, fb, fe, fd, a1, a2, a3, upd a4 X (a3 Y), a5, a6, a7, a8, a9, a10, a11, a12, a13)) : wpX_work post (fl, fh, fp, fs, fc, fb, fe, fd, a1, a2, a3, a4, a5, a6, a7, a8, a9, a10, a11, a12, a13) (nI x) := by
  have ex : (nI x).toNatClampNeg = x := nI_clamp (by omega)
  have eX : (nI X).toNatClampNeg = X := nI_clamp (by omega)
  have eY : (nI Y).toNatClampNeg = Y := nI_clamp (by omega)
  unfold wpX_work
  refine And.intro (pk_in x 640 hx) (nm_r (e' := 5) (by rw [ex, h9]) (And.intro (pk_in x 640 hx) (nm_r (e' := nI X) (by rw [ex, h10]) (And.intro (pk_in x 640 hx) (nm_r (e' := nI Y) (by rw [ex, h11]) (And.intro (pk_in x 640 hx) (nm_e ?_)))))))
  exact br_f (by decide) (br_f (by decide) (br_f (by decide) (br_f (by decide) (br_f (by decide) (br_t rfl (And.intro (pk_in Y 8 hY) (And.intro (pk_in X 10 hX) (nm_r (by rw [eX, eY]) H))))))))
theorem fz_wk6 {post : St2 → Prop} {x X Y : Nat} (hx : x < 640) (h9 : a9 x = 6) (h10 : a10 x = nI X) (h11 : a11 x = nI Y) (hX : X < 8) (hY : Y < 10)
    (H : post (fl, fh, fp, fs, fc, fb, fe, fd, a1, a2, upd a3 X (a4 Y), a4, a5, a6, a7, a8, a9, a10, a11, a12, a13)) : wpX_work post (fl, fh, fp, fs, fc, fb, fe, fd, a1, a2, a3, a4, a5, a6, a7, a8, a9, a10, a11, a12, a13) (nI x) := by
  have ex : (nI x).toNatClampNeg = x := nI_clamp (by omega)
  have eX : (nI X).toNatClampNeg = X := nI_clamp (by omega)
  have eY : (nI Y).toNatClampNeg = Y := nI_clamp (by omega)
  unfold wpX_work
  refine And.intro (pk_in x 640 hx) (nm_r (e' := 6) (by rw [ex, h9]) (And.intro (pk_in x 640 hx) (nm_r (e' := nI X) (by rw [ex, h10]) (And.intro (pk_in x 640 hx) (nm_r (e' := nI Y) (by rw [ex, h11]) (And.intro (pk_in x 640 hx) (nm_e ?_)))))))
  exact br_f (by decide) (br_f (by decide) (br_f (by decide) (br_f (by decide) (br_f (by decide) (br_f (by decide) (And.intro (pk_in Y 10 hY) (And.intro (pk_in X 8 hX) (nm_r (by rw [eX, eY]) H))))))))
/-- row g stands at x -/
def fz_T (g x : Nat) (a9 a10 a11 a12 : Nat → Int32) : Prop := a9 x = nI (fz_tO g) ∧ a10 x = nI (fz_tX g) ∧ a11 x = nI (fz_tY g) ∧ a12 x = nI (fz_tZ g)
theorem fz_work {post : St2 → Prop} {g x : Nat} (hg : g ≤ 10) (hg2 : g ≠ 2) (hx : x < 640) (hT : fz_T g x a9 a10 a11 a12)
    (H : post (fl, fh, fp, fs, fc, fb, fe, fd, a1, a2, fz_e3 a3 a4 g, fz_e4 a3 a4 g, a5, a6, a7, a8, a9, a10, a11, a12, a13)) : wpX_work post (fl, fh, fp, fs, fc, fb, fe, fd, a1, a2, a3, a4, a5, a6, a7, a8, a9, a10, a11, a12, a13) (nI x) := by
  rcases (show g = 0 ∨ g = 1 ∨ g = 3 ∨ g = 4 ∨ g = 5 ∨ g = 6 ∨ g = 7 ∨ g = 8 ∨ g = 9 ∨ g = 10 by omega) with rfl | rfl | rfl | rfl | rfl | rfl | rfl | rfl | rfl | rfl
  · exact fz_wk5 (X := 0) (Y := 0) hx hT.1 hT.2.1 hT.2.2.1 (by omega) (by omega) H
  · exact fz_wk1 (X := 8) (Y := 0) hx hT.1 hT.2.1 hT.2.2.1 (by omega) (by omega) H
  · exact fz_wk5 (X := 0) (Y := 2) hx hT.1 hT.2.1 hT.2.2.1 (by omega) (by omega) H
  · exact fz_wk5 (X := 1) (Y := 1) hx hT.1 hT.2.1 hT.2.2.1 (by omega) (by omega) H
  · exact fz_wk2 (X := 0) (Y := 0) (Z := 1) hx hT.1 hT.2.1 hT.2.2.1 hT.2.2.2 (by omega) (by omega) (by omega) H
  · exact fz_wk6 (X := 2) (Y := 0) hx hT.1 hT.2.1 hT.2.2.1 (by omega) (by omega) H
  · exact fz_wk5 (X := 0) (Y := 0) hx hT.1 hT.2.1 hT.2.2.1 (by omega) (by omega) H
  · exact fz_wk0 (X := 1) (v := nI 1) hx hT.1 hT.2.1 hT.2.2.2 (by omega) H
  · exact fz_wk3 (X := 0) (Y := 0) (Z := 1) hx hT.1 hT.2.1 hT.2.2.1 hT.2.2.2 (by omega) (by omega) (by omega) H
  · exact fz_wk6 (X := 0) (Y := 0) hx hT.1 hT.2.1 hT.2.2.1 (by omega) (by omega) H
theorem fz_tO7 : ∀ g, g < 13 → (g ≤ 10 ∧ g ≠ 2 → ¬ (7 : Int32) ≤ nI (fz_tO g)) := by decide +kernel
/-- the rows that leave a block -/
theorem fz_leave {post : St2 → Prop} {g x : Nat} (hg : g = 2 ∨ g = 11 ∨ g = 12) (hx : x < 640) (hT : fz_T g x a9 a10 a11 a12)
    (H2 : g = 2 → a4 8 = 0 → post (fl, nI 0, nI 11, fs, fc, fb, fe, fd, a1, a2, a3, a4, a5, a6, a7, a8, a9, a10, a11, a12, a13))
    (H2' : g = 2 → ¬ a4 8 = 0 → post (fl, nI 0, nI 2, fs, fc, fb, fe, fd, a1, a2, a3, a4, a5, a6, a7, a8, a9, a10, a11, a12, a13))
    (H11 : g = 11 → post (fl, nI 0, nI 0, fs, fc, fb, fe, fd, a1, a2, a3, a4, a5, a6, a7, a8, a9, a10, a11, a12, a13))
    (H12 : g = 12 → post (fl, nI 0, nI 11, 1, fc, fb, fe, fd, a1, a2, a3, a4, a5, a6, a7, a8, a9, a10, a11, a12, a13)) : wX_execute_32 post (nI x) fl fh fp fs fc fb fe fd a1 a2 a3 a4 a5 a6 a7 a8 a9 a10 a11 a12 a13 := by
  have ex : (nI x).toNatClampNeg = x := nI_clamp (by omega)
  unfold wX_execute_32
  rw [ex, hT.1, hT.2.1, hT.2.2.1, hT.2.2.2]
  rcases hg with rfl | rfl | rfl
  · refine And.intro (pk_in x 640 hx) (nm_r (e' := 8) rfl (And.intro (pk_in x 640 hx) (nm_r (e' := nI 0) rfl (And.intro (pk_in x 640 hx) (nm_r (e' := nI 2) rfl (br_t rfl (br_c (fun z => ?_) (fun z => ?_))))))))
    · exact And.intro (pk_in x 640 hx) (nm_r (e' := nI 11) rfl (br_f (by decide) (br_f (by decide) (br_f (by decide) (H2 rfl z)))))
    · exact br_f (by decide) (br_f (by decide) (br_f (by decide) (H2' rfl z)))
  · exact And.intro (pk_in x 640 hx) (nm_r (e' := 7) rfl (And.intro (pk_in x 640 hx) (nm_r (e' := nI 0) rfl (And.intro (pk_in x 640 hx) (nm_r (e' := nI 0) rfl (br_f (by decide) (br_f (by decide) (br_f (by decide) (br_f (by decide) (H11 rfl))))))))))
  · exact And.intro (pk_in x 640 hx) (nm_r (e' := 10) rfl (And.intro (pk_in x 640 hx) (nm_r (e' := nI 0) rfl (And.intro (pk_in x 640 hx) (nm_r (e' := nI 11) rfl (br_f (by decide) (br_f (by decide) (br_t rfl (br_f (by decide) (H12 rfl))))))))))
/-- the loop of execute: from row g to the row e that leaves -/
theorem fz_el {post : St2 → Prop} {k i e c : Nat} {st sm : Int32} (he : e = 2 ∨ e = 11 ∨ e = 12) (hc : c ≤ 640) (hik : e = 11 → i < k)
    (H : ∀ (x : Nat) (a3' a4' : Nat → Int32), x < 640 → fz_T e x a9 a10 a11 a12 → fz_D k i st sm a3' a4' e → wX_execute_32 post (nI x) fl fh fp fs fc fb (nI c) fd a1 a2 a3' a4' a5 a6 a7 a8 a9 a10 a11 a12 a13) :
    ∀ (n g x : Nat) (a3 a4 : Nat → Int32), g ≤ e → (2 < e → 2 < g) → (11 < e → 11 < g) → e < n + g → x + (e - g) < c → (∀ j, j ≤ e - g → fz_T (g + j) (x + j) a9 a10 a11 a12) → fz_D k i st sm a3 a4 g →
      wX_execute_2 post n (nI x) fl fh fp fs fc fb (nI c) fd a1 a2 a3 a4 a5 a6 a7 a8 a9 a10 a11 a12 a13 := by
  intro n
  induction n with
  | zero => intro g x a3 a4 h1 h2 h3 h4; omega
  | succ n ih =>
    intro g x a3 a4 h1 h2 h3 h4 h5 hT hD
    have ex : (nI x).toNatClampNeg = x := nI_clamp (by omega)
    have hT0 : fz_T g x a9 a10 a11 a12 := hT 0 (by omega)
    refine pk_le c x (fun z => absurd z (by omega)) (fun _ => And.intro (pk_in x 640 (by omega)) ?_)
    rw [ex, hT0.1]
    by_cases hl : g = e
    · subst hl
      refine br_t ?_ (H x a3 a4 (by omega) hT0 hD)
      rcases he with rfl | rfl | rfl <;> decide
    · have hg : g ≤ 10 ∧ g ≠ 2 := by omega
      refine br_f (fz_tO7 g (by omega) hg) (fz_work hg.1 hg.2 (by omega) hT0 (nm_r (nI_1 x) ?_))
      refine ih (g + 1) (x + 1) _ _ (by omega) (by omega) (by omega) (by omega) (by omega) (fun j hj => ?_) (fz_Dstep hg.1 hg.2 (fun z => hik (by omega)) hD)
      have := hT (j + 1) (by omega)
      rw [show g + 1 + j = g + (j + 1) by omega, show x + 1 + j = x + (j + 1) by omega]
      exact this
end
end
section
/-! execute over a whole block, tryOne, run -/
section
variable {fl fh fp fs fc fb fe fd : Int32} {a1 a2 a3 a4 a5 a6 a7 a8 a9 a10 a11 a12 a13 : Nat → Int32}
/-- the row that leaves the block from p -/
def fz_z (p : Nat) : Nat := [2, 2, 11, 11, 11, 11, 11, 11, 11, 11, 11, 12].getD p 0
theorem fz_zT : ∀ p, p < 12 → (fz_z p = 2 ∧ p ≤ 1 ∧ p + fz_m p = 2) ∨ (fz_z p = 11 ∧ 2 ≤ p ∧ p ≤ 10 ∧ p + fz_m p = 11) ∨ (fz_z p = 12 ∧ p = 11 ∧ fz_m p = 1) := by decide
theorem fz_zW : ∀ p, p < 12 → fz_t p + fz_w p = fz_z p + 1 ∧ fz_t p ≤ fz_z p ∧ (2 < fz_z p → 2 < fz_t p) ∧ (11 < fz_z p → 11 < fz_t p) := by decide
theorem fz_m2 : ∀ p, p < 12 → 2 ≤ fz_m p → p ≤ 9 ∧ p ≠ 1 := by decide
theorem fz_t2 : ∀ p, p < 10 → p ≠ 1 → fz_t p ≤ 10 ∧ fz_t p ≠ 2 ∧ (3 ≤ fz_t p → 2 ≤ p) := by decide
/-- turn i of k, place p: which there are -/
def fz_G (k i p : Nat) : Prop := i ≤ k ∧ p < 12 ∧ (2 ≤ p → p ≤ 10 → i < k) ∧ (p = 11 → i = k)
/-- the machine after N instructions: running (status 0), or halted (status 1) -/
def fz_Q (k N : Nat) (st sm fs : Int32) (i p : Nat) (a3 a4 : Nat → Int32) : Prop :=
  fz_G k i p ∧ fz_D k i st sm a3 a4 (fz_t p) ∧ ((fs = 0 ∧ ((p ≤ 10 ∧ N = 11 * i + p) ∨ (p = 11 ∧ N = 11 * i + 2))) ∨ (fs = 1 ∧ p = 11 ∧ N = 11 * k + 3))
theorem fz_exec {post : St2 → Prop} {k i p s c N : Nat} {st sm : Int32} (hk : k ≤ 7) (hG : fz_G k i p) (hN : (p ≤ 10 ∧ N = 11 * i + p) ∨ (p = 11 ∧ N = 11 * i + 2)) (hD : fz_D k i st sm a3 a4 (fz_t p))
    (hs : s + fz_w p ≤ c) (hc : c ≤ 640) (hB : ∀ j, j < fz_w p → fz_T (fz_t p + j) (s + j) a9 a10 a11 a12)
    (H : ∀ (fs' : Int32) (i' p' : Nat) (a3' a4' : Nat → Int32), fz_Q k (N + fz_m p) st sm fs' i' p' a3' a4' → post (fl, nI (fz_h p'), nI p', fs', fc, fb, nI c, fd, a1, a2, a3', a4', a5, a6, a7, a8, a9, a10, a11, a12, a13)) :
    wpX_execute post (fl, fh, fp, 0, fc, fb, nI c, fd, a1, a2, a3, a4, a5, a6, a7, a8, a9, a10, a11, a12, a13) (nI s) := by
  obtain ⟨hik, hp, h3, h4⟩ := hG
  have hz := fz_zT p hp
  have hw := fz_zW p hp
  unfold wpX_execute
  refine Exists.intro 13 (fz_el (k := k) (i := i) (e := fz_z p) (st := st) (sm := sm) (by omega) hc (fun z => h3 (by omega) (by omega)) (fun x a3' a4' hx hT hD' => ?_) 13 (fz_t p) s a3 a4 hw.2.1 hw.2.2.1 hw.2.2.2 (by omega) (by omega) (fun j hj => hB j (by omega)) hD)
  refine fz_leave (by omega) hx hT (fun e z => ?_) (fun e z => ?_) (fun e => ?_) (fun e => ?_)
  · rw [e] at hD'
    have hD2 : fz_A (k - i) i st sm a3' ∧ a4' 8 = nI (k - i) := hD'
    have hi : i = k := by
      by_cases hlt : i < k
      · exact absurd (hD2.2.symm.trans z) (nI_ne0 (by omega) (by omega))
      · omega
    subst hi
    exact H 0 i 11 a3' a4' ⟨⟨by omega, by omega, by omega, by omega⟩, hD2.1, Or.inl ⟨rfl, Or.inr ⟨rfl, by omega⟩⟩⟩
  · rw [e] at hD'
    have hD2 : fz_A (k - i) i st sm a3' ∧ a4' 8 = nI (k - i) := hD'
    have hi : i < k := by
      by_cases hlt : i < k
      · exact hlt
      · exact absurd (hD2.2.trans (by rw [show k - i = 0 by omega]; rfl)) z
    exact H 0 i 2 a3' a4' ⟨⟨by omega, by omega, by omega, by omega⟩, hD2.1, Or.inl ⟨rfl, Or.inl ⟨by omega, by omega⟩⟩⟩
  · rw [e] at hD'
    have hD2 : fz_A (k - i - 1) (i + 1) st sm a3' := hD'
    rw [Nat.sub_sub] at hD2
    have hi : i < k := h3 (by omega) (by omega)
    exact H 0 (i + 1) 0 a3' a4' ⟨⟨by omega, by omega, by omega, by omega⟩, hD2, Or.inl ⟨rfl, Or.inl ⟨by omega, by omega⟩⟩⟩
  · rw [e] at hD'
    have hD2 : fz_A (k - i) i st sm a3' := hD'
    have hi : i = k := h4 (by omega)
    exact H 1 i 11 a3' a4' ⟨⟨by omega, by omega, by omega, by omega⟩, hD2, Or.inr ⟨rfl, rfl, by omega⟩⟩
theorem fz_mv2 {post : St2 → Prop} {h a : Nat} (hh : h < 9) (ha : a < 8) (H : post (fl, nI (h + 1), fp, fs, fc, fb, fe, fd, a1, a2, a3, upd a4 h (a3 a), a5, a6, a7, a8, a9, a10, a11, a12, a13)) : wpX_moveOne post (fl, nI h, fp, fs, fc, fb, fe, fd, a1, a2, a3, a4, a5, a6, a7, a8, a9, a10, a11, a12, a13) 2 (nI a) := by
  have eh : (nI h).toNatClampNeg = h := nI_clamp (by omega)
  have ea : (nI a).toNatClampNeg = a := nI_clamp (by omega)
  exact br_f (by decide) (br_f (by decide) (br_f (by decide) (And.intro (pk_in a 8 ha) (And.intro (pk_in h 10 (by omega)) (nm_r (by rw [eh, ea]) (nm_r (nI_1 h) H))))))
theorem fz_mv0 {post : St2 → Prop} {h : Nat} {v : Int32} (hh : h < 9) (H : post (fl, nI (h + 1), fp, fs, fc, fb, fe, fd, a1, a2, a3, upd a4 h v, a5, a6, a7, a8, a9, a10, a11, a12, a13)) : wpX_moveOne post (fl, nI h, fp, fs, fc, fb, fe, fd, a1, a2, a3, a4, a5, a6, a7, a8, a9, a10, a11, a12, a13) 0 v := by
  have eh : (nI h).toNatClampNeg = h := nI_clamp (by omega)
  exact br_f (by decide) (br_t rfl (And.intro (pk_in h 10 (by omega)) (nm_r (by rw [eh]) (nm_r (nI_1 h) H))))
theorem fz_mv3 {post : St2 → Prop} {a : Nat} (ha : a < 8) (H : post (fl, nI 0, fp, fs, fc, fb, fe, fd, a1, a2, upd a3 a (a4 0), a4, a5, a6, a7, a8, a9, a10, a11, a12, a13)) : wpX_moveOne post (fl, nI 1, fp, fs, fc, fb, fe, fd, a1, a2, a3, a4, a5, a6, a7, a8, a9, a10, a11, a12, a13) 3 (nI a) := by
  have ea : (nI a).toNatClampNeg = a := nI_clamp (by omega)
  exact br_t rfl (nm_r (e' := nI 0) (by decide) (And.intro (pk_in 0 10 (by omega)) (And.intro (pk_in a 8 ha) (nm_r (e' := upd a3 a (a4 0)) (by rw [ea]; rfl) H))))
theorem fz_cb8 {post : St2 → Prop} (H : post (fl, nI 1, fp, fs, fc, fb, fe, fd, a1, a2, a3, upd a4 0 (a4 0 + a4 1), a5, a6, a7, a8, a9, a10, a11, a12, a13)) : wpX_combineOne post (fl, nI 2, fp, fs, fc, fb, fe, fd, a1, a2, a3, a4, a5, a6, a7, a8, a9, a10, a11, a12, a13) 8 1 :=
  nm_r (e' := nI 1) (by decide) (nm_r (e' := nI 0) (by decide) (And.intro (pk_in 1 10 (by omega)) (nm_r (e' := a4 1) rfl (And.intro (pk_in 0 10 (by omega)) (nm_r (e' := a4 0) rfl
    (br_f (by decide) (br_f (by decide) (br_f (by decide) (br_f (by decide) (br_t rfl (And.intro (pk_in 0 10 (by omega)) (nm_r (e' := upd a4 0 (a4 0 + a4 1)) rfl (nm_r (e' := nI 1) (by decide) H)))))))))))))
theorem fz_cb9 {post : St2 → Prop} (H : post (fl, nI 1, fp, fs, fc, fb, fe, fd, a1, a2, a3, upd a4 0 (a4 0 - a4 1), a5, a6, a7, a8, a9, a10, a11, a12, a13)) : wpX_combineOne post (fl, nI 2, fp, fs, fc, fb, fe, fd, a1, a2, a3, a4, a5, a6, a7, a8, a9, a10, a11, a12, a13) 9 1 :=
  nm_r (e' := nI 1) (by decide) (nm_r (e' := nI 0) (by decide) (And.intro (pk_in 1 10 (by omega)) (nm_r (e' := a4 1) rfl (And.intro (pk_in 0 10 (by omega)) (nm_r (e' := a4 0) rfl
    (br_f (by decide) (br_f (by decide) (br_f (by decide) (br_f (by decide) (br_f (by decide) (And.intro (pk_in 0 10 (by omega)) (nm_r (e' := upd a4 0 (a4 0 - a4 1)) rfl (nm_r (e' := nI 1) (by decide) H)))))))))))))
theorem fz_try {post : St2 → Prop} {p N : Nat} (hp : p ≤ 9) (hp1 : p ≠ 1) (hP : fz_P 12 a1 a2)
    (H : post (nI 12, nI (fz_h (p + 1)), nI (p + 1), fs, nI (N + 1), fb, fe, fd, a1, a2, fz_e3 a3 a4 (fz_t p), fz_e4 a3 a4 (fz_t p), a5, a6, a7, a8, a9, a10, a11, a12, a13)) :
    wpX_tryOne post (nI 12, nI (fz_h p), nI p, fs, nI N, fb, fe, fd, a1, a2, a3, a4, a5, a6, a7, a8, a9, a10, a11, a12, a13) := by
  have hp' : p < 12 := by omega
  have ep : (nI p).toNatClampNeg = p := nI_clamp (by omega)
  have hN := fz_opN p (by omega) hp1
  unfold wpX_tryOne
  refine br_f (nI_ge (b := 12) hp' (by decide)) (And.intro (pk_in p 32 (by omega)) (And.intro (pk_in p 32 (by omega)) ?_))
  rw [ep, (hP p hp').1, (hP p hp').2]
  refine fz_faults hp' (br_t rfl (And.intro (pk_in p 32 (by omega)) (nm_e (And.intro (pk_in p 32 (by omega)) (nm_e (nm_r (nI_1 N) (br_f hN.1 (nm_r (nI_1 p) (br_f hN.2.1 (br_f hN.2.2.1 (br_f hN.2.2.2 ?_)))))))))))
  rcases (show p = 0 ∨ p = 2 ∨ p = 3 ∨ p = 4 ∨ p = 5 ∨ p = 6 ∨ p = 7 ∨ p = 8 ∨ p = 9 by omega) with rfl | rfl | rfl | rfl | rfl | rfl | rfl | rfl | rfl
  · exact br_f (by decide) (fz_mv2 (h := 0) (a := 0) (by omega) (by omega) H)
  · exact br_f (by decide) (fz_mv2 (h := 0) (a := 2) (by omega) (by omega) H)
  · exact br_f (by decide) (fz_mv2 (h := 1) (a := 1) (by omega) (by omega) H)
  · exact br_t (by decide) (fz_cb8 H)
  · exact br_f (by decide) (fz_mv3 (a := 2) (by omega) H)
  · exact br_f (by decide) (fz_mv2 (h := 0) (a := 0) (by omega) (by omega) H)
  · exact br_f (by decide) (fz_mv0 (h := 1) (v := nI 1) (by omega) H)
  · exact br_t (by decide) (fz_cb9 H)
  · exact br_f (by decide) (fz_mv3 (a := 0) (by omega) H)
/-- what a run leaves: N + r = M all along -/
def fz_E (k M : Nat) (st sm fh fp fs fc fb fe : Int32) (a3 a4 a5 a6 a7 a8 a9 a10 a11 a12 : Nat → Int32) : Prop :=
  ∃ i p r N b c : Nat, fh = nI (fz_h p) ∧ fp = nI p ∧ fc = nI N ∧ fb = nI b ∧ fe = nI c ∧ N + r = M ∧ (r = 0 ∨ fs = 1) ∧ fz_Q k N st sm fs i p a3 a4 ∧ fz_C b c a5 a6 a7 a8 a9 a10 a11 a12
theorem fz_rl {post : Int32 → St2 → Prop} {k M : Nat} {st sm : Int32} (hk : k ≤ 7) (hM : M ≤ 300) (hP : fz_P 12 a1 a2)
    (H : ∀ (fh fp fs fc fb fe fd : Int32) (a3 a4 a5 a6 a7 a8 a9 a10 a11 a12 a13 : Nat → Int32), fz_E k M st sm fh fp fs fc fb fe a3 a4 a5 a6 a7 a8 a9 a10 a11 a12 → post fs (nI 12, fh, fp, fs, fc, fb, fe, fd, a1, a2, a3, a4, a5, a6, a7, a8, a9, a10, a11, a12, a13)) :
    ∀ (n r i p N b c : Nat) (fs fd : Int32) (a3 a4 a5 a6 a7 a8 a9 a10 a11 a12 a13 : Nat → Int32), r < n → fz_Q k N st sm fs i p a3 a4 → N + r = M → fz_C b c a5 a6 a7 a8 a9 a10 a11 a12 →
      wX_run_23 post n (nI r) (nI 12) (nI (fz_h p)) (nI p) fs (nI N) (nI b) (nI c) fd a1 a2 a3 a4 a5 a6 a7 a8 a9 a10 a11 a12 a13 := by
  intro n
  induction n with
  | zero => intro r i p N b c fs fd a3 a4 a5 a6 a7 a8 a9 a10 a11 a12 a13 h; omega
  | succ n ih =>
    intro r i p N b c fs fd a3 a4 a5 a6 a7 a8 a9 a10 a11 a12 a13 hr hQ hNr hC
    refine pk_le r 0 (fun z => H _ _ _ _ _ _ _ _ _ _ _ _ _ _ _ _ _ _ ⟨i, p, r, N, b, c, rfl, rfl, rfl, rfl, rfl, hNr, Or.inl (by omega), hQ, hC⟩) (fun hr0 => ?_)
    obtain ⟨hG, hD, ⟨rfl, hN⟩ | ⟨rfl, hp, hN⟩⟩ := hQ
    · have hp : p < 12 := hG.2.1
      refine br_t rfl (fz_blockAt hp hP hC (fun q b' c' d' a5' a6' a7' a8' a9' a10' a11' a12' a13' hK => ?_))
      obtain ⟨b2, c2, rfl, rfl, hq, hC2, s, h6, hs, h7, h8, hj⟩ := hK
      have hb2 := hC2.1
      have hm := fz_mL p hp
      have eq : (nI q).toNatClampNeg = q := nI_clamp (by omega)
      refine And.intro (pk_in q 48 (by omega)) ?_
      rw [eq, h6, h7, h8]
      refine pk_lt r (fz_m p) (fun z => ?_) (fun z => ?_)
      · have hp2 := fz_m2 p hp (by omega)
        have ht2 := fz_t2 p (by omega) hp2.2
        have hS := fz_tS p (by omega) hp2.2
        have hst := fz_Dstep ht2.1 ht2.2.1 (fun z => hG.2.2.1 (ht2.2.2 z) (by omega)) hD
        rw [← hS] at hst
        refine nm_r (sb_m1 hr0) (fz_try hp2.1 hp2.2 hP ?_)
        exact ih (r - 1) i (p + 1) (N + 1) b2 c2 0 d' _ _ a5' a6' a7' a8' a9' a10' a11' a12' a13' (by omega) ⟨⟨hG.1, by omega, fun _ _ => by
            by_cases e : p = 0
            · omega
            · exact hG.2.2.1 (by omega) (by omega), by omega⟩, hst, Or.inl ⟨rfl, Or.inl ⟨by omega, by omega⟩⟩⟩ (by omega) hC2
      · refine And.intro (pk_in q 48 (by omega)) (nm_r (pk_sub z) (And.intro (pk_in q 48 (by omega)) (nm_r (nI_add N (fz_m p)) (And.intro (pk_in q 48 (by omega)) ?_))))
        refine fz_exec hk hG hN hD hs hC2.2.1 hj (fun fs' i' p' a3' a4' hQ' => ?_)
        exact ih (r - fz_m p) i' p' (N + fz_m p) b2 c2 fs' d' a3' a4' a5' a6' a7' a8' a9' a10' a11' a12' a13' (by omega) hQ' (by omega) hC2
    · exact br_f (by decide) (H _ _ _ _ _ _ _ _ _ _ _ _ _ _ _ _ _ _ ⟨i, p, r, N, b, c, rfl, rfl, rfl, rfl, rfl, hNr, Or.inr rfl, ⟨hG, hD, Or.inr ⟨rfl, hp, hN⟩⟩, hC⟩)
/-- n is what the limit x stands for -/
def fz_L (x : Int32) (n : Nat) : Prop := (0 ≤ x ∧ x ≤ 200 ∧ x = nI n) ∨ (0 ≤ x ∧ ¬ x ≤ 200 ∧ n = 200) ∨ (¬ 0 ≤ x ∧ n = 0)
theorem fz_run {post : Int32 → St2 → Prop} {k n i p N b c : Nat} {x st sm fs : Int32} (hk : k ≤ 7) (hx : fz_L x n) (hn : N + n ≤ 300) (hP : fz_P 12 a1 a2) (hQ : fz_Q k N st sm fs i p a3 a4) (hC : fz_C b c a5 a6 a7 a8 a9 a10 a11 a12)
    (H : ∀ (fh fp fs fc fb fe fd : Int32) (a3 a4 a5 a6 a7 a8 a9 a10 a11 a12 a13 : Nat → Int32), fz_E k (N + n) st sm fh fp fs fc fb fe a3 a4 a5 a6 a7 a8 a9 a10 a11 a12 → post fs (nI 12, fh, fp, fs, fc, fb, fe, fd, a1, a2, a3, a4, a5, a6, a7, a8, a9, a10, a11, a12, a13)) :
    wpX_run post (nI 12, nI (fz_h p), nI p, fs, nI N, nI b, nI c, fd, a1, a2, a3, a4, a5, a6, a7, a8, a9, a10, a11, a12, a13) x := by
  have h : ∃ fu, wX_run_23 post fu (nI n) (nI 12) (nI (fz_h p)) (nI p) fs (nI N) (nI b) (nI c) fd a1 a2 a3 a4 a5 a6 a7 a8 a9 a10 a11 a12 a13 := ⟨n + 1, fz_rl hk hn hP H (n + 1) n i p N b c fs fd a3 a4 a5 a6 a7 a8 a9 a10 a11 a12 a13 (by omega) hQ rfl hC⟩
  unfold wpX_run
  rcases hx with ⟨h1, h2, rfl⟩ | ⟨h1, h2, rfl⟩ | ⟨h1, rfl⟩
  · exact br_t h1 (br_t h2 h)
  · exact br_t h1 (br_f h2 h)
  · exact br_f h1 h
end
end
section
/-! the law: what its checks ask of the machine after a run -/
section
variable {fl fh fp fs fc fb fe fd : Int32} {a1 a2 a3 a4 a5 a6 a7 a8 a9 a10 a11 a12 a13 : Nat → Int32}
/-- the counter and the number of additions, by turn and place -/
def fz_x (k i p : Nat) : Nat := if p = 10 then k - i - 1 else k - i
def fz_y (i p : Nat) : Nat := if 6 ≤ p ∧ p ≤ 10 then i + 1 else i
theorem fz_DA {k i p : Nat} {st sm : Int32} {a3 a4 : Nat → Int32} (hp : p < 12) (hD : fz_D k i st sm a3 a4 (fz_t p)) : fz_A (fz_x k i p) (fz_y i p) st sm a3 := by
  rcases (show p = 0 ∨ p = 1 ∨ p = 2 ∨ p = 3 ∨ p = 4 ∨ p = 5 ∨ p = 6 ∨ p = 7 ∨ p = 8 ∨ p = 9 ∨ p = 10 ∨ p = 11 by omega) with rfl | rfl | rfl | rfl | rfl | rfl | rfl | rfl | rfl | rfl | rfl | rfl
  · exact hD
  · exact And.left hD
  · exact hD
  · exact And.left hD
  · exact And.left hD
  · exact And.left hD
  · exact hD
  · exact And.left hD
  · exact And.left hD
  · exact And.left hD
  · exact hD
  · exact hD
theorem fz_ans {k n N i p : Nat} {st sm fs : Int32} {a3 a4 : Nat → Int32} (hQ : fz_Q k N st sm fs i p a3 a4) (hN : (fs = 0 ∧ N = n) ∨ (fs = 1 ∧ N ≤ n)) :
    a3 0 = nI (k - min k ((n + 1) / 11)) ∧ a3 1 = st ∧ a3 2 = sm + nI (min k ((n + 5) / 11)) * st := by
  obtain ⟨⟨g1, g2, g3, g4⟩, hD, hS⟩ := hQ
  have hA := fz_DA g2 hD
  have hxy : fz_x k i p = k - min k ((n + 1) / 11) ∧ fz_y i p = min k ((n + 5) / 11) := by
    unfold fz_x fz_y
    rcases hS with ⟨e, h⟩ | ⟨e, h, h'⟩
    · rcases hN with ⟨_, e2⟩ | ⟨e2, _⟩
      · constructor
        · split <;> omega
        · split <;> omega
      · exact absurd (e.symm.trans e2) (by decide)
    · rcases hN with ⟨e2, _⟩ | ⟨_, e2⟩
      · exact absurd (e.symm.trans e2) (by decide)
      · constructor
        · split <;> omega
        · split <;> omega
  rw [hxy.1, hxy.2] at hA
  exact hA
theorem fz_mem {post : Int32 → Prop} {c : Nat} {v : Int32} (hc : c ≤ 7) (hv : a3 c = v) (H : post v) : wpX_memory post (fl, fh, fp, fs, fc, fb, fe, fd, a1, a2, a3, a4, a5, a6, a7, a8, a9, a10, a11, a12, a13) (nI c) := by
  have ec : (nI c).toNatClampNeg = c := nI_clamp (by omega)
  have H' : post (a3 (nI c).toNatClampNeg) := by
    rw [ec, hv]
    exact H
  exact br_f (nI_pos (by omega)) (pk_le c 7 (fun _ => And.intro (pk_in c 8 (by omega)) H') (fun z => absurd z (by omega)))
theorem fz_350 {post : Int32 → St0 → Prop} {mc ms kc ks k n i p N b c u v : Nat} {st sm : Int32} (hk : k ≤ 7) (hn : n ≤ 200) (hP : fz_P 12 a1 a2) (hQ : fz_Q k N st sm fs i p a3 a4) (hC : fz_C b c a5 a6 a7 a8 a9 a10 a11 a12)
    (hN : (fs = 0 ∧ N = n) ∨ (fs = 1 ∧ N ≤ n)) (hu : u = min k ((n + 5) / 11)) (hv : v = min k ((n + 1) / 11)) (H : post 1 ()) :
    wL_lawOf_350 post mc ms st sm (nI k) (nI (11 * k + 3)) (nI u) (nI v) kc ks (nI 12) (nI (fz_h p)) (nI p) fs (nI N) (nI b) (nI c) fd a1 a2 a3 a4 a5 a6 a7 a8 a9 a10 a11 a12 a13 := by
  have hA := fz_ans hQ hN
  rw [← hu, ← hv] at hA
  have hNB : N ≤ 100 := by
    obtain ⟨⟨g1, g2, g3, g4⟩, _, ⟨_, hS⟩ | ⟨_, _, hS⟩⟩ := hQ
    · omega
    · omega
  unfold wL_lawOf_350
  refine fz_mem (c := 2) (by omega) hA.2.2 (br_t rfl (fz_mem (c := 0) (by omega) hA.1 (br_t (by rw [pk_sub (a := k) (b := v) (by omega)]) (fz_mem (c := 1) (by omega) hA.2.1 (br_t rfl ?_)))))
  refine fz_run (n := 200) hk (Or.inl ⟨by decide, by decide, rfl⟩) (by omega) hP hQ hC (fun fh' fp' fs' fc' fb' fe' fd' b3 b4 b5 b6 b7 b8 b9 b10 b11 b12 b13 hE => ?_)
  obtain ⟨i', p', r', N', b', c', rfl, rfl, rfl, rfl, rfl, hr, hr2, ⟨⟨g1, g2, g3, g4⟩, hD, ⟨e0, hN'⟩ | ⟨rfl, rfl, hN'⟩⟩, hC'⟩ := hE
  · rcases hr2 with z | z
    · omega
    · exact absurd (e0.symm.trans z) (by decide)
  · have hi : i' = k := g4 rfl
    subst hi
    subst hN'
    have hD2 : fz_A (i' - i') i' st sm b3 := hD
    rw [Nat.sub_self] at hD2
    exact br_t rfl (br_t rfl (br_t rfl (br_t rfl (fz_mem (c := 2) (by omega) hD2.2.2 (br_t rfl (fz_mem (c := 0) (by omega) hD2.1 (br_t rfl H)))))))
theorem fz_dv {n m : Nat} (hn : n ≤ 200) (hm : m ≤ 5) : (nI n + nI m) / 11 = nI ((n + m) / 11) := by
  rw [nI_add, show (11 : Int32) = nI 11 from rfl, pk_div (by omega) (by omega) (by omega)]
theorem fz_324 {post : Int32 → St0 → Prop} {mc ms kc ks k n i p N b c u : Nat} {st sm : Int32} (hk : k ≤ 7) (hn : n ≤ 200) (hP : fz_P 12 a1 a2) (hQ : fz_Q k N st sm fs i p a3 a4) (hC : fz_C b c a5 a6 a7 a8 a9 a10 a11 a12)
    (hN : (fs = 0 ∧ N = n) ∨ (fs = 1 ∧ N ≤ n)) (hu : u = min k ((n + 5) / 11)) (H : post 1 ()) :
    wL_lawOf_324 post mc ms st sm (nI k) (nI n) (nI (11 * k + 3)) (nI u) kc ks (nI 12) (nI (fz_h p)) (nI p) fs (nI N) (nI b) (nI c) fd a1 a2 a3 a4 a5 a6 a7 a8 a9 a10 a11 a12 a13 := by
  have e : (nI n + 1) / 11 = nI ((n + 1) / 11) := fz_dv hn (m := 1) (by omega)
  unfold wL_lawOf_324
  rw [e]
  refine And.intro (by decide) (pk_le k ((n + 1) / 11) (fun z => fz_350 hk hn hP hQ hC hN hu (by omega) H) (fun z => And.intro (by decide) (fz_350 hk hn hP hQ hC hN hu (by omega) H)))
theorem fz_300 {post : Int32 → St0 → Prop} {mc ms kc ks k n i p N b c : Nat} {st sm : Int32} (hk : k ≤ 7) (hn : n ≤ 200) (hP : fz_P 12 a1 a2) (hQ : fz_Q k N st sm fs i p a3 a4) (hC : fz_C b c a5 a6 a7 a8 a9 a10 a11 a12)
    (hN : (fs = 0 ∧ N = n) ∨ (fs = 1 ∧ N ≤ n)) (H : post 1 ()) :
    wL_lawOf_300 post mc ms st sm (nI k) (nI n) (nI (11 * k + 3)) kc ks (nI 12) (nI (fz_h p)) (nI p) fs (nI N) (nI b) (nI c) fd a1 a2 a3 a4 a5 a6 a7 a8 a9 a10 a11 a12 a13 := by
  have e : (nI n + 5) / 11 = nI ((n + 5) / 11) := fz_dv hn (m := 5) (by omega)
  unfold wL_lawOf_300
  rw [e]
  refine And.intro (by decide) (pk_le k ((n + 5) / 11) (fun z => fz_324 hk hn hP hQ hC hN (by omega) H) (fun z => And.intro (by decide) (fz_324 hk hn hP hQ hC hN (by omega) H)))
/-- the run is not over: status 0, count n, and the place is looked at -/
theorem fz_228r {post : Int32 → St0 → Prop} {mc ms kc ks k n i p b c : Nat} {st sm : Int32} (hk : k ≤ 7) (hn : n ≤ 200) (hP : fz_P 12 a1 a2) (hQ : fz_Q k n st sm 0 i p a3 a4) (hC : fz_C b c a5 a6 a7 a8 a9 a10 a11 a12) (H : post 1 ()) :
    wL_lawOf_228 post mc ms st sm (nI k) (nI n) (nI (11 * k + 3)) 0 (nI n) kc ks (nI 12) (nI (fz_h p)) (nI p) 0 (nI n) (nI b) (nI c) fd a1 a2 a3 a4 a5 a6 a7 a8 a9 a10 a11 a12 a13 := by
  have h3 := fz_300 (mc := mc) (ms := ms) (kc := kc) (ks := ks) (fd := fd) (a13 := a13) hk hn hP hQ hC (Or.inl ⟨rfl, rfl⟩) H
  obtain ⟨⟨g1, g2, g3, g4⟩, hD, ⟨_, hN⟩ | ⟨e, _⟩⟩ := hQ
  · have em : (11 : Int32) * nI k = nI (11 * k) := pk_mul 11 k
    have er : nI n - nI n / 11 * 11 = nI (n % 11) := pk_rem (d := 11) (by omega) (by omega) (by omega)
    unfold wL_lawOf_228
    rw [em, er]
    refine br_t rfl (br_t rfl ?_)
    refine pk_le (11 * k) n (fun z => ?_) (fun z => And.intro (by decide) ?_)
    · rw [pk_sub z]
      refine pk_eq (n - 11 * k) 2 (fun z2 => ?_) (fun z2 => ?_)
      · have hp : p = 11 := by omega
        subst hp
        exact br_t rfl h3
      · have hp : p = n - 11 * k := by omega
        exact br_t (congrArg nI hp) h3
    · have hp : p = n % 11 := by omega
      exact br_t (congrArg nI hp) h3
  · exact absurd e (by decide)
/-- the run is over: status 1, count 11 k + 3 -/
theorem fz_228h {post : Int32 → St0 → Prop} {mc ms kc ks k n i p b c : Nat} {st sm : Int32} (hk : k ≤ 7) (hn : n ≤ 200) (hw : 11 * k + 3 ≤ n) (hP : fz_P 12 a1 a2) (hQ : fz_Q k (11 * k + 3) st sm 1 i p a3 a4) (hC : fz_C b c a5 a6 a7 a8 a9 a10 a11 a12) (H : post 1 ()) :
    wL_lawOf_228 post mc ms st sm (nI k) (nI n) (nI (11 * k + 3)) 1 (nI (11 * k + 3)) kc ks (nI 12) (nI (fz_h p)) (nI p) 1 (nI (11 * k + 3)) (nI b) (nI c) fd a1 a2 a3 a4 a5 a6 a7 a8 a9 a10 a11 a12 a13 := by
  have h3 := fz_300 (mc := mc) (ms := ms) (kc := kc) (ks := ks) (fd := fd) (a13 := a13) hk hn hP hQ hC (Or.inr ⟨rfl, hw⟩) H
  unfold wL_lawOf_228
  exact br_t rfl (br_f (by decide) h3)
theorem fz_193 {post : Int32 → St0 → Prop} {mc ms kc ks k n : Nat} {x z st sm : Int32} (hk : k ≤ 7) (hn : n ≤ 200) (hx : fz_L x n) (hz : (n < 11 * k + 3 ∧ z = 0) ∨ (11 * k + 3 ≤ n ∧ z = 1)) (hP : fz_P 12 a1 a2)
    (hQ : fz_Q k 0 st sm 0 0 0 a3 a4) (hC : fz_C 0 0 a5 a6 a7 a8 a9 a10 a11 a12) (H : post 1 ()) :
    wL_lawOf_193 post mc ms st sm x (nI k) (nI n) (nI (11 * k + 3)) z kc ks (nI 12) (nI (fz_h 0)) (nI 0) 0 (nI 0) (nI 0) (nI 0) fd a1 a2 a3 a4 a5 a6 a7 a8 a9 a10 a11 a12 a13 := by
  unfold wL_lawOf_193
  refine fz_run (n := n) hk hx (by omega) hP hQ hC (fun fh' fp' fs' fc' fb' fe' fd' b3 b4 b5 b6 b7 b8 b9 b10 b11 b12 b13 hE => ?_)
  obtain ⟨i', p', r', N', b', c', rfl, rfl, rfl, rfl, rfl, hr, hr2, hQ', hC'⟩ := hE
  have hQ2 := hQ'
  obtain ⟨⟨g1, g2, g3, g4⟩, hD, ⟨rfl, hN'⟩ | ⟨rfl, hp, hN'⟩⟩ := hQ2
  · have hr0 : r' = 0 := by
      rcases hr2 with z | z
      · exact z
      · exact absurd z (by decide)
    have hNn : N' = n := by omega
    subst hNn
    rcases hz with ⟨_, rfl⟩ | ⟨hz, _⟩
    · exact br_t rfl (br_t rfl (br_t rfl (fz_228r hk hn hP hQ' hC' H)))
    · omega
  · subst hN'
    rcases hz with ⟨hz, _⟩ | ⟨hz, rfl⟩
    · omega
    · exact br_f (by decide) (br_t rfl (br_f (by decide) (fz_228h hk hn hz hP hQ' hC' H)))
end
end
section
/-! the law from its first row on -/
section
theorem fz_init {post : St2 → Prop} (H : ∀ a5' : Nat → Int32, (∀ j, j < 297 → a5' j = -1) → post (0, 0, 0, 0, 0, 0, 0, 0, (fun _ => 0), (fun _ => 0), (fun _ => 0), (fun _ => 0), a5', (fun _ => 0), (fun _ => 0), (fun _ => 0), (fun _ => 0), (fun _ => 0), (fun _ => 0), (fun _ => 0), (fun _ => 0))) :
    wpX_init post 13 3091 (0, 0, 0, 0, 0, 0, 0, 0) := by
  unfold wpX_init
  refine ⟨?_, ?_, ?_, ?_, ?_, ?_, ?_, ?_, ?_, ?_, ?_, ?_, ?_, ?_, ?_, ?_, ?_, ?_, ?_, ?_, ?_, ?_, ?_, ?_, ?_, ?_, fz_forget H⟩
  all_goals omega
theorem fz_28 {post : Int32 → St0 → Prop} {k n : Nat} {x st sm : Int32} (hk : k ≤ 7) (hn : n ≤ 200) (hx : fz_L x n) (H : post 1 ()) : wL_lawOf_28 post 728 11632 st sm x (nI k) (nI n) 0 0 := by
  unfold wL_lawOf_28
  refine And.intro (by omega) (And.intro (by omega) ⟨13, 3091, by omega, by omega, fz_init (fun a5 _ => ?_)⟩)
  refine fz_poke (c := 0) (by omega) ?_
  refine fz_poke (c := 1) (by omega) ?_
  refine fz_poke (c := 2) (by omega) ?_
  refine fz_emit (p := 0) (by omega) fz_P_0 (fun a1 a2 a5 hP _ => ?_)
  refine fz_emit (p := 1) (by omega) hP (fun a1 a2 a5 hP _ => ?_)
  refine fz_emit (p := 2) (by omega) hP (fun a1 a2 a5 hP _ => ?_)
  refine fz_emit (p := 3) (by omega) hP (fun a1 a2 a5 hP _ => ?_)
  refine fz_emit (p := 4) (by omega) hP (fun a1 a2 a5 hP _ => ?_)
  refine fz_emit (p := 5) (by omega) hP (fun a1 a2 a5 hP _ => ?_)
  refine fz_emit (p := 6) (by omega) hP (fun a1 a2 a5 hP _ => ?_)
  refine fz_emit (p := 7) (by omega) hP (fun a1 a2 a5 hP _ => ?_)
  refine fz_emit (p := 8) (by omega) hP (fun a1 a2 a5 hP _ => ?_)
  refine fz_emit (p := 9) (by omega) hP (fun a1 a2 a5 hP _ => ?_)
  refine fz_emit (p := 10) (by omega) hP (fun a1 a2 a5 hP _ => ?_)
  refine fz_emit (p := 11) (by omega) hP (fun a1 a2 a5 hP h5 => ?_)
  have e7 : (11 : Int32) * nI k + 3 = nI (11 * k + 3) := by
    rw [show (11 : Int32) = nI 11 from rfl, pk_mul, show (3 : Int32) = nI 3 from rfl, nI_add]
  have hQ : fz_Q k 0 st sm 0 0 0 (upd (upd (upd (fun _ => 0) 0 (nI k)) 1 st) 2 sm) (fun _ => 0) := by
    refine ⟨⟨by omega, by omega, by omega, by omega⟩, And.intro rfl (And.intro rfl ?_), Or.inl ⟨rfl, Or.inl ⟨by omega, rfl⟩⟩⟩
    show sm = sm + nI 0 * st
    rw [nI_0, Int32.zero_mul, Int32.add_zero]
  refine br_t rfl (nm_r e7 (pk_lt n (11 * k + 3) (fun z => ?_) (fun z => ?_)))
  · exact fz_193 hk hn hx (Or.inl ⟨z, rfl⟩) hP hQ (fz_C_0 h5) H
  · exact fz_193 hk hn hx (Or.inr ⟨z, rfl⟩) hP hQ (fz_C_0 h5) H
theorem fz_lawOf {post : Int32 → St0 → Prop} {x y z w : Int32} (H : post 1 ()) : wpL_lawOf post 728 11632 () x y z w := by
  obtain ⟨k, hk, ek⟩ := pk_andE x (m := 7) 3 (by decide)
  unfold wpL_lawOf
  refine nm_r ek (br_c (fun h0 => br_c (fun h1 => ?_) (fun h1 => ?_)) (fun h0 => ?_))
  · obtain ⟨n, hn, rfl⟩ := nI_of2 (x := w) (M := 200) (n := 200) (by decide) (Int32.not_lt.mpr h0) h1
    exact fz_28 (by omega) hn (Or.inl ⟨h0, h1, rfl⟩) H
  · exact fz_28 (n := 200) (by omega) (by omega) (Or.inr (Or.inl ⟨h0, h1, rfl⟩)) H
  · exact fz_28 (n := 0) (by omega) (by omega) (Or.inr (Or.inr ⟨h0, rfl⟩)) H
theorem fz_cell {post : Int32 → Prop} {L c : Nat} {xs : Nat → Int32} (hL : L ≤ 4) (hc : c < 4) (H : ∀ v, post v) : wpL_cellAt post L xs () (nI c) :=
  pk_le L c (fun _ => H 0) (fun z => And.intro (pk_in c L z) (H _))
theorem i_vc (xs : Nat → Int32) (L : Nat) (hL : L ≤ 4) : wpL_law (fun r => r = 1) L xs := by
  unfold wpL_law
  exact fz_cell (c := 0) hL (by omega) (fun r1 => fz_cell (c := 1) hL (by omega) (fun r2 => fz_cell (c := 2) hL (by omega) (fun r3 => fz_cell (c := 3) hL (by omega) (fun r4 => ⟨728, 11632, by omega, by omega, fz_lawOf rfl⟩))))
end
end
