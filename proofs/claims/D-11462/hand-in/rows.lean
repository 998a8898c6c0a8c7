section
/-! ===== the pure picture: digits, words, free bits of a cube; bits of a word ===== -/
/-- what cube c asks for bit b -/
def qm_d (c b : Nat) : Nat := c / 3 ^ (3 - b) % 3
def qm_m (z o d : Nat) : Nat := if d = 0 then z else if d = 1 then o else 65535
/-- the rows of cube c, a word of 16 bits -/
def qm_w (c : Nat) : Nat := qm_m 255 65280 (qm_d c 0) &&& qm_m 3855 61680 (qm_d c 1) &&& qm_m 13107 52428 (qm_d c 2) &&& qm_m 21845 43690 (qm_d c 3)
/-- bit k of w -/
def qm_t (w k : Nat) : Nat := w / 2 ^ k % 2
/-- how many of w's low k bits are set -/
def qm_pc (w : Nat) : Nat → Nat
  | 0 => 0
  | k + 1 => qm_pc w k + qm_t w k
/-- how many of the first k digits are 2 -/
def qm_fk (c : Nat) : Nat → Nat
  | 0 => 0
  | k + 1 => qm_fk c k + (if qm_d c k = 2 then 1 else 0)
def qm_f (c : Nat) : Nat := qm_fk c 4
/-- the only row of a cube without free bits -/
def qm_r (c : Nat) : Nat := 8 * qm_d c 0 + 4 * qm_d c 1 + 2 * qm_d c 2 + qm_d c 3
/-- cube D lies in cube c -/
def qm_sb (D c : Nat) : Prop := ∀ b, b < 4 → qm_d c b = 2 ∨ qm_d D b = qm_d c b
/-- what is 2 counts one -/
def qm_2 (x : Int32) : Int32 := if x = 2 then 1 else 0
theorem qm_fk1 {c i : Nat} (z : qm_d c i = 2) : qm_fk c i + 1 = qm_fk c (i + 1) := by
  show _ = qm_fk c i + (if qm_d c i = 2 then 1 else 0)
  rw [if_pos z]
theorem qm_fk0 {c i : Nat} (z : qm_d c i ≠ 2) : qm_fk c i + 0 = qm_fk c (i + 1) := by
  show _ = qm_fk c i + (if qm_d c i = 2 then 1 else 0)
  rw [if_neg z]
theorem qm_t2 (w k : Nat) : qm_t w k < 2 := Nat.mod_lt _ (by decide)
theorem qm_tB (w k : Nat) : qm_t w k < 2 ^ 31 := Nat.lt_of_lt_of_le (qm_t2 w k) (by decide)
theorem qm_pw {k : Nat} (hk : k < 4) : 3 ^ k < 82 ∧ ¬ nI (3 ^ k) = 0 := (show ∀ k, k < 4 → 3 ^ k < 82 ∧ ¬ nI (3 ^ k) = 0 by decide +kernel) k hk
theorem qm_dg : ∀ c, c < 81 → ∀ b, b < 4 → nI c / nI (3 ^ (3 - b)) - nI c / nI (3 ^ (3 - b)) / 3 * 3 = nI (qm_d c b) := by decide +kernel
theorem qm_d3 (c b : Nat) : qm_d c b < 3 := Nat.mod_lt _ (by decide)
theorem qm_dB (c b : Nat) : qm_d c b < 2 ^ 31 := Nat.lt_of_lt_of_le (qm_d3 c b) (by decide)
theorem qm_sh : ∀ r, r < 16 → ∀ i, i < 4 → (nI r >>> ((3 - nI i) &&& 31)) &&& 1 = nI (r / 2 ^ (3 - i) % 2) := by decide +kernel
theorem qm_as : ∀ c, c < 81 → ∀ r, r < 16 → ((∀ b, b < 4 → qm_d c b = 2 ∨ qm_d c b = r / 2 ^ (3 - b) % 2) ↔ qm_t (qm_w c) r = 1) := by decide +kernel
theorem qm_or : ∀ c, c < 81 → ∀ k, k < 16 → (qm_t (qm_w c) k = 1 → nI (qm_w c % 2 ^ k) ||| ((1 : Int32) <<< (nI k &&& 31)) = nI (qm_w c % 2 ^ (k + 1))) ∧ (qm_t (qm_w c) k ≠ 1 → qm_w c % 2 ^ (k + 1) = qm_w c % 2 ^ k) := by decide +kernel
theorem qm_sw : ∀ c, c < 81 → ∀ k, k < 16 → (nI (qm_w c) >>> (nI k &&& 31)) &&& 1 = nI (qm_t (qm_w c) k) := by decide +kernel
theorem qm_s0 : ∀ k, k < 16 → ((0 : Int32) >>> (nI k &&& 31)) &&& 1 = 0 := by decide +kernel
theorem qm_w16 : ∀ c, c < 81 → qm_w c % 2 ^ 16 = qm_w c ∧ ¬ qm_w c = 0 ∧ qm_w c < 65536 := by decide +kernel
theorem qm_wI : ∀ c, c < 81 → nI (qm_w c) &&& (nI (qm_w c) ^^^ (-1)) = 0 ∧ (1 : Int32) <<< (nI (qm_f c) &&& 31) = nI (qm_pc (qm_w c) 16) ∧ qm_f c ≤ 4 := by decide +kernel
theorem qm_on : ∀ s, s < 2 → qm_pc s 20 = s ∧ ∀ i, i < 20 → nI (qm_pc s i) + ((nI s >>> (nI i &&& 31)) &&& 1) = nI (qm_pc s (i + 1)) := by decide +kernel
theorem qm_only : ∀ c, c < 81 → qm_f c = 0 → qm_r c < 16 ∧ ∀ j, j < 16 → (qm_t (qm_w c) j = 1 ↔ j = qm_r c) := by decide +kernel
theorem qm_nf : ∀ c, c < 81 → qm_f c = 0 → ∀ b, b < 4 → ¬ qm_d c b = 2 := by decide +kernel
/-- the law's own count of the digits 2 -/
theorem qm_none : ∀ c, c < 81 → ((qm_2 (nI c / 27) + qm_2 (nI c / 9 - nI c / 9 / 3 * 3)) + qm_2 (nI c / 3 - nI c / 3 / 3 * 3)) + qm_2 (nI c - nI c / 3 * 3) = nI (qm_f c) := by decide +kernel
/-- the two halves of a cube by a free bit -/
theorem qm_halfA : ∀ c, c < 81 → ∀ b, b < 4 → qm_d c b = 2 → 2 * 3 ^ (3 - b) ≤ c ∧ qm_f (c - 2 * 3 ^ (3 - b)) + 1 = qm_f c ∧ qm_f (c - 3 ^ (3 - b)) + 1 = qm_f c ∧ qm_d (c - 2 * 3 ^ (3 - b)) b = 0 ∧ qm_d (c - 3 ^ (3 - b)) b = 1 := by decide +kernel
theorem qm_halfZ' : ∀ c, c < 81 → ∀ b, b < 4 → ∀ j, j < 4 → (¬ qm_d c b = 2 ∨ j = b) ∨ qm_d (c - 2 * 3 ^ (3 - b)) j = qm_d c j := by decide +kernel
theorem qm_halfZ (c : Nat) (hc : c < 81) (b : Nat) (hb : b < 4) (hd : qm_d c b = 2) (j : Nat) (hj : j < 4) (hn : ¬ j = b) : qm_d (c - 2 * 3 ^ (3 - b)) j = qm_d c j := (qm_halfZ' c hc b hb j hj).resolve_left (fun t => t.elim (fun e => e hd) hn)
theorem qm_halfO' : ∀ c, c < 81 → ∀ b, b < 4 → ∀ j, j < 4 → (¬ qm_d c b = 2 ∨ j = b) ∨ qm_d (c - 3 ^ (3 - b)) j = qm_d c j := by decide +kernel
theorem qm_halfO (c : Nat) (hc : c < 81) (b : Nat) (hb : b < 4) (hd : qm_d c b = 2) (j : Nat) (hj : j < 4) (hn : ¬ j = b) : qm_d (c - 3 ^ (3 - b)) j = qm_d c j := (qm_halfO' c hc b hb j hj).resolve_left (fun t => t.elim (fun e => e hd) hn)
theorem qm_half (c : Nat) (hc : c < 81) (b : Nat) (hb : b < 4) (hd : qm_d c b = 2) : 2 * 3 ^ (3 - b) ≤ c ∧ qm_f (c - 2 * 3 ^ (3 - b)) + 1 = qm_f c ∧ qm_f (c - 3 ^ (3 - b)) + 1 = qm_f c ∧ qm_d (c - 2 * 3 ^ (3 - b)) b = 0 ∧ qm_d (c - 3 ^ (3 - b)) b = 1 ∧ ∀ j, j < 4 → ¬ j = b → qm_d (c - 2 * 3 ^ (3 - b)) j = qm_d c j ∧ qm_d (c - 3 ^ (3 - b)) j = qm_d c j := by
  obtain ⟨h1, h2, h3, h4, h5⟩ := qm_halfA c hc b hb hd
  exact ⟨h1, h2, h3, h4, h5, fun j hj hn => ⟨qm_halfZ c hc b hb hd j hj hn, qm_halfO c hc b hb hd j hj hn⟩⟩
/-- the cube of which a cube is a half by a bit for which it asks -/
theorem qm_upA : ∀ c, c < 81 → ∀ b, b < 4 → ¬ qm_d c b = 2 → c + (2 - qm_d c b) * 3 ^ (3 - b) < 81 ∧ qm_d (c + (2 - qm_d c b) * 3 ^ (3 - b)) b = 2 ∧ (c = c + (2 - qm_d c b) * 3 ^ (3 - b) - 2 * 3 ^ (3 - b) ∨ c = c + (2 - qm_d c b) * 3 ^ (3 - b) - 3 ^ (3 - b)) := by decide +kernel
theorem qm_upJ' : ∀ c, c < 81 → ∀ b, b < 4 → ∀ j, j < 4 → (¬ (¬ qm_d c b = 2) ∨ j = b) ∨ qm_d (c + (2 - qm_d c b) * 3 ^ (3 - b)) j = qm_d c j := by decide +kernel
theorem qm_upJ (c : Nat) (hc : c < 81) (b : Nat) (hb : b < 4) (hd : (¬ qm_d c b = 2)) (j : Nat) (hj : j < 4) (hn : ¬ j = b) : qm_d (c + (2 - qm_d c b) * 3 ^ (3 - b)) j = qm_d c j := (qm_upJ' c hc b hb j hj).resolve_left (fun t => t.elim (fun e => e hd) hn)
theorem qm_or0 (x : Int32) : x ||| 0 = x := Int32.toBitVec_inj.1 BitVec.or_zero
theorem qm_0or (x : Int32) : 0 ||| x = x := Int32.toBitVec_inj.1 BitVec.zero_or
theorem qm_0and (x : Int32) : 0 &&& x = 0 := Int32.toBitVec_inj.1 BitVec.zero_and
/-- a cube is its digits -/
theorem qm_ext {c D : Nat} (hc : c < 81) (hD : D < 81) (h : ∀ b, b < 4 → qm_d D b = qm_d c b) : D = c := by
  have h0 := h 0 (by decide)
  have h1 := h 1 (by decide)
  have h2 := h 2 (by decide)
  have h3 := h 3 (by decide)
  have e : ∀ c, c < 81 → c = 27 * qm_d c 0 + 9 * qm_d c 1 + 3 * qm_d c 2 + qm_d c 3 := by decide +kernel
  rw [e c hc, e D hD, h0, h1, h2, h3]
theorem qm_sbR (c : Nat) : qm_sb c c := fun _ _ => Or.inr rfl
/-- the halves of a cube in c lie in c and aren't c -/
theorem qm_sbH {c D b : Nat} (hD : D < 81) (hb : b < 4) (hd : qm_d D b = 2) (h : qm_sb D c) : qm_sb (D - 2 * 3 ^ (3 - b)) c ∧ qm_sb (D - 3 ^ (3 - b)) c ∧ ¬ c = D - 2 * 3 ^ (3 - b) ∧ ¬ c = D - 3 ^ (3 - b) := by
  obtain ⟨_, _, _, z0, z1, zj⟩ := qm_half D hD b hb hd
  have hcb : qm_d c b = 2 := by
    rcases h b hb with e | e
    · exact e
    · rw [← e]; exact hd
  refine ⟨fun j hj => ?_, fun j hj => ?_, fun e => ?_, fun e => ?_⟩
  · by_cases ej : j = b
    · rw [ej]; exact Or.inl hcb
    · rw [(zj j hj ej).1]; exact h j hj
  · by_cases ej : j = b
    · rw [ej]; exact Or.inl hcb
    · rw [(zj j hj ej).2]; exact h j hj
  · rw [← e] at z0; omega
  · rw [← e] at z1; omega
/-- a cube whose two halves lie in c lies in c -/
theorem qm_sbU {c D b : Nat} (hD : D < 81) (hb : b < 4) (hd : qm_d D b = 2) (h0 : qm_sb (D - 2 * 3 ^ (3 - b)) c) (h1 : qm_sb (D - 3 ^ (3 - b)) c) : qm_sb D c := by
  obtain ⟨_, _, _, z0, z1, zj⟩ := qm_half D hD b hb hd
  intro j hj
  by_cases ej : j = b
  · rw [ej]
    rcases h0 b hb with e | e
    · exact Or.inl e
    · rcases h1 b hb with g | g
      · exact Or.inl g
      · rw [z0] at e; rw [z1] at g; omega
  · rw [← (zj j hj ej).1]; exact h0 j hj
/-- a cube in c other than c is a half of a cube in c -/
theorem qm_sbE {c D : Nat} (hc : c < 81) (hD : D < 81) (h : qm_sb D c) (hne : ¬ D = c) : ∃ E b, E < 81 ∧ b < 4 ∧ qm_d E b = 2 ∧ qm_sb E c ∧ (D = E - 2 * 3 ^ (3 - b) ∨ D = E - 3 ^ (3 - b)) := by
  have hx : ∃ b, b < 4 ∧ ¬ qm_d D b = qm_d c b := by
    apply Classical.byContradiction
    intro hn
    exact hne (qm_ext hc hD (fun b hb => Classical.byContradiction (fun g => hn ⟨b, hb, g⟩)))
  obtain ⟨b, hb, hg⟩ := hx
  have hcb : qm_d c b = 2 := (h b hb).resolve_right hg
  have hDb : ¬ qm_d D b = 2 := fun e => hg (e.trans hcb.symm)
  obtain ⟨u1, u2, u3⟩ := qm_upA D hD b hb hDb
  have u4 := qm_upJ D hD b hb hDb
  refine ⟨_, b, u1, hb, u2, fun j hj => ?_, u3⟩
  by_cases ej : j = b
  · rw [ej]; exact Or.inl hcb
  · rw [u4 j hj ej]; exact h j hj
/-- the only row of a cube is a row of c where the cube lies in c -/
theorem qm_rowB : ∀ c, c < 81 → ∀ D, D < 81 → qm_f D = 0 → (qm_t (qm_w c) (qm_r D) = 1 ↔ ∀ b, b < 4 → qm_d c b = 2 ∨ qm_d D b = qm_d c b) := by decide +kernel
theorem qm_rowI {c D : Nat} (hc : c < 81) (hD : D < 81) (hf : qm_f D = 0) : qm_t (qm_w c) (qm_r D) = 1 ↔ qm_sb D c := qm_rowB c hc D hD hf
end
section
/-! ===== the methods without a state ===== -/
theorem qm_power {post : Int32 → Prop} {u : St0} {k : Nat} (hk : k < 4) (h : post (nI (3 ^ k))) : wpX_power post u (nI k) :=
  pk_loop (σ := Unit) (fun n i _ => wX_power_4 post (nI k) n (nI (3 ^ i)) (nI i)) (fun _ _ => True) k 0 () (by omega) trivial
    (fun n _ _ => pk_le k k (fun _ => h) (fun z => absurd z (by omega)))
    (fun n i _ hi _ hw => pk_le k i (fun z => absurd z (by omega)) (fun _ => nm_r (show nI (3 ^ i) * 3 = nI (3 ^ (i + 1)) from (by rw [Nat.pow_succ]; exact pk_mul (3 ^ i) 3)) (nm_r (nI_1 i) (hw () trivial))))
theorem qm_3sub {b : Nat} (hb : b < 4) : (3 : Int32) - nI b = nI (3 - b) := pk_sub (a := 3) (by omega)
theorem qm_digit {post : Int32 → Prop} {u : St0} {c b : Nat} (hc : c < 81) (hb : b < 4) (h : post (nI (qm_d c b))) : wpX_digit post u (nI c) (nI b) := by
  unfold wpX_digit
  rw [qm_3sub hb]
  exact qm_power (by omega) ⟨(qm_pw (by omega)).2, by decide, ek_v (P := post) (qm_dg c hc b hb) h⟩
theorem qm_asks {post : Int32 → Prop} {u : St0} {c r : Nat} (hc : c < 81) (hr : r < 16) (h1 : qm_t (qm_w c) r = 1 → post 1) (h0 : ¬ qm_t (qm_w c) r = 1 → post 0) : wpX_asksFor post u (nI c) (nI r) :=
  pk_loop (σ := Unit) (fun n i _ => wX_asksFor_2 post (nI c) (nI r) n (nI i)) (fun i _ => ∀ b, b < i → qm_d c b = 2 ∨ qm_d c b = r / 2 ^ (3 - b) % 2) 4 0 () (by omega) (fun b hb => absurd hb (by omega))
    (fun n _ h => pk_le 4 4 (fun _ => h1 ((qm_as c hc r hr).mp h)) (fun z => absurd z (by omega)))
    (fun n i _ hi h hw => pk_le 4 i (fun z => absurd z (by omega)) (fun _ => qm_digit hc hi
      (pk_eq (qm_d c i) 2 (fun z => nm_r (nI_1 i) (hw () (lt_s h (Or.inl z))))
        (fun z => pk_eq (qm_d c i) (r / 2 ^ (3 - i) % 2) (fun g => nm_r (nI_1 i) (hw () (lt_s h (Or.inr g)))) (fun g => h0 (fun t => ((qm_as c hc r hr).mpr t i hi).elim z g)) (hy := qm_sh r hr i hi) (ha := qm_dB c i) (hb := qm_tB r (3 - i)))
        (ha := qm_dB c i))))
theorem qm_free {post : Int32 → Prop} {u : St0} {c : Nat} (hc : c < 81) (h : post (nI (qm_f c))) : wpX_freeBits post u (nI c) :=
  pk_loop (σ := Unit) (fun n i _ => wX_freeBits_4 post (nI c) n (nI (qm_fk c i)) (nI i)) (fun _ _ => True) 4 0 () (by omega) trivial
    (fun n _ _ => pk_le 4 4 (fun _ => h) (fun z => absurd z (by omega)))
    (fun n i _ hi _ hw => pk_le 4 i (fun z => absurd z (by omega)) (fun _ => qm_digit hc hi
      (pk_eq (qm_d c i) 2 (fun z => nm_r ((nI_1 (qm_fk c i)).trans (congrArg nI (qm_fk1 z))) (nm_r (nI_1 i) (hw () trivial)))
        (fun z => nm_r ((nI_add (qm_fk c i) 0).trans (congrArg nI (qm_fk0 z))) (nm_r (nI_1 i) (hw () trivial)))
        (ha := qm_dB c i))))
theorem qm_ones {post : Int32 → Prop} {u : St0} {s : Nat} (hs : s < 2) (h : post (nI s)) : wpX_ones post u (nI s) :=
  pk_loop (σ := Unit) (fun n i _ => wX_ones_4 post (nI s) n (nI (qm_pc s i)) (nI i)) (fun _ _ => True) 20 0 () (by omega) trivial
    (fun n _ _ => pk_le 20 20 (fun _ => ek_v (P := post) (congrArg nI (qm_on s hs).1) h) (fun z => absurd z (by omega)))
    (fun n i _ hi _ hw => pk_le 20 i (fun z => absurd z (by omega)) (fun _ => nm_r ((qm_on s hs).2 i hi) (nm_r (nI_1 i) (hw () trivial))))
/-- a bit of a word of the table -/
theorem qm_bit {a2 : Nat → Int32} (ha : ∀ j, j < 81 → a2 j = nI (qm_w j)) {c k : Nat} (hc : c < 81) (hk : k < 16) : ((a2 (nI c).toNatClampNeg) >>> (nI k &&& 31)) &&& 1 = nI (qm_t (qm_w c) k) := by
  rw [nI_clamp (show c < 2 ^ 31 by omega), ha c hc]
  exact qm_sw c hc k hk
theorem qm_onlyRow {post : Int32 → Prop} {f0 f1 f2 f3 f4 f5 : Int32} {a1 a2 a3 a4 a5 a6 a7 a8 : Nat → Int32} {c : Nat} (hc : c < 81) (hf : qm_f c = 0) (ha : ∀ j, j < 81 → a2 j = nI (qm_w j)) (h : post (nI (qm_r c))) : wpX_onlyRow post (f0, f1, f2, f3, f4, f5, a1, a2, a3, a4, a5, a6, a7, a8) (nI c) :=
  have hr := (qm_only c hc hf).1
  have hj := (qm_only c hc hf).2
  pk_loop (σ := Unit) (fun n i _ => wX_onlyRow_2 post (nI c) f0 f1 f2 f3 f4 f5 a1 a2 a3 a4 a5 a6 a7 a8 n (nI i)) (fun _ _ => True) (qm_r c) 0 () (by omega) trivial
    (fun n _ _ => pk_le 15 (qm_r c) (fun _ => h) (fun _ => ⟨pk_in c 81 hc, pk_eq (qm_t (qm_w c) (qm_r c)) 0 (fun z => absurd ((hj _ hr).mpr rfl) (by omega)) (fun _ => h) (hx := qm_bit ha hc hr) (ha := qm_tB _ _)⟩))
    (fun n i _ hi _ hw => pk_le 15 i (fun z => absurd z (by omega)) (fun _ => ⟨pk_in c 81 hc, pk_eq (qm_t (qm_w c) i) 0 (fun _ => nm_r (nI_1 i) (hw () trivial)) (fun z => absurd ((hj i (by omega)).mp (by have := qm_t2 (qm_w c) i; omega)) (by omega)) (hx := qm_bit ha hc (by omega)) (ha := qm_tB _ _)⟩))
end
section
/-! ===== the constructor and fill ===== -/
theorem qm_init78 {post : St2 → Prop} {mc ms : Nat} {J : Int32 → (Nat → Int32) → (Nat → Int32) → (Nat → Int32) → (Nat → Int32) → (Nat → Int32) → (Nat → Int32) → (Nat → Int32) → (Nat → Int32) → Prop} {kc ks : Nat} {f0 f1 f2 f3 f4 f5 : Int32} {a1 a2 a3 a4 a5 a6 a7 a8 : Nat → Int32} {c : Nat} (hc : c < 81) (h0 : a2 c = 0)
    (H : ∀ a, a c = nI (qm_w c) → (∀ j, ¬ j = c → a j = a2 j) → J (nI (c + 1)) a1 a a3 a4 a5 a6 a7 a8) :
    ∃ n, wX_init_78 post mc ms J (nI c) kc ks f0 f1 f2 f3 f4 f5 n 0 a1 a2 a3 a4 a5 a6 a7 a8 :=
  pk_loop (fun n i s => wX_init_78 post mc ms J (nI c) kc ks f0 f1 f2 f3 f4 f5 n (nI i) a1 s a3 a4 a5 a6 a7 a8) (fun i s => s c = nI (qm_w c % 2 ^ i) ∧ ∀ j, ¬ j = c → s j = a2 j) 16 0 a2 (by omega) ⟨by rw [h0, Nat.pow_zero, Nat.mod_one]; rfl, fun _ _ => rfl⟩
    (fun n s h => pk_le 16 16 (fun _ => nm_r (nI_1 c) (H s (h.1.trans (congrArg nI (qm_w16 c hc).1)) h.2)) (fun z => absurd z (by omega)))
    (fun n i s hi h hw => pk_le 16 i (fun z => absurd z (by omega)) (fun _ => qm_asks hc hi
      (fun z => br_f (by decide) ⟨pk_in c 81 hc, pk_in c 81 hc, nm_e (nm_r (nI_1 i) (hw _ ⟨by rw [nI_clamp (show c < 2 ^ 31 by omega), pk_us, h.1]; exact (qm_or c hc i hi).1 z, fun j hj => by rw [nI_clamp (show c < 2 ^ 31 by omega), pk_un hj]; exact h.2 j hj⟩))⟩)
      (fun z => br_t rfl (nm_r (nI_1 i) (hw s ⟨by rw [(qm_or c hc i hi).2 z]; exact h.1, h.2⟩)))))
theorem qm_init {post : St2 → Prop} {mc ms : Nat} {f0 f1 f2 f3 f4 f5 : Int32} (hmc : 8 ≤ mc) (hms : 393 ≤ ms)
    (H : ∀ a, (∀ j, j < 81 → a j = nI (qm_w j)) → post (f0, f1, f2, f3, f4, f5, fun _ => 0, a, fun _ => 0, fun _ => 0, fun _ => 0, fun _ => 0, fun _ => 0, fun _ => 0)) :
    wpX_init post mc ms (f0, f1, f2, f3, f4, f5) := by
  refine ⟨by omega, by omega, by omega, by omega, by omega, by omega, by omega, by omega, by omega, by omega, by omega, by omega, by omega, by omega, by omega, by omega, ?_⟩
  exact pk_loop (fun n i s => wX_init_70 post mc ms 8 393 f0 f1 f2 f3 f4 f5 n (nI i) (fun _ => 0) s (fun _ => 0) (fun _ => 0) (fun _ => 0) (fun _ => 0) (fun _ => 0) (fun _ => 0)) (fun i s => ∀ j, (j < i → s j = nI (qm_w j)) ∧ (¬ j < i → s j = 0)) 81 0 (fun _ => 0) (by omega) (fun j => ⟨fun z => absurd z (by omega), fun _ => rfl⟩)
    (fun n s h => pk_le 81 81 (fun _ => H s (fun j hj => (h j).1 hj)) (fun z => absurd z (by omega)))
    (fun n i s hi h hw => pk_le 81 i (fun z => absurd z (by omega)) (fun _ => qm_init78 hi ((h i).2 (by omega)) (fun a e1 e2 => hw a (fun j => ⟨fun z => by
      by_cases e : j = i
      · rw [e]; exact e1
      · rw [e2 j e]; exact (h j).1 (by omega), fun z => by
      rw [e2 j (by omega)]; exact (h j).2 (by omega)⟩))))
/-- how many rows fill changes -/
def qm_ch (c h k : Nat) : Nat := if h = 0 then 0 else qm_pc (qm_w c) k
/-- the rows hold how in the cube, 0 elsewhere -/
def qm_rows (c h : Nat) (a : Nat → Int32) : Prop := ∀ j, j < 16 → (qm_t (qm_w c) j = 1 → a j = nI h) ∧ (¬ qm_t (qm_w c) j = 1 → a j = 0)
theorem qm_fill65 {post : Int32 → St2 → Prop} {J : Int32 → Int32 → (Nat → Int32) → (Nat → Int32) → (Nat → Int32) → (Nat → Int32) → (Nat → Int32) → (Nat → Int32) → (Nat → Int32) → (Nat → Int32) → Prop} {x1 x2 z0 z1 f0 f1 f2 f3 f4 f5 : Int32} {a1 a2 a3 a4 a5 a6 a7 a8 : Nat → Int32} {i : Nat} (hi : i < 16) (H : J (z1 + z0) (nI (i + 1)) (upd a1 i x2) a2 a3 a4 a5 a6 a7 a8) :
    wX_fill_65 post J x1 x2 (nI i) z0 z1 f0 f1 f2 f3 f4 f5 a1 a2 a3 a4 a5 a6 a7 a8 := by
  unfold wX_fill_65
  rw [nI_clamp (show i < 2 ^ 31 by omega)]
  exact nm_e ⟨pk_in i 16 hi, nm_e (nm_r (nI_1 i) H)⟩
theorem qm_fill {post : Int32 → St2 → Prop} {f0 f1 f2 f3 f4 f5 : Int32} {a1 a2 a3 a4 a5 a6 a7 a8 : Nat → Int32} {c h : Nat} (hc : c < 81) (hh : h < 3) (ha : ∀ j, j < 81 → a2 j = nI (qm_w j)) (h0 : ∀ j, a1 j = 0)
    (H : ∀ a, qm_rows c h a → post (nI (qm_ch c h 16)) (f0, f1, f2, f3, f4, 0, a, a2, a3, a4, a5, a6, a7, a8)) :
    wpX_fill post (f0, f1, f2, f3, f4, f5, a1, a2, a3, a4, a5, a6, a7, a8) (nI c) (nI h) := by
  refine pk_lt c 0 (fun z => absurd z (by omega)) (fun _ => pk_le 81 c (fun z => absurd z (by omega)) (fun _ => br_f (by decide) (pk_lt h 0 (fun z => absurd z (by omega)) (fun _ => pk_le h 2 (fun _ => ?_) (fun z => absurd z (by omega))))))
  have hch0 : nI (qm_ch c h 0) = 0 := by
    unfold qm_ch
    by_cases e : h = 0
    · rw [if_pos e]; rfl
    · rw [if_neg e]; rfl
  refine pk_loop (σ := Int32 × (Nat → Int32)) (fun n i s => wX_fill_26 post (nI c) (nI h) f0 f1 f2 f3 f4 f5 n s.1 (nI i) s.2 a2 a3 a4 a5 a6 a7 a8) (fun i s => s.1 = nI (qm_ch c h i) ∧ ∀ j, (j < i ∧ qm_t (qm_w c) j = 1 → s.2 j = nI h) ∧ (¬ (j < i ∧ qm_t (qm_w c) j = 1) → s.2 j = 0)) 16 0 (0, a1) (by omega) ⟨hch0.symm, fun j => ⟨fun z => absurd z.1 (by omega), fun _ => h0 j⟩⟩ ?_ ?_
  · rintro n ⟨x, s⟩ ⟨e, hs⟩
    dsimp only at e hs
    subst e
    exact pk_le 16 16 (fun _ => H s (fun j hj => ⟨fun z => (hs j).1 ⟨hj, z⟩, fun z => (hs j).2 (fun g => z g.2)⟩)) (fun z => absurd z (by omega))
  · rintro n i ⟨x, s⟩ hi ⟨e, hs⟩ hw
    dsimp only at e hs
    subst e
    refine pk_le 16 i (fun z => absurd z (by omega)) (fun _ => ⟨pk_in c 81 hc, pk_eq (qm_t (qm_w c) i) 1 (fun z => ⟨pk_in i 16 hi, ?_⟩) (fun z => nm_r (nI_1 i) (hw (nI (qm_ch c h i), s) ⟨?_, fun j => ⟨fun g => ?_, fun g => ?_⟩⟩)) (hx := qm_bit ha hc hi) (ha := qm_tB _ _)⟩)
    · have hr : ∀ j, (j < i + 1 ∧ qm_t (qm_w c) j = 1 → upd s i (nI h) j = nI h) ∧ (¬ (j < i + 1 ∧ qm_t (qm_w c) j = 1) → upd s i (nI h) j = 0) := by
        intro j
        by_cases ej : j = i
        · rw [ej, pk_us]
          exact ⟨fun _ => rfl, fun g => absurd ⟨Nat.lt_succ_self i, z⟩ g⟩
        · rw [pk_un ej]
          exact ⟨fun g => (hs j).1 ⟨by omega, g.2⟩, fun g => (hs j).2 (fun t => g ⟨by omega, t.2⟩)⟩
      refine pk_eq 0 h (fun g => qm_fill65 hi (hw (_, _) ⟨?_, hr⟩)) (fun g => qm_fill65 hi (hw (_, _) ⟨?_, hr⟩)) (hx := by rw [nI_clamp (show i < 2 ^ 31 by omega)]; exact (hs i).2 (fun t => absurd t.1 (by omega)))
      · show nI (qm_ch c h i) + 0 = nI (qm_ch c h (i + 1))
        unfold qm_ch
        rw [if_pos g.symm, if_pos g.symm]
        rfl
      · show nI (qm_ch c h i) + 1 = nI (qm_ch c h (i + 1))
        unfold qm_ch
        rw [if_neg (fun t => g t.symm), if_neg (fun t => g t.symm), nI_1]
        show _ = nI (qm_pc (qm_w c) i + qm_t (qm_w c) i)
        rw [z]
    · show nI (qm_ch c h i) = nI (qm_ch c h (i + 1))
      unfold qm_ch
      by_cases e : h = 0
      · rw [if_pos e, if_pos e]
      · rw [if_neg e, if_neg e]
        show _ = nI (qm_pc (qm_w c) i + qm_t (qm_w c) i)
        have t2 := qm_t2 (qm_w c) i
        rw [show qm_t (qm_w c) i = 0 by omega]
        rfl
    · have gj : ¬ j = i := fun t => z (t ▸ g.2)
      exact (hs j).1 ⟨by omega, g.2⟩
    · refine (hs j).2 (fun t => g ⟨by omega, t.2⟩)
end
section
/-! ===== join ===== -/
theorem qm_hZ {D i : Nat} (hD : D < 81) (hi : i < 4) (hd : qm_d D i = 2) : nI D - 2 * nI (3 ^ (3 - i)) = nI (D - 2 * 3 ^ (3 - i)) := by
  rw [show (2 : Int32) * nI (3 ^ (3 - i)) = nI (2 * 3 ^ (3 - i)) from pk_mul 2 _]
  exact pk_sub (qm_half D hD i hi hd).1
theorem qm_hO {D i : Nat} (hD : D < 81) (hi : i < 4) (hd : qm_d D i = 2) : nI D - nI (3 ^ (3 - i)) = nI (D - 3 ^ (3 - i)) := by
  have h := (qm_half D hD i hi hd).1
  exact pk_sub (by omega)
theorem qm_cl81 {i : Nat} (hi : i < 81) : (nI i).toNatClampNeg = i := nI_clamp (by omega)
/-- two places set to 1 -/
theorem qm_two {s : Nat → Int32} (Z O : Nat) : (∀ j, s j = 1 → upd (upd s Z 1) O 1 j = 1) ∧ upd (upd s Z 1) O 1 Z = 1 ∧ upd (upd s Z 1) O 1 O = 1 ∧ ∀ j, ¬ j = Z → ¬ j = O → upd (upd s Z 1) O 1 j = s j := by
  have m : ∀ j, s j = 1 → upd (upd s Z 1) O 1 j = 1 := by
    intro j hj
    by_cases e : j = O
    · rw [e, pk_us]
    · rw [pk_un e]
      by_cases g : j = Z
      · rw [g, pk_us]
      · rw [pk_un g]; exact hj
  refine ⟨m, ?_, pk_us, fun j h1 h2 => by rw [pk_un h2, pk_un h1]⟩
  by_cases e : Z = O
  · rw [e, pk_us]
  · rw [pk_un e, pk_us]
theorem qm_joinT {post : Int32 → St2 → Prop} {f0 f1 f2 f3 f4 f5 : Int32} {a1 a2 a3 a4 a5 a6 a7 a8 : Nat → Int32} {c D : Nat} (hD : D < 81) (hS : qm_sb D c) (hf : ¬ qm_f D = 0)
    (hA : ∀ E, E < 81 → qm_f E < qm_f D → qm_sb E c → ¬ a3 E = 0)
    (H : ∀ a, (∀ j, a4 j = 1 → a j = 1) → (a4 c = 0 → a c = 0) → (∀ b, b < 4 → qm_d D b = 2 → a (D - 2 * 3 ^ (3 - b)) = 1 ∧ a (D - 3 ^ (3 - b)) = 1) → post 1 (f0, f1, f2, f3, f4, f5, a1, a2, a3, a, a5, a6, a7, a8)) :
    wpX_join post (f0, f1, f2, f3, f4, f5, a1, a2, a3, a4, a5, a6, a7, a8) (nI D) := by
  refine pk_loop (σ := Int32 × (Nat → Int32)) (fun n i s => wX_join_4 post (nI D) f0 f1 f2 f3 f4 f5 n s.1 (nI i) a1 a2 a3 s.2 a5 a6 a7 a8) (fun i s => s.1 = (if qm_fk D i = 0 then 0 else 1) ∧ (∀ j, a4 j = 1 → s.2 j = 1) ∧ (a4 c = 0 → s.2 c = 0) ∧ ∀ b, b < i → qm_d D b = 2 → s.2 (D - 2 * 3 ^ (3 - b)) = 1 ∧ s.2 (D - 3 ^ (3 - b)) = 1) 4 0 (0, a4) (by omega) ⟨(if_pos rfl).symm, fun _ h => h, fun h => h, fun b hb => absurd hb (by omega)⟩ ?_ ?_
  · rintro n ⟨x, s⟩ ⟨e, h1, h2, h3⟩
    dsimp only at e h1 h2 h3
    rw [if_neg (show ¬ qm_fk D 4 = 0 from hf)] at e
    subst e
    exact pk_le 4 4 (fun _ => ⟨narrow_b1, H s h1 h2 h3⟩) (fun z => absurd z (by omega))
  · rintro n i ⟨x, s⟩ hi ⟨e, h1, h2, h3⟩ hw
    dsimp only at e h1 h2 h3
    refine pk_le 4 i (fun z => absurd z (by omega)) (fun _ => qm_digit hD hi (pk_eq (qm_d D i) 2 (fun z => ?_) (fun z => nm_r (nI_1 i) (hw (x, s) ⟨?_, h1, h2, ?_⟩)) (ha := qm_dB D i)))
    · obtain ⟨u1, u2, u3, _⟩ := qm_half D hD i hi z
      obtain ⟨v1, v2, v3, v4⟩ := qm_sbH hD hi z hS
      have hZ : D - 2 * 3 ^ (3 - i) < 81 := by omega
      have hO : D - 3 ^ (3 - i) < 81 := by omega
      have nZ : ¬ a3 (nI (D - 2 * 3 ^ (3 - i))).toNatClampNeg = 0 := by
        rw [qm_cl81 hZ]; exact hA _ hZ (by omega) v1
      have nO : ¬ a3 (nI (D - 3 ^ (3 - i))).toNatClampNeg = 0 := by
        rw [qm_cl81 hO]; exact hA _ hO (by omega) v2
      obtain ⟨t1, t2, t3, t4⟩ := qm_two (s := s) (D - 2 * 3 ^ (3 - i)) (D - 3 ^ (3 - i))
      have hJ := hw (1, upd (upd s (D - 2 * 3 ^ (3 - i)) 1) (D - 3 ^ (3 - i)) 1) ⟨by
          show (1 : Int32) = if qm_fk D (i + 1) = 0 then 0 else 1
          rw [if_neg (by rw [← qm_fk1 z]; omega)], fun j hj => t1 j (h1 j hj), fun hc0 => by
          show upd (upd s (D - 2 * 3 ^ (3 - i)) 1) (D - 3 ^ (3 - i)) 1 c = 0
          rw [t4 c v3 v4]; exact h2 hc0, fun b hb hb2 => by
          show upd (upd s (D - 2 * 3 ^ (3 - i)) 1) (D - 3 ^ (3 - i)) 1 (D - 2 * 3 ^ (3 - b)) = 1 ∧ upd (upd s (D - 2 * 3 ^ (3 - i)) 1) (D - 3 ^ (3 - i)) 1 (D - 3 ^ (3 - b)) = 1
          by_cases eb : b = i
          · rw [eb]; exact ⟨t2, t3⟩
          · have h3b := h3 b (by omega) hb2
            exact ⟨t1 _ h3b.1, t1 _ h3b.2⟩⟩
      rw [qm_3sub hi]
      refine qm_power (by omega) (nm_r (qm_hZ hD hi z) (qm_power (by omega) (nm_r (qm_hO hD hi z) ⟨pk_in _ 81 hZ, br_f nZ ⟨pk_in _ 81 hO, br_f nO ?_⟩⟩)))
      refine br_f (by decide) ⟨pk_in _ 81 hZ, nm_r (show upd s (nI (D - 2 * 3 ^ (3 - i))).toNatClampNeg 1 = upd s (D - 2 * 3 ^ (3 - i)) 1 by rw [qm_cl81 hZ]) ⟨pk_in _ 81 hO, nm_r (show upd (upd s (D - 2 * 3 ^ (3 - i)) 1) (nI (D - 3 ^ (3 - i))).toNatClampNeg 1 = upd (upd s (D - 2 * 3 ^ (3 - i)) 1) (D - 3 ^ (3 - i)) 1 by rw [qm_cl81 hO]) (nm_r (nI_1 i) hJ)⟩⟩
    · show x = if qm_fk D (i + 1) = 0 then 0 else 1
      rw [← qm_fk0 z]
      exact e
    · intro b hb hb2
      exact h3 b (by have : ¬ b = i := fun t => z (t ▸ hb2); omega) hb2
theorem qm_joinF {post : Int32 → St2 → Prop} {f0 f1 f2 f3 f4 f5 : Int32} {a1 a2 a3 a4 a5 a6 a7 a8 : Nat → Int32} {D : Nat} (hD : D < 81) (hf : ¬ qm_f D = 0)
    (hA : ∀ b, b < 4 → qm_d D b = 2 → ¬ a3 (D - 2 * 3 ^ (3 - b)) = 0 → a3 (D - 3 ^ (3 - b)) = 0)
    (H : post 0 (f0, f1, f2, f3, f4, f5, a1, a2, a3, a4, a5, a6, a7, a8)) :
    wpX_join post (f0, f1, f2, f3, f4, f5, a1, a2, a3, a4, a5, a6, a7, a8) (nI D) := by
  refine pk_loop (σ := Unit) (fun n i _ => wX_join_4 post (nI D) f0 f1 f2 f3 f4 f5 n 0 (nI i) a1 a2 a3 a4 a5 a6 a7 a8) (fun i _ => qm_fk D i = 0) 4 0 () (by omega) rfl (fun n _ h => absurd h hf) ?_
  intro n i _ hi h hw
  refine pk_le 4 i (fun z => absurd z (by omega)) (fun _ => qm_digit hD hi (pk_eq (qm_d D i) 2 (fun z => ?_) (fun z => nm_r (nI_1 i) (hw () (by rw [← qm_fk0 z]; exact h))) (ha := qm_dB D i)))
  obtain ⟨u1, u2, u3, _⟩ := qm_half D hD i hi z
  have hZ : D - 2 * 3 ^ (3 - i) < 81 := by omega
  have hO : D - 3 ^ (3 - i) < 81 := by omega
  rw [qm_3sub hi]
  refine qm_power (by omega) (nm_r (qm_hZ hD hi z) (qm_power (by omega) (nm_r (qm_hO hD hi z) ⟨pk_in _ 81 hZ, br_c (fun _ => br_t rfl H) (fun g => ⟨pk_in _ 81 hO, br_t ?_ (br_t rfl H)⟩)⟩)))
  rw [qm_cl81 hO]
  rw [qm_cl81 hZ] at g
  exact hA i hi z g
end
section
/-! ===== refresh ===== -/
/-- cube D is allowed: how isn't 0 and D lies in c -/
def qm_S (c h D : Nat) : Prop := ¬ h = 0 ∧ qm_sb D c
/-- the cubes of p are done: allowed is as the picture says, the halves of an allowed cube are joined, c itself isn't -/
def qm_I (c h : Nat) (p : Nat → Prop) (a3 a4 : Nat → Int32) : Prop :=
  (∀ D, D < 81 → p D → (qm_S c h D → a3 D = 1) ∧ (¬ qm_S c h D → a3 D = 0)) ∧
  (∀ D, D < 81 → p D → qm_S c h D → ∀ b, b < 4 → qm_d D b = 2 → a4 (D - 2 * 3 ^ (3 - b)) = 1 ∧ a4 (D - 3 ^ (3 - b)) = 1) ∧ a4 c = 0
theorem qm_Im {c h : Nat} {p q : Nat → Prop} {a b : Nat → Int32} (hq : ∀ D, D < 81 → q D → p D) (hI : qm_I c h p a b) : qm_I c h q a b :=
  ⟨fun D hD g => hI.1 D hD (hq D hD g), fun D hD g => hI.2.1 D hD (hq D hD g), hI.2.2⟩
theorem qm_Ix {c h D : Nat} {p q : Nat → Prop} {a b b' : Nat → Int32} {v : Int32} (hq : ∀ E, E < 81 → q E → ¬ E = D → p E) (hv : (qm_S c h D → v = 1) ∧ (¬ qm_S c h D → v = 0)) (hm : ∀ j, b j = 1 → b' j = 1) (hc : b' c = 0)
    (hS : qm_S c h D → ∀ k, k < 4 → qm_d D k = 2 → b' (D - 2 * 3 ^ (3 - k)) = 1 ∧ b' (D - 3 ^ (3 - k)) = 1) (hI : qm_I c h p a b) : qm_I c h q (upd a D v) b' := by
  refine ⟨fun E hE g => ?_, fun E hE g s k hk hd => ?_, hc⟩
  · by_cases e : E = D
    · rw [e, pk_us]; exact hv
    · rw [pk_un e]; exact hI.1 E hE (hq E hE g e)
  · by_cases e : E = D
    · rw [e] at s hd ⊢
      exact hS s k hk hd
    · have t := hI.2.1 E hE (hq E hE g e) s k hk hd
      exact ⟨hm _ t.1, hm _ t.2⟩
theorem qm_ref95 {post : St2 → Prop} {J : Int32 → Int32 → Int32 → Int32 → Int32 → Int32 → Int32 → (Nat → Int32) → (Nat → Int32) → (Nat → Int32) → (Nat → Int32) → (Nat → Int32) → (Nat → Int32) → (Nat → Int32) → (Nat → Int32) → Prop} {f0 f1 f2 f3 f4 f5 : Int32} {a1 a2 a3 a4 a5 a6 a7 a8 : Nat → Int32} {c h f : Nat} (hc : c < 81) (hh : h < 3) (hf : f < 5) (ha : ∀ j, j < 81 → a2 j = nI (qm_w j)) (hr : qm_rows c h a1)
    (hI : qm_I c h (fun D => qm_f D < f) a3 a4)
    (H : ∀ b3 b4, qm_I c h (fun D => qm_f D < f + 1) b3 b4 → J (nI (f + 1)) f0 f1 f2 f3 f4 f5 a1 a2 b3 b4 a5 a6 a7 a8) :
    ∃ n, wX_refresh_95 post J (nI f) n 0 f0 f1 f2 f3 f4 f5 a1 a2 a3 a4 a5 a6 a7 a8 := by
  refine pk_loop (σ := (Nat → Int32) × (Nat → Int32)) (fun n i s => wX_refresh_95 post J (nI f) n (nI i) f0 f1 f2 f3 f4 f5 a1 a2 s.1 s.2 a5 a6 a7 a8) (fun i s => qm_I c h (fun D => qm_f D < f ∨ (qm_f D = f ∧ D < i)) s.1 s.2) 81 0 (a3, a4) (by omega) (qm_Im (fun D _ g => g.elim id (fun t => absurd t.2 (by omega))) hI) ?_ ?_
  · rintro n ⟨b3, b4⟩ g
    exact pk_le 81 81 (fun _ => nm_r (nI_1 f) (H b3 b4 (qm_Im (fun D hD t => by omega) g))) (fun z => absurd z (by omega))
  · rintro n i ⟨b3, b4⟩ hi g hw
    have hB := (qm_wI i hi).2.2
    have hq : ∀ E, E < 81 → (qm_f E < f ∨ (qm_f E = f ∧ E < i + 1)) → ¬ E = i → (qm_f E < f ∨ (qm_f E = f ∧ E < i)) := fun E _ t e => by omega
    have hw' : ∀ b3 b4, qm_I c h (fun D => qm_f D < f ∨ (qm_f D = f ∧ D < i + 1)) b3 b4 → wX_refresh_95 post J (nI f) n (nI (i + 1)) f0 f1 f2 f3 f4 f5 a1 a2 b3 b4 a5 a6 a7 a8 := fun b3 b4 t => hw (b3, b4) t
    have e81 := qm_cl81 hi
    refine pk_le 81 i (fun z => absurd z (by omega)) (fun _ => qm_free hi (pk_eq (qm_f i) f (fun z => ?_) (fun z => nm_r (nI_1 i) (hw' b3 b4 (qm_Im (fun D hD t => by
      rcases t with t | t
      · exact Or.inl t
      · have : ¬ D = i := fun e => z (by rw [← e]; exact t.1)
        exact Or.inr ⟨t.1, by omega⟩) g))) (ha := by omega)))
    refine pk_eq f 0 (fun z0 => ?_) (fun z0 => ?_)
    · have fi : qm_f i = 0 := by omega
      have r16 := (qm_only i hi fi).1
      have nS : qm_S c h i → ∀ k, k < 4 → qm_d i k = 2 → b4 (i - 2 * 3 ^ (3 - k)) = 1 ∧ b4 (i - 3 ^ (3 - k)) = 1 := fun _ k hk hd => absurd hd (qm_nf i hi fi k hk)
      refine qm_onlyRow hi fi ha ⟨pk_in _ 16 r16, ?_⟩
      rw [nI_clamp (show qm_r i < 2 ^ 31 by omega)]
      have hrow := hr _ r16
      refine br_c (fun y => ⟨pk_in i 81 hi, nm_r (show _ = upd b3 i 0 by rw [e81]) (nm_r (nI_1 i) (hw' _ _ (qm_Ix hq ⟨fun s => ?_, fun _ => rfl⟩ (fun _ t => t) g.2.2 nS g)))⟩) (fun y => ⟨pk_in i 81 hi, nm_r (show _ = upd b3 i 1 by rw [e81]) (nm_r (nI_1 i) (hw' _ _ (qm_Ix hq ⟨fun _ => rfl, fun s => ?_⟩ (fun _ t => t) g.2.2 nS g)))⟩)
      · rw [hrow.1 ((qm_rowI hc hi fi).mpr s.2)] at y
        exact absurd y (nI_ne0 (by have := s.1; omega) (by omega))
      · refine absurd ?_ y
        by_cases t : qm_t (qm_w c) (qm_r i) = 1
        · have h0 : h = 0 := Classical.byContradiction (fun e => s ⟨e, (qm_rowI hc hi fi).mp t⟩)
          rw [hrow.1 t, h0]
          rfl
        · exact hrow.2 t
    · have fi : ¬ qm_f i = 0 := by omega
      by_cases s : qm_S c h i
      · refine qm_joinT hi s.2 fi (fun E hE hlt hsb => ?_) (fun b hb1 hb2 hb3 => ?_)
        · rw [(g.1 E hE (Or.inl (by omega))).1 ⟨s.1, hsb⟩]
          decide
        · exact ⟨pk_in i 81 hi, nm_r (show _ = upd b3 i 1 by rw [e81]; rfl) (nm_r (nI_1 i) (hw' _ _ (qm_Ix hq ⟨fun _ => rfl, fun t => absurd s t⟩ hb1 (hb2 g.2.2) (fun _ => hb3) g)))⟩
      · refine qm_joinF hi fi (fun b hb hd y => ?_) ⟨pk_in i 81 hi, nm_r (show _ = upd b3 i 0 by rw [e81]; rfl) (nm_r (nI_1 i) (hw' _ _ (qm_Ix hq ⟨fun t => absurd t s, fun _ => rfl⟩ (fun _ t => t) g.2.2 (fun t => absurd t s) g)))⟩
        obtain ⟨u1, u2, u3, _⟩ := qm_half i hi b hb hd
        have gZ := g.1 (i - 2 * 3 ^ (3 - b)) (by omega) (Or.inl (by omega))
        have gO := g.1 (i - 3 ^ (3 - b)) (by omega) (Or.inl (by omega))
        have sZ : qm_S c h (i - 2 * 3 ^ (3 - b)) := Classical.byContradiction (fun t => y (gZ.2 t))
        exact gO.2 (fun sO => s ⟨sZ.1, qm_sbU hi hb hd sZ.2 sO.2⟩)
/-- how many primes; how many so far; the rows that must be covered -/
def qm_n (h : Nat) : Nat := if h = 0 then 0 else 1
def qm_k (c h k : Nat) : Nat := if ¬ h = 0 ∧ c < k then 1 else 0
def qm_o (c h : Nat) : Nat := if h = 1 then qm_w c else 0
theorem qm_ref164 {post : St2 → Prop} {f1 f2 f3 f4 f5 : Int32} {a1 a2 a3 a4 a5 a6 a7 a8 : Nat → Int32} {c h : Nat} (hc : c < 81) (hI : qm_I c h (fun D => qm_f D < 5) a3 a4)
    (H : ∀ b5, (¬ h = 0 → b5 0 = nI c) → post (nI (qm_n h), f1, f2, f3, f4, f5, a1, a2, a3, a4, b5, a6, a7, a8)) :
    ∃ n, wX_refresh_164 post f1 f2 f3 f4 f5 n 0 0 a1 a2 a3 a4 a5 a6 a7 a8 := by
  have hp : ∀ D, D < 81 → qm_f D < 5 := fun D hD => by
    have := (qm_wI D hD).2.2
    omega
  refine pk_loop (σ := Int32 × (Nat → Int32)) (fun n i s => wX_refresh_164 post f1 f2 f3 f4 f5 n (nI i) s.1 a1 a2 a3 a4 s.2 a6 a7 a8) (fun i s => s.1 = nI (qm_k c h i) ∧ (¬ h = 0 ∧ c < i → s.2 0 = nI c)) 81 0 (0, a5) (by omega) ⟨by unfold qm_k; rw [if_neg (fun t => absurd t.2 (by omega))]; rfl, fun t => absurd t.2 (by omega)⟩ ?_ ?_
  · rintro n ⟨x, s⟩ ⟨e, g⟩
    dsimp only at e g
    have e2 : qm_k c h 81 = qm_n h := by
      unfold qm_k qm_n
      by_cases h0 : h = 0
      · rw [if_neg (fun t => t.1 h0), if_pos h0]
      · rw [if_pos ⟨h0, hc⟩, if_neg h0]
    rw [e2] at e
    subst e
    exact pk_le 81 81 (fun _ => H s (fun t => g ⟨t, hc⟩)) (fun z => absurd z (by omega))
  · rintro n i ⟨x, s⟩ hi ⟨e, g⟩ hw
    dsimp only at e g
    subst e
    have e81 := qm_cl81 hi
    have skip : (h = 0 ∨ ¬ i = c) → wX_refresh_164 post f1 f2 f3 f4 f5 n (nI (i + 1)) (nI (qm_k c h i)) a1 a2 a3 a4 s a6 a7 a8 := by
      intro hs
      refine hw (nI (qm_k c h i), s) ⟨?_, fun t => g ⟨t.1, ?_⟩⟩
      · show nI (qm_k c h i) = nI (qm_k c h (i + 1))
        unfold qm_k
        by_cases t : ¬ h = 0 ∧ c < i
        · rw [if_pos t, if_pos ⟨t.1, by omega⟩]
        · rw [if_neg t, if_neg (fun t' => t ⟨t'.1, by have := t'.1; have := t'.2; omega⟩)]
      · have := t.1
        have := t.2
        omega
    refine pk_le 81 i (fun z => absurd z (by omega)) (fun _ => ⟨pk_in i 81 hi, ?_⟩)
    rw [e81]
    have gi := hI.1 i hi (hp i hi)
    by_cases hS : qm_S c h i
    · by_cases ic : i = c
      · have k0 : qm_k c h i = 0 := by
          unfold qm_k
          rw [if_neg (fun t => absurd t.2 (by omega))]
        have k1 : qm_k c h (i + 1) = 1 := by
          unfold qm_k
          rw [if_pos ⟨hS.1, by omega⟩]
        refine br_f (by rw [gi.1 hS]; decide) ⟨pk_in i 81 hi, br_t (by rw [ic]; exact hI.2.2) ?_⟩
        rw [k0]
        refine pk_le 32 0 (fun z => absurd z (by omega)) (fun _ => ⟨pk_in 0 32 (by omega), nm_e (nm_e (nm_r (nI_1 i) (hw (_, _) ⟨?_, fun _ => ?_⟩)))⟩)
        · show nI 0 + 1 = nI (qm_k c h (i + 1))
          rw [k1]
          rfl
        · show upd s (nI 0).toNatClampNeg (nI i) 0 = nI c
          rw [nI_clamp (by omega), pk_us, ic]
      · obtain ⟨E, b, hE, hb, hd, hs, hx⟩ := qm_sbE hc hi hS.2 ic
        have t := hI.2.1 E hE (hp E hE) ⟨hS.1, hs⟩ b hb hd
        have a1i : a4 i = 1 := by
          rcases hx with e | e
          · rw [e]; exact t.1
          · rw [e]; exact t.2
        exact br_f (by rw [gi.1 hS]; decide) ⟨pk_in i 81 hi, br_f (by rw [a1i]; decide) (nm_r (nI_1 i) (skip (Or.inr ic)))⟩
    · refine br_t (gi.2 hS) (nm_r (nI_1 i) (skip ?_))
      by_cases h0 : h = 0
      · exact Or.inl h0
      · exact Or.inr (fun e => hS ⟨h0, by rw [e]; exact qm_sbR c⟩)
theorem qm_ref60 {post : St2 → Prop} {f0 f1 f2 f3 f4 f5 : Int32} {a1 a2 a3 a4 a5 a6 a7 a8 : Nat → Int32} {c h : Nat} (hc : c < 81) (hh : h < 3) (ha : ∀ j, j < 81 → a2 j = nI (qm_w j)) (hr : qm_rows c h a1)
    (H : ∀ b3 b4 b5, (¬ h = 0 → b5 0 = nI c) → post (nI (qm_n h), f1, f2, f3, f4, f5, a1, a2, b3, b4, b5, a6, a7, a8)) :
    ∃ n, wX_refresh_60 post f0 f1 f2 f3 f4 f5 n 0 a1 a2 a3 a4 a5 a6 a7 a8 := by
  refine pk_loop (σ := (Nat → Int32) × (Nat → Int32)) (fun n i s => wX_refresh_60 post f0 f1 f2 f3 f4 f5 n (nI i) a1 a2 s.1 s.2 a5 a6 a7 a8) (fun i s => c < i → s.2 c = 0) 81 0 (a3, a4) (by omega) (fun t => absurd t (by omega)) ?_ ?_
  · rintro n ⟨b3, b4⟩ g
    have g' : b4 c = 0 := g hc
    refine pk_le 81 81 (fun _ => ?_) (fun z => absurd z (by omega))
    refine pk_loop (σ := (Nat → Int32) × (Nat → Int32)) (fun n i s => wX_refresh_88 post n (nI i) f0 f1 f2 f3 f4 f5 a1 a2 s.1 s.2 a5 a6 a7 a8) (fun i s => qm_I c h (fun D => qm_f D < i) s.1 s.2) 5 0 (b3, b4) (by omega) ⟨fun _ _ t => absurd t (by omega), fun _ _ t => absurd t (by omega), g'⟩ ?_ ?_
    · rintro n ⟨d3, d4⟩ hI
      exact pk_lt 4 5 (fun _ => qm_ref164 hc hI (fun b5 t => H d3 d4 b5 t)) (fun z => absurd z (by omega))
    · rintro n i ⟨d3, d4⟩ hi hI hw
      exact pk_lt 4 i (fun z => absurd z (by omega)) (fun _ => qm_ref95 hc hh hi ha hr hI (fun e3 e4 t => hw (e3, e4) t))
  · rintro n i ⟨b3, b4⟩ hi g hw
    refine pk_le 81 i (fun z => absurd z (by omega)) (fun _ => ⟨pk_in i 81 hi, nm_e ⟨pk_in i 81 hi, nm_e (nm_r (nI_1 i) (hw (_, _) (fun t => ?_)))⟩⟩)
    show upd b4 (nI i).toNatClampNeg 0 c = 0
    rw [qm_cl81 hi]
    by_cases e : c = i
    · rw [e, pk_us]
    · rw [pk_un e]; exact g (by omega)
theorem qm_ref {post : St2 → Prop} {f0 f1 f2 f3 f4 : Int32} {a1 a2 a3 a4 a5 a6 a7 a8 : Nat → Int32} {c h : Nat} (hc : c < 81) (hh : h < 3) (ha : ∀ j, j < 81 → a2 j = nI (qm_w j)) (hr : qm_rows c h a1)
    (H : ∀ b3 b4 b5, (¬ h = 0 → b5 0 = nI c) → post (nI (qm_n h), nI (qm_o c h), f2, f3, f4, 1, a1, a2, b3, b4, b5, a6, a7, a8)) :
    wpX_refresh post (f0, f1, f2, f3, f4, 0, a1, a2, a3, a4, a5, a6, a7, a8) := by
  refine br_t rfl ?_
  have start : nI (qm_o c h % 2 ^ 0) = 0 := by
    rw [Nat.pow_zero, Nat.mod_one]; rfl
  have fin : qm_o c h % 2 ^ 16 = qm_o c h := by
    unfold qm_o
    by_cases e : h = 1
    · rw [if_pos e]; exact (qm_w16 c hc).1
    · rw [if_neg e]
  have key : ∀ i, i < 16 → (a1 i = 1 → nI (qm_o c h % 2 ^ i) ||| ((1 : Int32) <<< (nI i &&& 31)) = nI (qm_o c h % 2 ^ (i + 1))) ∧ (¬ a1 i = 1 → nI (qm_o c h % 2 ^ i) ||| 0 = nI (qm_o c h % 2 ^ (i + 1))) := by
    intro i hi
    have hrow := hr i hi
    have hor := qm_or c hc i hi
    rw [qm_or0]
    unfold qm_o
    by_cases e : h = 1
    · rw [if_pos e]
      by_cases t : qm_t (qm_w c) i = 1
      · exact ⟨fun _ => hor.1 t, fun y => absurd (show a1 i = 1 by rw [hrow.1 t, e]; rfl) y⟩
      · exact ⟨fun y => absurd y (by rw [hrow.2 t]; decide), fun _ => by rw [hor.2 t]⟩
    · rw [if_neg e, Nat.zero_mod, Nat.zero_mod]
      refine ⟨fun y => absurd y ?_, fun _ => rfl⟩
      by_cases t : qm_t (qm_w c) i = 1
      · rw [hrow.1 t]
        exact fun w => e ((nI_eq (b := 1) (by omega) (by omega)).mp w)
      · rw [hrow.2 t]; decide
  have L := pk_loop (σ := Unit) (fun n i _ => wX_refresh_20 post f0 f2 f3 f4 1 a1 a2 a3 a4 a5 a6 a7 a8 n (nI i) (nI (qm_o c h % 2 ^ i))) (fun _ _ => True) 16 0 () (by omega) trivial
    (fun n _ _ => pk_le 16 16 (fun _ => by rw [fin]; exact qm_ref60 hc hh ha hr H) (fun z => absurd z (by omega)))
    (fun n i _ hi _ hw => pk_le 16 i (fun z => absurd z (by omega)) (fun _ => ⟨pk_in i 16 hi, by
      rw [nI_clamp (show i < 2 ^ 31 by omega)]
      exact br_c (fun y => nm_r ((key i hi).1 y) (nm_r (nI_1 i) (hw () trivial))) (fun y => nm_r ((key i hi).2 y) (nm_r (nI_1 i) (hw () trivial)))⟩))
  obtain ⟨n, hn⟩ := L
  rw [start] at hn
  exact ⟨n, hn⟩
end
section
/-! ===== the methods behind refresh: one prime at most ===== -/
/-- the best cover: the one prime where rows must be covered -/
def qm_b (h : Nat) : Nat := if h = 1 then 1 else 0
/-- what stands in the arrays behind refresh -/
def qm_K (c h : Nat) (a2 a5 : Nat → Int32) : Prop := c < 81 ∧ h < 3 ∧ (∀ j, j < 81 → a2 j = nI (qm_w j)) ∧ (¬ h = 0 → a5 0 = nI c)
theorem qm_n0 {h : Nat} (e : h = 0) : qm_n h = 0 := if_pos e
theorem qm_n1 {h : Nat} (e : ¬ h = 0) : qm_n h = 1 := if_neg e
theorem qm_b1 {h : Nat} (e : h = 1) : qm_b h = 1 := if_pos e
theorem qm_b0 {h : Nat} (e : ¬ h = 1) : qm_b h = 0 := if_neg e
theorem qm_n2 (h : Nat) : qm_n h < 2 := by
  by_cases e : h = 0
  · rw [qm_n0 e]; decide
  · rw [qm_n1 e]; decide
theorem qm_bn (h : Nat) : qm_b h ≤ qm_n h := by
  by_cases e : h = 1
  · rw [qm_b1 e, qm_n1 (by omega)]; decide
  · rw [qm_b0 e]; omega
theorem qm_b2 (h : Nat) : qm_b h < 2 := by
  have := qm_bn h
  have := qm_n2 h
  omega
theorem qm_cl0 : (0 : Int32).toNatClampNeg = 0 := by decide
theorem qm_s1 : ∀ s, s < 2 → (nI s >>> ((0 : Int32) &&& 31)) &&& 1 = nI s := by decide +kernel
theorem qm_sn : ∀ n, n < 2 → ((1 : Int32) <<< (nI n &&& 31)) - 1 = nI n ∧ (1 : Int32) <<< (nI n &&& 31) = nI (2 ^ n) := by decide +kernel
theorem qm_wt : ∀ c, c < 81 → ∀ k, k < 16 → qm_t (qm_w c) k = 1 → ¬ qm_w c % 2 ^ (k + 1) = 0 := by decide +kernel
theorem qm_holders {post : Int32 → Prop} {f1 f2 f3 f4 f5 : Int32} {a1 a2 a3 a4 a5 a6 a7 a8 : Nat → Int32} {c h r : Nat} (K : qm_K c h a2 a5) (hr : r < 16) (H : post (nI (qm_n h * qm_t (qm_w c) r))) :
    wpX_holders post (nI (qm_n h), f1, f2, f3, f4, f5, a1, a2, a3, a4, a5, a6, a7, a8) (nI r) := by
  obtain ⟨hc, hh, ha, h5⟩ := K
  by_cases h0 : h = 0
  · rw [qm_n0 h0, Nat.zero_mul] at H
    rw [qm_n0 h0]
    exact ⟨1, pk_le 0 0 (fun _ => H) (fun z => absurd z (by omega))⟩
  · rw [qm_n1 h0, Nat.one_mul] at H
    rw [qm_n1 h0]
    refine ⟨2, pk_le 1 0 (fun z => absurd z (by omega)) (fun _ => ⟨pk_in 0 32 (by omega), ?_⟩)⟩
    rw [qm_cl0, h5 h0]
    refine ⟨pk_in c 81 hc, pk_eq (qm_t (qm_w c) r) 1 (fun z => nm_r (show _ = nI 1 by decide) (nm_r (show _ = nI 1 by decide) (pk_le 1 1 (fun _ => ?_) (fun t => absurd t (by omega))))) (fun z => nm_r (show _ = nI 1 by decide) (pk_le 1 1 (fun _ => ?_) (fun t => absurd t (by omega)))) (hx := qm_bit ha hc hr) (ha := qm_tB _ _)⟩
    · rw [z] at H; exact H
    · have t2 := qm_t2 (qm_w c) r
      rw [show qm_t (qm_w c) r = 0 by omega] at H; exact H
/-- needed so far -/
def qm_nd (c h k : Nat) : Nat := if h = 1 ∧ ¬ qm_w c % 2 ^ k = 0 then 1 else 0
theorem qm_needed {post : Int32 → Prop} {f2 f3 f4 f5 : Int32} {a1 a2 a3 a4 a5 a6 a7 a8 : Nat → Int32} {c h : Nat} (K : qm_K c h a2 a5) (H : post (nI (qm_b h))) :
    wpX_neededSet post (nI (qm_n h), nI (qm_o c h), f2, f3, f4, f5, a1, a2, a3, a4, a5, a6, a7, a8) := by
  have K' := K
  obtain ⟨hc, hh, ha, h5⟩ := K'
  have fin : qm_nd c h 16 = qm_b h := by
    unfold qm_nd
    rw [(qm_w16 c hc).1]
    by_cases e : h = 1
    · rw [if_pos ⟨e, (qm_w16 c hc).2.1⟩, qm_b1 e]
    · rw [if_neg (fun t => e t.1), qm_b0 e]
  have start : nI (qm_nd c h 0) = 0 := by
    unfold qm_nd
    rw [if_neg (fun t => t.2 (by rw [Nat.pow_zero, Nat.mod_one]))]
    rfl
  have L := pk_loop (σ := Unit) (fun n i _ => wX_neededSet_4 post (nI (qm_n h)) (nI (qm_o c h)) f2 f3 f4 f5 a1 a2 a3 a4 a5 a6 a7 a8 n (nI (qm_nd c h i)) (nI i)) (fun _ _ => True) 16 0 () (by omega) trivial
    (fun n _ _ => pk_le 16 16 (fun _ => by rw [fin]; exact H) (fun z => absurd z (by omega)))
    (fun n i _ hi _ hw => pk_le 16 i (fun z => absurd z (by omega)) (fun _ => qm_holders K hi (by
      have hw' := hw () trivial
      by_cases e : h = 1
      · have eo : qm_o c h = qm_w c := if_pos e
        rw [eo] at hw' ⊢
        rw [qm_sw c hc i hi]
        by_cases t : qm_t (qm_w c) i = 1
        · have n1 : qm_nd c h (i + 1) = 1 := if_pos ⟨e, qm_wt c hc i hi t⟩
          rw [n1] at hw'
          rw [t, qm_n1 (by omega)] at *
          refine br_t rfl (br_t (by decide) (nm_r (show _ = nI 1 from ?_) (nm_r (nI_1 i) hw')))
          unfold qm_nd
          by_cases g : h = 1 ∧ ¬ qm_w c % 2 ^ i = 0
          · rw [if_pos g]; decide
          · rw [if_neg g]; decide
        · have n1 : qm_nd c h (i + 1) = qm_nd c h i := by
            unfold qm_nd
            rw [(qm_or c hc i hi).2 t]
          rw [n1] at hw'
          have t2 := qm_t2 (qm_w c) i
          exact br_f (by rw [show qm_t (qm_w c) i = 0 by omega]; decide) (nm_r (nI_1 i) hw')
      · have eo : qm_o c h = 0 := if_neg e
        have n1 : qm_nd c h (i + 1) = qm_nd c h i := by
          unfold qm_nd
          rw [if_neg (fun t => e t.1), if_neg (fun t => e t.1)]
        rw [n1] at hw'
        refine br_f ?_ (nm_r (nI_1 i) hw')
        rw [eo, nI_0, qm_s0 i hi]
        decide)))
  obtain ⟨n, hn⟩ := L
  rw [start] at hn
  exact ⟨n, hn⟩
theorem qm_uncov {post : Int32 → Prop} {f2 f3 f4 f5 : Int32} {a1 a2 a3 a4 a5 a6 a7 a8 : Nat → Int32} {c h s : Nat} (K : qm_K c h a2 a5) (hs : s ≤ qm_n h) (H0 : s = 0 → post (nI (qm_o c h))) (H1 : s = 1 → post 0) :
    wpX_uncovered post (nI (qm_n h), nI (qm_o c h), f2, f3, f4, f5, a1, a2, a3, a4, a5, a6, a7, a8) (nI s) := by
  obtain ⟨hc, hh, ha, h5⟩ := K
  by_cases h0 : h = 0
  · rw [qm_n0 h0] at hs ⊢
    exact ⟨1, pk_le 0 0 (fun _ => H0 (by omega)) (fun z => absurd z (by omega))⟩
  · rw [qm_n1 h0] at hs ⊢
    refine ⟨2, pk_le 1 0 (fun z => absurd z (by omega)) (fun _ => ?_)⟩
    rw [qm_s1 s (by omega), qm_cl0, h5 h0, qm_cl81 hc, ha c hc]
    refine pk_eq s 1 (fun z => ⟨pk_in 0 32 (by omega), pk_in c 81 hc, nm_r (show _ = 0 from ?_) (nm_r (show _ = nI 1 by decide) (pk_le 1 1 (fun _ => H1 z) (fun t => absurd t (by omega))))⟩) (fun z => nm_r (show _ = nI 1 by decide) (pk_le 1 1 (fun _ => H0 (by omega)) (fun t => absurd t (by omega))))
    by_cases e : h = 1
    · rw [show qm_o c h = qm_w c from if_pos e]; exact (qm_wI c hc).1
    · rw [show qm_o c h = 0 from if_neg e]; exact qm_0and _
theorem qm_len {post : Int32 → Prop} {f1 f2 f3 f4 f5 : Int32} {a1 a2 a3 a4 a5 a6 a7 a8 : Nat → Int32} {c h s : Nat} (K : qm_K c h a2 a5) (hs : s ≤ qm_n h) (H : post (nI (s * (4 - qm_f c)))) :
    wpX_lengthOf post (nI (qm_n h), f1, f2, f3, f4, f5, a1, a2, a3, a4, a5, a6, a7, a8) (nI s) := by
  obtain ⟨hc, hh, ha, h5⟩ := K
  by_cases h0 : h = 0
  · rw [qm_n0 h0] at hs ⊢
    rw [show s = 0 by omega, Nat.zero_mul] at H
    exact ⟨1, pk_le 0 0 (fun _ => H) (fun z => absurd z (by omega))⟩
  · rw [qm_n1 h0] at hs ⊢
    refine ⟨2, pk_le 1 0 (fun z => absurd z (by omega)) (fun _ => ?_)⟩
    rw [qm_s1 s (by omega), qm_cl0, h5 h0]
    refine pk_eq s 1 (fun z => ⟨pk_in 0 32 (by omega), qm_free hc (nm_r (show _ = nI (4 - qm_f c) from ?_) (nm_r (show _ = nI 1 by decide) (pk_le 1 1 (fun _ => ?_) (fun t => absurd t (by omega)))))⟩) (fun z => nm_r (show _ = nI 1 by decide) (pk_le 1 1 (fun _ => ?_) (fun t => absurd t (by omega))))
    · rw [show (4 : Int32) - nI (qm_f c) = nI (4 - qm_f c) from pk_sub (a := 4) (qm_wI c hc).2.2]
      exact (nI_add 0 _).trans (congrArg nI (Nat.zero_add _))
    · rw [z, Nat.one_mul] at H; exact H
    · rw [show s = 0 by omega, Nat.zero_mul] at H; exact H
/-- the cost of s primes -/
def qm_c (c s : Nat) : Nat := 1000 * s + s * (4 - qm_f c)
theorem qm_cost (c s : Nat) : 1000 * nI s + nI (s * (4 - qm_f c)) = nI (qm_c c s) := by
  rw [show (1000 : Int32) * nI s = nI (1000 * s) from pk_mul 1000 s, nI_add]
  rfl
theorem qm_c0 (c : Nat) : qm_c c 0 = 0 := by
  unfold qm_c
  rw [Nat.mul_zero, Nat.zero_mul]
theorem qm_c1 (c : Nat) : 1000 ≤ qm_c c 1 ∧ qm_c c 1 ≤ 1004 := by
  unfold qm_c
  omega
theorem qm_cB {c s : Nat} (hs : s < 2) : qm_c c s < 2 ^ 31 := by
  have h1 := qm_c1 c
  have h0 := qm_c0 c
  by_cases e : s = 0
  · rw [e, h0]; decide
  · rw [show s = 1 by omega]; omega
theorem qm_offer {post : St2 → Prop} {f5 : Int32} {a1 a2 a3 a4 a5 a6 a7 a8 : Nat → Int32} {c h : Nat} (K : qm_K c h a2 a5)
    (H : ∀ x, post (nI (qm_n h), nI (qm_o c h), x, nI (qm_b h), 1, f5, a1, a2, a3, a4, a5, a6, a7, a8)) :
    wpX_offer post (nI (qm_n h), nI (qm_o c h), nI (qm_c c (qm_n h)), nI (qm_n h), 0, f5, a1, a2, a3, a4, a5, a6, a7, a8) (nI (qm_b h)) := by
  have n2 := qm_n2 h
  have b2 := qm_b2 h
  have bn := qm_bn h
  refine qm_ones (u := ()) b2 (br_t rfl (qm_len K bn (nm_r (qm_cost c (qm_b h)) ?_)))
  refine pk_lt (qm_c c (qm_b h)) (qm_c c (qm_n h)) (fun _ => H _) (fun z => ?_) (ha := qm_cB b2) (hb := qm_cB n2)
  have e : qm_b h = qm_n h := by
    have h1 := qm_c1 c
    have h0 := qm_c0 c
    by_cases e : qm_b h = qm_n h
    · exact e
    · rw [show qm_b h = 0 by omega, show qm_n h = 1 by omega] at z
      omega
  refine pk_eq (qm_c c (qm_b h)) (qm_c c (qm_n h)) (fun _ => pk_lt (qm_b h) (qm_n h) (fun t => absurd t (by omega)) (fun _ => br_t rfl (qm_ones (u := ()) n2 (pk_le (qm_n h) (qm_b h) (fun _ => ?_) (fun t => absurd t (by omega)))))) (fun t => absurd (by rw [e]) t) (ha := qm_cB b2) (hb := qm_cB n2)
  have t := H (nI (qm_c c (qm_n h)))
  rw [show nI (qm_b h) = nI (qm_n h) by rw [e]] at t
  exact t
theorem qm_opn {post : St2 → Prop} {f5 : Int32} {a1 a2 a3 a4 a5 a6 a7 a8 : Nat → Int32} {c h : Nat} (K : qm_K c h a2 a5) (h6 : a6 0 = nI (qm_b h))
    (H : ∀ x, post (nI (qm_n h), nI (qm_o c h), x, nI (qm_b h), 1, f5, a1, a2, a3, a4, a5, a6, a7, upd a8 0 0)) :
    wpX_open post (nI (qm_n h), nI (qm_o c h), nI (qm_c c (qm_n h)), nI (qm_n h), 0, f5, a1, a2, a3, a4, a5, a6, a7, a8) 0 := by
  refine ⟨pk_in 0 34 (by omega), nm_r (show _ = nI (qm_b h) from ?_) ?_⟩
  · rw [qm_cl0]; exact h6
  · refine qm_uncov K (qm_bn h) (fun e => ⟨pk_in 0 34 (by omega), nm_r (show _ = upd a8 0 0 by rw [qm_cl0]) (br_t ?_ (qm_offer K H))⟩) (fun e => ⟨pk_in 0 34 (by omega), nm_r (show _ = upd a8 0 0 by rw [qm_cl0]) (br_t rfl (qm_offer K H))⟩)
    have h1 : ¬ h = 1 := fun t => by rw [qm_b1 t] at e; omega
    rw [show qm_o c h = 0 from if_neg h1]
    rfl
theorem qm_s73 {post : St2 → Prop} {f0 f1 f2 f3 f4 f5 : Int32} {a1 a2 a3 a4 a5 a6 a7 a8 : Nat → Int32} (h8 : a8 0 = 0) (H : post (f0, f1, f2, f3, f4, f5, a1, a2, a3, a4, a5, a6, a7, a8)) :
    ∃ n, wX_search_73 post n 0 0 f0 f1 f2 f3 f4 f5 a1 a2 a3 a4 a5 a6 a7 a8 :=
  ⟨2, br_f (by decide) (br_f (by decide) ⟨pk_in 0 34 (by omega), br_t (by rw [qm_cl0]; exact h8) (nm_e (nm_e (br_f (by decide) (br_t (by decide) H))))⟩)⟩
theorem qm_search {post : St2 → Prop} {f2 f3 f4 : Int32} {a1 a2 a3 a4 a5 a6 a7 a8 : Nat → Int32} {c h : Nat} (K : qm_K c h a2 a5)
    (H : ∀ x b6 b7 b8, post (nI (qm_n h), nI (qm_o c h), x, nI (qm_b h), 1, 1, a1, a2, a3, a4, a5, b6, b7, b8)) :
    wpX_search post (nI (qm_n h), nI (qm_o c h), f2, f3, f4, 1, a1, a2, a3, a4, a5, a6, a7, a8) 0 := by
  have n2 := qm_n2 h
  refine br_f (by decide) (nm_r (qm_sn _ n2).1 (qm_ones (u := ()) n2 (qm_len K (Nat.le_refl _) (nm_r (qm_cost c (qm_n h)) (qm_needed K (nm_r (show _ = upd a6 0 (nI (qm_b h)) by rw [qm_0or]) (nm_e (qm_opn K pk_us (fun x => qm_s73 pk_us (H x _ _ _))))))))))
end
section
/-! ===== the law ===== -/
theorem qm_351 {post : Int32 → St0 → Prop} {mc ms kc ks : Nat} {z : Int32} (hp : post 1 ()) : wL_lawOf_351 post mc ms z z kc ks := br_t rfl hp
theorem qm_pB (h : Nat) : 2 ^ qm_n h < 2 ^ 31 := Nat.pow_lt_pow_right (by decide) (by have := qm_n2 h; omega)
theorem qm_covT {post : Int32 → St2 → Prop} {f2 f3 f4 : Int32} {a1 a2 a3 a4 a5 a6 a7 a8 : Nat → Int32} {c h : Nat} {s : Nat} (K : qm_K c h a2 a5) (hs : s ≤ qm_n h) (H0 : s < qm_b h → post 0 (nI (qm_n h), nI (qm_o c h), f2, f3, f4, 1, a1, a2, a3, a4, a5, a6, a7, a8)) (H1 : ¬ s < qm_b h → post 1 (nI (qm_n h), nI (qm_o c h), f2, f3, f4, 1, a1, a2, a3, a4, a5, a6, a7, a8)) :
    wpX_covers post (nI (qm_n h), nI (qm_o c h), f2, f3, f4, 1, a1, a2, a3, a4, a5, a6, a7, a8) (nI s) := by
  have n2 := qm_n2 h
  have b2 := qm_b2 h
  have hB := qm_pB h
  have hlt : s < 2 ^ qm_n h := Nat.lt_of_le_of_lt hs Nat.lt_two_pow_self
  have hw := qm_w16 c K.1
  refine br_f (by decide) (pk_lt s 0 (fun z => absurd z (by omega)) (fun _ => pk_lt s (2 ^ qm_n h) (fun _ => qm_uncov K hs (fun e => ?_) (fun e => br_t rfl (H1 (by omega)))) (fun z => absurd z (by omega)) (hy := (qm_sn _ n2).2) (ha := by omega) (hb := hB)))
  by_cases e1 : h = 1
  · refine br_f ?_ (H0 (by rw [e, qm_b1 e1]; omega))
    rw [show qm_o c h = qm_w c from if_pos e1]
    exact nI_ne0 (by omega) (by omega)
  · refine br_t ?_ (H1 (by rw [qm_b0 e1]; omega))
    rw [show qm_o c h = 0 from if_neg e1]
    rfl
theorem qm_covF {post : Int32 → St2 → Prop} {f2 f3 f4 : Int32} {a1 a2 a3 a4 a5 a6 a7 a8 : Nat → Int32} {c h : Nat} {x : Int32} (hx : ¬ x < 0 → ¬ x < nI (2 ^ qm_n h)) (H : post (-1) (nI (qm_n h), nI (qm_o c h), f2, f3, f4, 1, a1, a2, a3, a4, a5, a6, a7, a8)) :
    wpX_covers post (nI (qm_n h), nI (qm_o c h), f2, f3, f4, 1, a1, a2, a3, a4, a5, a6, a7, a8) x := by
  refine br_f (by decide) (br_c (fun _ => H) (fun z => br_f ?_ H))
  rw [(qm_sn _ (qm_n2 h)).2]
  exact hx z
theorem qm_318 {post : Int32 → St0 → Prop} {mc ms kc ks : Nat} {f2 f3 f4 : Int32} {a1 a2 a3 a4 a5 a6 a7 a8 : Nat → Int32} {c h : Nat} {s : Nat} (K : qm_K c h a2 a5) (hs : s ≤ qm_n h) (hp : post 1 ()) :
    wL_lawOf_318 post mc ms (nI s) (nI (qm_b h)) kc ks (nI (qm_n h)) (nI (qm_o c h)) f2 f3 f4 1 a1 a2 a3 a4 a5 a6 a7 a8 := by
  have n2 := qm_n2 h
  have b2 := qm_b2 h
  unfold wL_lawOf_318 wL_lawOf_323
  exact qm_covT K hs (fun e => br_f (by decide) (pk_lt s (qm_b h) (fun _ => qm_351 hp) (fun z => absurd z (by omega)))) (fun e => br_f (by decide) (pk_lt s (qm_b h) (fun z => absurd z e) (fun _ => qm_351 hp)))
theorem qm_322 {post : Int32 → St0 → Prop} {mc ms kc ks : Nat} {f2 f3 f4 : Int32} {a1 a2 a3 a4 a5 a6 a7 a8 : Nat → Int32} {c h : Nat} {x3 x13 : Int32} (hx : ¬ x3 < 0 → ¬ x3 < nI (2 ^ qm_n h)) (hp : post 1 ()) :
    wL_lawOf_322 post mc ms x3 x13 kc ks (nI (qm_n h)) (nI (qm_o c h)) f2 f3 f4 1 a1 a2 a3 a4 a5 a6 a7 a8 := by
  unfold wL_lawOf_322 wL_lawOf_323
  exact qm_covF hx (br_t rfl (qm_351 hp))
theorem qm_288 {post : Int32 → St0 → Prop} {mc ms kc ks : Nat} {x3 x12 x13 z0 z1 : Int32} {f2 f3 f4 : Int32} {a1 a2 a3 a4 a5 a6 a7 a8 : Nat → Int32} {c h : Nat} (K : qm_K c h a2 a5) (hz : z1 = z0) (h12 : x12 = nI (qm_n h)) (h13 : x13 = nI (qm_b h)) (hp : post 1 ()) :
    wL_lawOf_288 post mc ms x3 x12 x13 z0 z1 kc ks (nI (qm_n h)) (nI (qm_o c h)) f2 f3 f4 1 a1 a2 a3 a4 a5 a6 a7 a8 := by
  subst h12
  subst h13
  have n2 := qm_n2 h
  refine br_t hz (qm_search K (fun x b6 b7 b8 => br_t rfl (br_c (fun e => ?_) (fun e => br_c (fun e1 => pk_eq (qm_n h) 0 (fun g => ?_) (fun g => ?_)) (fun e1 => ?_)))))
  · rw [e]
    exact qm_318 (s := 0) K (by omega) hp
  · refine qm_322 (fun _ => ?_) hp
    rw [e1, g]
    decide
  · rw [e1]
    exact qm_318 (s := 1) K (by omega) hp
  · refine qm_322 (fun z => ?_) hp
    obtain ⟨j, hj, ej⟩ := nI_of z
    rw [ej] at e e1 ⊢
    have j0 : ¬ j = 0 := fun t => e (by rw [t]; rfl)
    have j1 : ¬ j = 1 := fun t => e1 (by rw [t]; rfl)
    have hb : 2 ^ qm_n h ≤ 2 ^ 1 := Nat.pow_le_pow_right (by decide) (by omega)
    exact nI_nlt (by omega) hj
theorem qm_235 {post : Int32 → St0 → Prop} {mc ms kc ks : Nat} {x3 x11 x12 z : Int32} {f2 f3 f4 : Int32} {a1 a2 a3 a4 a5 a6 a7 a8 : Nat → Int32} {c h : Nat} (K : qm_K c h a2 a5) (hz : z = nI (qm_b h)) (h12 : x12 = nI (qm_n h)) (h11 : h = 1 → x11 = nI (qm_f c)) (hp : post 1 ()) :
    wL_lawOf_235 post mc ms x3 x11 x12 z kc ks (nI (qm_n h)) (nI (qm_o c h)) f2 f3 f4 1 a1 a2 a3 a4 a5 a6 a7 a8 := by
  subst hz
  have n2 := qm_n2 h
  have b2 := qm_b2 h
  refine qm_search K (fun _ _ _ _ => qm_ones (u := ()) b2 (br_t rfl (qm_search K (fun _ _ _ _ => br_t rfl (br_f (by decide) (qm_needed K (br_t rfl (qm_search K (fun _ _ _ _ => qm_len K (qm_bn h) ?_)))))))))
  refine pk_eq (qm_b h) 1 (fun e => qm_288 K ?_ h12 rfl hp) (fun e => qm_288 K ?_ h12 rfl hp)
  · have h1 : h = 1 := Classical.byContradiction (fun t => by rw [qm_b0 t] at e; omega)
    rw [h11 h1, e, Nat.one_mul]
    exact (pk_sub (a := 4) (qm_wI c K.1).2.2).symm
  · rw [show qm_b h = 0 by omega, Nat.zero_mul]
    rfl
theorem qm_215 {post : Int32 → St0 → Prop} {mc ms kc ks : Nat} {x1 x3 x11 x12 z0 z1 : Int32} {f2 f3 f4 : Int32} {a1 a2 a3 a4 a5 a6 a7 a8 : Nat → Int32} {c h : Nat} (K : qm_K c h a2 a5) (hz : z1 = z0) (h12 : x12 = nI (qm_n h)) (hx : ¬ h = 0 → x1 = nI h ∧ x11 = nI (qm_f c)) (hp : post 1 ()) :
    wL_lawOf_215 post mc ms x1 x3 x11 x12 z0 z1 kc ks (nI (qm_n h)) (nI (qm_o c h)) f2 f3 f4 1 a1 a2 a3 a4 a5 a6 a7 a8 := by
  have n2 := qm_n2 h
  have h11 : h = 1 → x11 = nI (qm_f c) := fun e => (hx (by omega)).2
  refine br_t hz ?_
  refine pk_eq (qm_n h) 0 (fun e => ?_) (fun e => ?_) (hx := h12)
  · have h0 : h = 0 := Classical.byContradiction (fun t => by rw [qm_n1 t] at e; omega)
    exact qm_235 K (by rw [qm_b0 (by omega)]; rfl) h12 h11 hp
  · have h0 : ¬ h = 0 := fun t => e (qm_n0 t)
    have hh := K.2.1
    refine pk_eq h 1 (fun g => ?_) (fun g => ?_) (hx := (hx h0).1)
    · exact qm_235 K (by rw [qm_b1 g]; rfl) h12 h11 hp
    · exact qm_235 K (by rw [qm_b0 g]; rfl) h12 h11 hp
theorem qm_196 {post : Int32 → St0 → Prop} {mc ms kc ks : Nat} {x0 x1 x3 x11 x12 z0 z1 : Int32} {f2 f3 f4 : Int32} {a1 a2 a3 a4 a5 a6 a7 a8 : Nat → Int32} {c h : Nat} (K : qm_K c h a2 a5) (hz : z1 = z0) (h12 : x12 = nI (qm_n h)) (hx : ¬ h = 0 → x0 = nI c ∧ x1 = nI h ∧ x11 = nI (qm_f c)) (hp : post 1 ()) :
    wL_lawOf_196 post mc ms x0 x1 x3 x11 x12 z0 z1 kc ks (nI (qm_n h)) (nI (qm_o c h)) f2 f3 f4 1 a1 a2 a3 a4 a5 a6 a7 a8 := by
  have n2 := qm_n2 h
  have hx2 : ¬ h = 0 → x1 = nI h ∧ x11 = nI (qm_f c) := fun t => (hx t).2
  refine br_t hz (br_f (by decide) (br_f (by decide) (pk_le (qm_n h) 0 (fun e => pk_eq (qm_n h) 0 (fun _ => qm_215 K rfl h12 hx2 hp) (fun t => absurd t (by omega)) (hx := h12)) (fun e => ⟨pk_in 0 32 (by omega), pk_eq (qm_n h) 0 (fun t => absurd t (by omega)) (fun _ => qm_215 K ?_ h12 hx2 hp) (hx := h12)⟩))))
  have h0 : ¬ h = 0 := fun t => by rw [qm_n0 t] at e; omega
  rw [qm_cl0, K.2.2.2 h0, (hx h0).1]
theorem qm_176 {post : Int32 → St0 → Prop} {mc ms kc ks : Nat} {x0 x1 x3 x11 x12 z0 z1 : Int32} {f0 f1 f2 f3 f4 : Int32} {a1 a2 a3 a4 a5 a6 a7 a8 : Nat → Int32} {c h : Nat} (hc : c < 81) (hh : h < 3) (ha : ∀ j, j < 81 → a2 j = nI (qm_w j)) (hr : qm_rows c h a1) (hz : z1 = z0) (h12 : x12 = nI (qm_n h)) (hx : ¬ h = 0 → x0 = nI c ∧ x1 = nI h ∧ x11 = nI (qm_f c)) (hp : post 1 ()) :
    wL_lawOf_176 post mc ms x0 x1 x3 x11 x12 z0 z1 kc ks f0 f1 f2 f3 f4 0 a1 a2 a3 a4 a5 a6 a7 a8 := by
  have n2 := qm_n2 h
  refine br_t hz (qm_ref hc hh ha hr (fun b3 b4 b5 h5 => ?_))
  refine pk_eq (qm_n h) 0 (fun e => qm_196 ⟨hc, hh, ha, h5⟩ ?_ h12 hx hp) (fun e => qm_196 ⟨hc, hh, ha, h5⟩ ?_ h12 hx hp) (hx := h12)
  · rw [e]; rfl
  · rw [show qm_n h = 1 by omega]; rfl
theorem qm_rows0 {a1 : Nat → Int32} (h0 : ∀ j, a1 j = 0) : qm_rows 0 0 a1 := fun j _ => ⟨fun _ => h0 j, fun _ => h0 j⟩
/-- fill refused, or filled with 0 -/
theorem qm_176z {post : Int32 → St0 → Prop} {mc ms kc ks : Nat} {x0 x1 x3 x11 z : Int32} {f0 f1 f2 f3 f4 : Int32} {a1 a2 a3 a4 a5 a6 a7 a8 : Nat → Int32} (ha : ∀ j, j < 81 → a2 j = nI (qm_w j)) (h0 : ∀ j, a1 j = 0) (hp : post 1 ()) :
    wL_lawOf_176 post mc ms x0 x1 x3 x11 0 z z kc ks f0 f1 f2 f3 f4 0 a1 a2 a3 a4 a5 a6 a7 a8 :=
  qm_176 (c := 0) (h := 0) (by omega) (by omega) ha (qm_rows0 h0) rfl rfl (fun t => absurd rfl t) hp
theorem qm_136A {post : Int32 → St0 → Prop} {mc ms kc ks : Nat} {x0 x1 x3 x6 x11 : Int32} {f0 f1 f2 f3 f4 : Int32} {a1 a2 a3 a4 a5 a6 a7 a8 : Nat → Int32} (ha : ∀ j, j < 81 → a2 j = nI (qm_w j)) (h0 : ∀ j, a1 j = 0) (hx : x0 < 0 ∨ 80 < x0) (hp : post 1 ()) :
    wL_lawOf_136 post mc ms x0 x1 x3 0 x6 x11 0 kc ks f0 f1 f2 f3 f4 0 a1 a2 a3 a4 a5 a6 a7 a8 := by
  refine br_c (fun _ => ?_) (fun z => br_t ?_ ?_)
  · exact br_t rfl (br_t rfl (qm_176z ha h0 hp))
  · obtain ⟨j, hj, ej⟩ := nI_of z
    have g := hx.resolve_left z
    rw [ej] at g ⊢
    have g' : 80 < j := (nI_ltI (a := 80) (by omega) hj).mp g
    exact nI_le (a := 81) (by omega) hj
  · exact br_t rfl (br_t rfl (qm_176z ha h0 hp))
theorem qm_136B {post : Int32 → St0 → Prop} {mc ms kc ks : Nat} {x1 x3 x11 : Int32} {f0 f1 f2 f3 f4 : Int32} {a1 a2 a3 a4 a5 a6 a7 a8 : Nat → Int32} {c : Nat} (hc : c < 81) (ha : ∀ j, j < 81 → a2 j = nI (qm_w j)) (h0 : ∀ j, a1 j = 0) (hx : x1 < 0 ∨ 2 < x1) (hp : post 1 ()) :
    wL_lawOf_136 post mc ms (nI c) x1 x3 1 0 x11 0 kc ks f0 f1 f2 f3 f4 0 a1 a2 a3 a4 a5 a6 a7 a8 := by
  refine pk_lt c 0 (fun z => absurd z (by omega)) (fun _ => pk_le 81 c (fun z => absurd z (by omega)) (fun _ => br_f (by decide) (br_c (fun _ => ?_) (fun z => br_f ?_ ?_))))
  · exact br_f (by decide) (br_t rfl (qm_176z ha h0 hp))
  · exact Int32.not_le.mpr (hx.resolve_left z)
  · exact br_f (by decide) (br_t rfl (qm_176z ha h0 hp))
theorem qm_136C {post : Int32 → St0 → Prop} {mc ms kc ks : Nat} {x3 x11 x12 : Int32} {f0 f1 f2 f3 f4 : Int32} {a1 a2 a3 a4 a5 a6 a7 a8 : Nat → Int32} {c h : Nat} (hc : c < 81) (hh : h < 3) (ha : ∀ j, j < 81 → a2 j = nI (qm_w j)) (h0 : ∀ j, a1 j = 0) (h12 : x12 = nI (qm_n h)) (h11 : x11 = nI (qm_f c)) (hp : post 1 ()) :
    wL_lawOf_136 post mc ms (nI c) (nI h) x3 1 1 x11 x12 kc ks f0 f1 f2 f3 f4 0 a1 a2 a3 a4 a5 a6 a7 a8 := by
  refine qm_fill hc hh ha h0 (fun a hr => br_f (by decide) (br_f (by decide) (pk_le h 0 (fun e => ?_) (fun e => ?_))))
  · exact qm_176 hc hh ha hr (by rw [show qm_ch c h 16 = 0 from if_pos (by omega)]; rfl) h12 (fun _ => ⟨rfl, rfl, h11⟩) hp
  · exact qm_176 hc hh ha hr (by rw [h11, show qm_ch c h 16 = qm_pc (qm_w c) 16 from if_neg (by omega)]; exact (qm_wI c hc).2.1.symm) h12 (fun _ => ⟨rfl, rfl, h11⟩) hp
theorem qm_114A {post : Int32 → St0 → Prop} {mc ms kc ks : Nat} {x0 x1 x3 x6 z0 z1 : Int32} {f0 f1 f2 f3 f4 : Int32} {a1 a2 a3 a4 a5 a6 a7 a8 : Nat → Int32} (ha : ∀ j, j < 81 → a2 j = nI (qm_w j)) (h0 : ∀ j, a1 j = 0) (hx : x0 < 0 ∨ 80 < x0) (hp : post 1 ()) :
    wL_lawOf_114 post mc ms x0 x1 x3 0 x6 z0 z1 kc ks f0 f1 f2 f3 f4 0 a1 a2 a3 a4 a5 a6 a7 a8 := nm_e (br_t rfl (qm_136A ha h0 hx hp))
theorem qm_114B {post : Int32 → St0 → Prop} {mc ms kc ks : Nat} {x1 x3 z0 z1 : Int32} {f0 f1 f2 f3 f4 : Int32} {a1 a2 a3 a4 a5 a6 a7 a8 : Nat → Int32} {c : Nat} (hc : c < 81) (ha : ∀ j, j < 81 → a2 j = nI (qm_w j)) (h0 : ∀ j, a1 j = 0) (hx : x1 < 0 ∨ 2 < x1) (hp : post 1 ()) :
    wL_lawOf_114 post mc ms (nI c) x1 x3 1 0 z0 z1 kc ks f0 f1 f2 f3 f4 0 a1 a2 a3 a4 a5 a6 a7 a8 := nm_e (br_f (by decide) (br_t rfl (qm_136B hc ha h0 hx hp)))
theorem qm_114C {post : Int32 → St0 → Prop} {mc ms kc ks : Nat} {x3 z0 z1 : Int32} {f0 f1 f2 f3 f4 : Int32} {a1 a2 a3 a4 a5 a6 a7 a8 : Nat → Int32} {c h : Nat} (hc : c < 81) (hh : h < 3) (ha : ∀ j, j < 81 → a2 j = nI (qm_w j)) (h0 : ∀ j, a1 j = 0) (h11 : z1 + z0 = nI (qm_f c)) (hp : post 1 ()) :
    wL_lawOf_114 post mc ms (nI c) (nI h) x3 1 1 z0 z1 kc ks f0 f1 f2 f3 f4 0 a1 a2 a3 a4 a5 a6 a7 a8 :=
  nm_e (br_f (by decide) (br_f (by decide) (pk_le h 0 (fun e => qm_136C hc hh ha h0 (by rw [qm_n0 (by omega)]; rfl) h11 hp) (fun e => qm_136C hc hh ha h0 (by rw [qm_n1 (by omega)]; rfl) h11 hp))))
theorem qm_2p {x : Int32} (e : x = 2) : 1 = qm_2 x := (if_pos e).symm
theorem qm_2n {x : Int32} (e : ¬ x = 2) : 0 = qm_2 x := (if_neg e).symm
theorem qm_102 {post : Int32 → St0 → Prop} {mc ms kc ks : Nat} {x0 x1 x3 x5 x6 x10 z0 z1 : Int32} {f5 : Int32} {f0 f1 f2 f3 f4 : Int32} {a1 a2 a3 a4 a5 a6 a7 a8 : Nat → Int32} (H : ∀ z, z = qm_2 x10 → wL_lawOf_114 post mc ms x0 x1 x3 x5 x6 z (z1 + z0) kc ks f0 f1 f2 f3 f4 f5 a1 a2 a3 a4 a5 a6 a7 a8) :
    wL_lawOf_102 post mc ms x0 x1 x3 x5 x6 x10 z0 z1 kc ks f0 f1 f2 f3 f4 f5 a1 a2 a3 a4 a5 a6 a7 a8 := br_c (fun e => H 1 (qm_2p e)) (fun e => H 0 (qm_2n e))
theorem qm_90 {post : Int32 → St0 → Prop} {mc ms kc ks : Nat} {x0 x1 x3 x5 x6 x9 x10 z0 z1 : Int32} {f5 : Int32} {f0 f1 f2 f3 f4 : Int32} {a1 a2 a3 a4 a5 a6 a7 a8 : Nat → Int32} (H : ∀ z, z = qm_2 x9 → wL_lawOf_102 post mc ms x0 x1 x3 x5 x6 x10 z (z1 + z0) kc ks f0 f1 f2 f3 f4 f5 a1 a2 a3 a4 a5 a6 a7 a8) :
    wL_lawOf_90 post mc ms x0 x1 x3 x5 x6 x9 x10 z0 z1 kc ks f0 f1 f2 f3 f4 f5 a1 a2 a3 a4 a5 a6 a7 a8 := br_c (fun e => H 1 (qm_2p e)) (fun e => H 0 (qm_2n e))
theorem qm_79 {post : Int32 → St0 → Prop} {mc ms kc ks : Nat} {x0 x1 x3 x5 x6 x8 x9 x10 z0 : Int32} {f5 : Int32} {f0 f1 f2 f3 f4 : Int32} {a1 a2 a3 a4 a5 a6 a7 a8 : Nat → Int32} (H : ∀ z, z = qm_2 x8 → wL_lawOf_90 post mc ms x0 x1 x3 x5 x6 x9 x10 z z0 kc ks f0 f1 f2 f3 f4 f5 a1 a2 a3 a4 a5 a6 a7 a8) :
    wL_lawOf_79 post mc ms x0 x1 x3 x5 x6 x8 x9 x10 z0 kc ks f0 f1 f2 f3 f4 f5 a1 a2 a3 a4 a5 a6 a7 a8 := br_c (fun e => H 1 (qm_2p e)) (fun e => H 0 (qm_2n e))
theorem qm_40 {post : Int32 → St0 → Prop} {mc ms kc ks : Nat} {x0 x1 x3 x5 x6 : Int32} {f5 : Int32} {f0 f1 f2 f3 f4 : Int32} {a1 a2 a3 a4 a5 a6 a7 a8 : Nat → Int32} (H : ∀ z0 z1, z1 + z0 = ((qm_2 (x0 / 27) + qm_2 (x0 / 9 - x0 / 9 / 3 * 3)) + qm_2 (x0 / 3 - x0 / 3 / 3 * 3)) + qm_2 (x0 - x0 / 3 * 3) → wL_lawOf_114 post mc ms x0 x1 x3 x5 x6 z0 z1 kc ks f0 f1 f2 f3 f4 f5 a1 a2 a3 a4 a5 a6 a7 a8) :
    wL_lawOf_40 post mc ms x0 x1 x3 x5 x6 kc ks f0 f1 f2 f3 f4 f5 a1 a2 a3 a4 a5 a6 a7 a8 := by
  have h79 : ∀ z, z = qm_2 (x0 / 27) → wL_lawOf_79 post mc ms x0 x1 x3 x5 x6 (x0 / 9 - x0 / 9 / 3 * 3) (x0 / 3 - x0 / 3 / 3 * 3) (x0 - x0 / 3 * 3) z kc ks f0 f1 f2 f3 f4 f5 a1 a2 a3 a4 a5 a6 a7 a8 := fun z ez => qm_79 (fun y ey => qm_90 (fun w ew => qm_102 (fun v ev => H v _ (by rw [ez, ey, ew, ev]))))
  exact ⟨by decide, nm_e ⟨by decide, by decide, nm_e ⟨by decide, by decide, nm_e ⟨by decide, nm_e (br_c (fun e => h79 1 (qm_2p e)) (fun e => h79 0 (qm_2n e)))⟩⟩⟩⟩
theorem qm_24A {post : Int32 → St0 → Prop} {mc ms kc ks : Nat} {x0 x1 x3 : Int32} {f0 f1 f2 f3 f4 : Int32} {a1 a2 a3 a4 a5 a6 a7 a8 : Nat → Int32} (ha : ∀ j, j < 81 → a2 j = nI (qm_w j)) (h0 : ∀ j, a1 j = 0) (hx : x0 < 0 ∨ 80 < x0) (hp : post 1 ()) :
    wL_lawOf_24 post mc ms x0 x1 x3 0 kc ks f0 f1 f2 f3 f4 0 a1 a2 a3 a4 a5 a6 a7 a8 :=
  br_c (fun _ => qm_40 (fun _ _ _ => qm_114A ha h0 hx hp)) (fun _ => br_c (fun _ => qm_40 (fun _ _ _ => qm_114A ha h0 hx hp)) (fun _ => qm_40 (fun _ _ _ => qm_114A ha h0 hx hp)))
theorem qm_24C {post : Int32 → St0 → Prop} {mc ms kc ks : Nat} {x1 x3 : Int32} {f0 f1 f2 f3 f4 : Int32} {a1 a2 a3 a4 a5 a6 a7 a8 : Nat → Int32} {c : Nat} (hc : c < 81) (ha : ∀ j, j < 81 → a2 j = nI (qm_w j)) (h0 : ∀ j, a1 j = 0) (hp : post 1 ()) :
    wL_lawOf_24 post mc ms (nI c) x1 x3 1 kc ks f0 f1 f2 f3 f4 0 a1 a2 a3 a4 a5 a6 a7 a8 := by
  refine br_c (fun z => qm_40 (fun _ _ _ => qm_114B hc ha h0 (Or.inl z) hp)) (fun z => br_c (fun y => qm_40 (fun _ _ _ => qm_114B hc ha h0 (Or.inr y) hp)) (fun y => qm_40 (fun _ _ e => ?_)))
  obtain ⟨j, hj, ej⟩ := nI_of2 (M := 2) (n := 2) (by decide) z (Int32.not_lt.mp y)
  rw [ej]
  exact qm_114C hc (by omega) ha h0 (e.trans (qm_none c hc)) hp
theorem qm_lawOf {post : Int32 → St0 → Prop} {p0 p1 p2 p3 : Int32} (hp : post 1 ()) : wpL_lawOf post 164 2608 () p0 p1 p2 p3 := by
  refine ⟨by omega, by omega, 8, 393, by omega, by omega, qm_init (by omega) (by omega) (fun a ha => br_c (fun z => qm_24A ha (fun _ => rfl) (Or.inl z) hp) (fun z => br_c (fun y => qm_24A ha (fun _ => rfl) (Or.inr y) hp) (fun y => ?_)))⟩
  obtain ⟨j, hj, ej⟩ := nI_of2 (M := 80) (n := 80) (by decide) z (Int32.not_lt.mp y)
  subst ej
  exact qm_24C (by omega) ha (fun _ => rfl) hp
theorem qm_cell {post : Int32 → Prop} {L : Nat} {xs : Nat → Int32} (hL : L ≤ 4) (i : Nat) (hi : i < 4) (H : ∀ r, post r) : wpL_cellAt post L xs () (nI i) :=
  pk_le L i (fun _ => H _) (fun z => ⟨pk_in i L z, H _⟩)
theorem i_vc (xs : Nat → Int32) (L : Nat) (hL : L ≤ 4) : wpL_law (fun r => r = 1) L xs :=
  qm_cell hL 0 (by omega) (fun _ => qm_cell hL 1 (by omega) (fun _ => qm_cell hL 2 (by omega) (fun _ => qm_cell hL 3 (by omega) (fun _ => ⟨164, 2608, by omega, by omega, qm_lawOf rfl⟩))))
end
