section
/-! booleans as the code's 0 and 1 -/
def ca_i (b : Bool) : Int32 := cond b 1 0
theorem ca_iN (b : Bool) : ca_i b = nI b.toNat := by cases b <;> rfl
theorem ca_i0 {b : Bool} : ca_i b = 0 ↔ b = false := by cases b <;> decide
theorem ca_br {A B : Prop} (b : Bool) (f : b = false → A) (g : b = true → B) : (ca_i b = 0 → A) ∧ (¬ ca_i b = 0 → B) := by
  cases b
  · exact ⟨fun _ => f rfl, fun z => absurd (show ca_i false = 0 from rfl) z⟩
  · exact ⟨fun z => absurd (ca_i0.mp z) (by decide), fun _ => g rfl⟩
theorem ca_10 {c : Prop} {P : Int32 → Prop} (b : Bool) (hc : c ↔ b = true) (H : P (ca_i b)) : (c → P 1) ∧ (¬ c → P 0) := by
  cases b
  · exact ⟨fun z => absurd (hc.mp z) (by decide), fun _ => H⟩
  · exact ⟨fun _ => H, fun z => absurd (hc.mpr rfl) z⟩
theorem ca_01 {c : Prop} {P : Int32 → Prop} (b : Bool) (hc : c ↔ b = false) (H : P (ca_i b)) : (c → P 0) ∧ (¬ c → P 1) := by
  cases b
  · exact ⟨fun _ => H, fun z => absurd (hc.mpr rfl) z⟩
  · exact ⟨fun z => absurd (hc.mp z) (by decide), fun _ => H⟩
theorem ca_nar (b : Bool) : narrow .boolean (.int (ca_i b)) = .int (ca_i b) := by
  cases b
  · exact narrow_b0
  · exact narrow_b1
/-! bits and counters -/
def ca_bb (s t : Int32) : Bool := decide (((s >>> (t &&& 31)) &&& 1) = 1)
theorem ca_wbit {post : Int32 → Prop} {s t : Int32} (H : post (ca_i (ca_bb s t))) : wpX_bit post () s t :=
  ca_10 (P := post) (ca_bb s t) (by unfold ca_bb; exact decide_eq_true_iff.symm) H
def ca_cnt (m : Int64) (t : Int32) : Int32 := (((m.toUInt64 >>> ((4 * t).toInt64.toUInt64 &&& Int64.toUInt64 63)).toInt64).toInt32) &&& 15
theorem ca_wcnt {post : Int32 → Prop} {m : Int64} {t : Int32} (H : post (ca_cnt m t)) : wpX_counted post () m t := H
def ca_up (m : Int64) (t : Int32) : Int64 := if ca_cnt m t < 5 then m + ((1 : Int64) <<< ((4 * t).toInt64 &&& 63)) else m
theorem ca_wup {post : Int64 → Prop} {m : Int64} {t : Int32} (H : post (ca_up m t)) : wpX_countUp post () m t := by
  unfold wpX_countUp
  refine ca_wcnt ?_
  by_cases c : ca_cnt m t < 5
  · exact br_t c (by rw [ca_up, if_pos c] at H; exact H)
  · exact br_f c (by rw [ca_up, if_neg c] at H; exact H)
def ca_now (b : Bool) (x t : Int32) : Int32 := cond b (x ||| ((1 : Int32) <<< (t &&& 31))) x
def ca_mn (b : Bool) (x : Int64) (t : Int32) : Int64 := cond b (ca_up x t) x
/-! the tables that the law lays -/
def ca_cl (m : Nat) : Int32 := if m = 1 then 3 else if m = 2 then 5 else 0
def ca_nm (m : Nat) : Int32 := if m = 1 then 7 else if m = 2 then 8 else 0
def ca_mk (m : Nat) : Int32 := if m = 1 then 4 else 0
def ca_len (p : Nat) : Nat := match p with | 0 => 2 | 1 => 2 | 2 => 1 | 3 => 3 | 4 => 2 | _ => 1
def ca_tb (p : Nat) : Bool := match p with | 0 => false | 1 => false | 2 => true | 3 => true | 4 => false | _ => true
def ca_kd (p t : Nat) : Int32 := match p, t with
  | 0, 0 => 3 | 0, _ => 9 | 1, 0 => 3 | 1, _ => 7 | 2, _ => 4 | 3, 0 => 0 | 3, 1 => 1 | 3, _ => 8 | 4, 0 => 0 | 4, _ => 13 | _, _ => 5
def ca_ar (av : Int32) (p t : Nat) : Int32 := match p, t with
  | 0, 0 => 2 | 0, _ => av | 1, 0 => 2 | 1, _ => 0 | 2, _ => 2 | 3, 0 => 8 | 3, 1 => 3 | 3, _ => 0 | 4, 0 => 7 | 4, _ => 0 | _, _ => 3
def ca_sp (p t : Nat) : Int32 := match p, t with
  | 0, 0 => 1 | 0, _ => 2 | 1, 0 => 1 | 1, _ => 2 | 2, _ => 1 | 3, 0 => 1 | 3, 1 => 1 | 3, _ => 3 | 4, 0 => 1 | 4, _ => 2 | _, _ => 1
/-- the methods' tables, and the first k pieces -/
def ca_C (av : Int32) (k : Nat) (a2 a3 a4 a5 a9 a10 a11 a12 a13 : Nat → Int32) : Prop :=
  ((a2 0 = 1 ∧ a2 3 = 12 ∧ a2 5 = 32) ∧ ∀ m, m < 16 → a3 m = ca_cl m ∧ a4 m = ca_nm m ∧ a5 m = ca_mk m) ∧
  ∀ p, p < k → a9 p = nI (ca_len p) ∧ a10 p = ca_i (ca_tb p) ∧ ∀ t, t < ca_len p → a11 (16 * p + t) = ca_kd p t ∧ a12 (16 * p + t) = ca_ar av p t ∧ a13 (16 * p + t) = ca_sp p t
/-- whether token t of piece p holds at call i, of method m, the one before it of method mp -/
def ca_here (av p t m mp i : Nat) (now hl bf : Int32) (mn : Int64) : Bool := match p, t with
  | 0, 0 => decide (m = 1)
  | 0, _ => !(decide (ca_cnt mn (nI 0) < nI av))
  | 1, 0 => decide (m = 1)
  | 1, _ => ca_bb bf (nI 0)
  | 2, _ => decide (0 < i) && decide (mp = 1)
  | 3, 0 => decide (m = 2)
  | 3, 1 => decide (m = 1)
  | 3, _ => ca_bb now (nI 1) || (ca_bb now (nI 0) && ca_bb hl (nI 2))
  | 4, 0 => decide (m = 1)
  | 4, _ => ca_bb now (nI 0) && !(ca_bb bf (nI 0))
  | _, _ => decide (3 ≤ i)
def ca_go (av p m mp i : Nat) (hl bf : Int32) : Nat → Nat → Int32 → Int64 → Int32 × Int64
  | 0, _, now, mn => (now, mn)
  | k + 1, s, now, mn => ca_go av p m mp i hl bf k (s + 1) (ca_now (ca_here av p s m mp i now hl bf mn) now (nI s)) (ca_mn (ca_here av p s m mp i now hl bf mn) mn (nI s))
def ca_W (av p m mp i : Nat) (hl bf : Int32) (mn : Int64) : Int32 × Int64 := ca_go av p m mp i hl bf (ca_len p) 0 0 mn
/-- the answer's bit of a piece -/
def ca_hb (v : Int32) (p : Nat) : Bool := ca_bb v (nI (ca_len p - 1))
theorem ca_len1 {p : Nat} : 1 ≤ ca_len p ∧ ca_len p ≤ 3 := by
  unfold ca_len
  split <;> decide
def ca_mt (w j : Nat) : Nat := if w.testBit j then 1 else 2
theorem ca_mt16 (w j : Nat) : ca_mt w j < 16 := by
  unfold ca_mt
  split <;> decide
def ca_L (w av q : Nat) : Nat → Int32 × Int32 × Int64
  | 0 => (0, 0, 0)
  | j + 1 => ((ca_W av q (ca_mt w j) (ca_mt w (j - 1)) j (ca_L w av q j).1 (ca_L w av q j).2.1 (ca_L w av q j).2.2).1, (ca_L w av q j).2.1 ||| (ca_W av q (ca_mt w j) (ca_mt w (j - 1)) j (ca_L w av q j).1 (ca_L w av q j).2.1 (ca_L w av q j).2.2).1, (ca_W av q (ca_mt w j) (ca_mt w (j - 1)) j (ca_L w av q j).1 (ca_L w av q j).2.1 (ca_L w av q j).2.2).2)
/-- how many ones w has below i -/
def ca_sn (w : Nat) : Nat → Nat
  | 0 => 0
  | i + 1 => ca_sn w i + (w.testBit i).toNat
/-- what stands at the call before call i -/
def ca_pv {α : Type} (f : Nat → α) (z : α) (p : Nat) : Nat → α
  | 0 => z
  | j + 1 => f (21 * p + j)
def ca_Lev (w av i : Nat) (a15 a16 a17 : Nat → Int32) (a18 : Nat → Int64) : Prop :=
  ∀ j, j < i → a15 j = nI (ca_mt w j) ∧ ∀ q, q < 6 → a16 (21 * q + j) = (ca_L w av q (j + 1)).1 ∧ a17 (21 * q + j) = (ca_L w av q (j + 1)).2.1 ∧ a18 (21 * q + j) = (ca_L w av q (j + 1)).2.2
end
section
/-! facts of the closed tables and of the picture -/
theorem ca_fMark : ∀ m, m < 16 → ((((ca_mk m) >>> ((2 : Int32) &&& 31)) &&& 1) = 1 ↔ decide (m = 1) = true) := by decide +kernel
theorem ca_fN8 : ∀ m, m < 16 → (ca_nm m = 8 ↔ decide (m = 2) = true) := by decide +kernel
theorem ca_fN7 : ∀ m, m < 16 → (ca_nm m = 7 ↔ decide (m = 1) = true) := by decide +kernel
theorem ca_fC3 : ∀ m, m < 16 → (ca_cl m = 3 ↔ decide (m = 1) = true) := by decide +kernel
def ca_kn (m : Nat) : Int32 := if m = 1 then 12 else if m = 2 then 32 else 1
theorem ca_fBy : ∀ m, m < 16 → ((((ca_kn m) >>> ((2 : Int32) &&& 31)) &&& 1) = 1 ↔ decide (m = 1) = true) := by decide +kernel
theorem ca_fKin {a2 : Nat → Int32} (h : a2 0 = 1 ∧ a2 3 = 12 ∧ a2 5 = 32) (m : Nat) : a2 (ca_cl m).toNatClampNeg = ca_kn m ∧ vp_in (ca_cl m) 8 := by
  unfold ca_cl ca_kn
  by_cases h1 : m = 1
  · rw [if_pos h1, if_pos h1]
    exact ⟨h.2.1, pk_in 3 8 (by omega)⟩
  · rw [if_neg h1, if_neg h1]
    by_cases h2 : m = 2
    · rw [if_pos h2, if_pos h2]
      exact ⟨h.2.2, pk_in 5 8 (by omega)⟩
    · rw [if_neg h2, if_neg h2]
      exact ⟨h.1, pk_in 0 8 (by omega)⟩
/-! what the law asks of the picture -/
theorem ca_FW1 : ∀ w, w < 64 → ∀ av, av < 5 → ∀ i, i < 6 → ca_hb (ca_W (av + 1) 0 1 (ca_mt w (i - 1)) i (ca_L w (av + 1) 0 i).1 (ca_L w (av + 1) 0 i).2.1 (ca_L w (av + 1) 0 i).2.2).1 0 = decide (av + 1 ≤ ca_sn w i + 1) := by decide +kernel
theorem ca_FW2 : ∀ w, w < 64 → ∀ av, av < 5 → ∀ i, i < 6 → ca_hb (ca_W (av + 1) 0 2 (ca_mt w (i - 1)) i (ca_L w (av + 1) 0 i).1 (ca_L w (av + 1) 0 i).2.1 (ca_L w (av + 1) 0 i).2.2).1 0 = decide (av + 1 ≤ ca_sn w i) := by decide +kernel
theorem ca_F1 : ∀ w, w < 64 → ∀ i, i < 6 → ca_hb (ca_L w 0 1 (i + 1)).1 1 = decide (0 < ca_sn w i) := by decide +kernel
theorem ca_F2 : ∀ w, w < 64 → ∀ i, i < 6 → ca_hb (ca_L w 0 2 (i + 1)).1 2 = (decide (0 < i) && w.testBit (i - 1)) := by decide +kernel
theorem ca_F3 : ∀ w, w < 64 → ∀ i, i < 6 → ca_hb (ca_L w 0 3 (i + 1)).1 3 = decide (0 < ca_sn w (i + 1)) := by decide +kernel
theorem ca_F4 : ∀ w, w < 64 → ∀ i, i < 6 → ca_hb (ca_L w 0 4 (i + 1)).1 4 = (w.testBit i && decide (ca_sn w i = 0)) := by decide +kernel
theorem ca_F5 : ∀ w, w < 64 → ∀ i, i < 6 → ca_hb (ca_L w 0 5 (i + 1)).1 5 = decide (3 ≤ i) := by decide +kernel
/-! the pieces behind the first don't look at av -/
theorem ca_hav (av p t m mp i : Nat) (now hl bf : Int32) (mn : Int64) : ca_here av (p + 1) t m mp i now hl bf mn = ca_here 0 (p + 1) t m mp i now hl bf mn := by
  unfold ca_here
  split <;> first | rfl | (rename_i z _; exact absurd z (by omega)) | skip
theorem ca_gav (av p m mp i : Nat) (hl bf : Int32) : ∀ (k s : Nat) (now : Int32) (mn : Int64), ca_go av (p + 1) m mp i hl bf k s now mn = ca_go 0 (p + 1) m mp i hl bf k s now mn
  | 0, _, _, _ => rfl
  | k + 1, s, now, mn => by
    unfold ca_go
    rw [ca_hav av p s]
    exact ca_gav av p m mp i hl bf k _ _ _
theorem ca_Lav (w av p : Nat) : ∀ j, ca_L w av (p + 1) j = ca_L w 0 (p + 1) j
  | 0 => rfl
  | j + 1 => by
    unfold ca_L ca_W
    rw [ca_Lav w av p j, ca_gav av p]
end
section
section
variable {ft fh fp fd fg : Int32} {a1 a2 a3 a4 a5 a6 a7 a8 a9 a10 a11 a12 a13 a14 a15 a16 a17 a19 : Nat → Int32} {a18 : Nat → Int64}
/-! plain tokens -/
theorem ca_plName {post : Int32 → Prop} {p1 : Int32} {i m : Nat} {b : Bool} (hi : i < 21) (hm : m < 16) (h15 : a15 i = nI m) (hb : a4 m = p1 ↔ b = true) (H : post (ca_i b)) : wpX_plainHolds post (ft, fh, fp, fd, fg, a1, a2, a3, a4, a5, a6, a7, a8, a9, a10, a11, a12, a13, a14, a15, a16, a17, a18, a19) 0 p1 (nI i) := by
  unfold wpX_plainHolds
  refine ⟨pk_in i 21 hi, nm_r (e' := nI m) (by rw [nI_clamp (by omega)]; exact h15) (br_f (by decide) (br_f (by decide) (br_t rfl ⟨pk_in m 16 hm, ?_⟩)))⟩
  rw [nI_clamp (show m < 2 ^ 31 by omega)]
  exact ca_10 (P := post) b hb H
theorem ca_plClass {post : Int32 → Prop} {p1 : Int32} {i m : Nat} {b : Bool} (hi : i < 21) (hm : m < 16) (h15 : a15 i = nI m) (hb : a3 m = p1 ↔ b = true) (H : post (ca_i b)) : wpX_plainHolds post (ft, fh, fp, fd, fg, a1, a2, a3, a4, a5, a6, a7, a8, a9, a10, a11, a12, a13, a14, a15, a16, a17, a18, a19) 1 p1 (nI i) := by
  unfold wpX_plainHolds
  refine ⟨pk_in i 21 hi, nm_r (e' := nI m) (by rw [nI_clamp (by omega)]; exact h15) (br_f (by decide) (br_f (by decide) (br_f (by decide) (br_t rfl ⟨pk_in m 16 hm, ?_⟩))))⟩
  rw [nI_clamp (show m < 2 ^ 31 by omega)]
  exact ca_10 (P := post) b hb H
theorem ca_plMark {post : Int32 → Prop} {p1 : Int32} {i m : Nat} {b : Bool} (hi : i < 21) (hm : m < 16) (h15 : a15 i = nI m) (hb : ((a5 m >>> (p1 &&& 31)) &&& 1) = 1 ↔ b = true) (H : post (ca_i b)) : wpX_plainHolds post (ft, fh, fp, fd, fg, a1, a2, a3, a4, a5, a6, a7, a8, a9, a10, a11, a12, a13, a14, a15, a16, a17, a18, a19) 3 p1 (nI i) := by
  unfold wpX_plainHolds
  refine ⟨pk_in i 21 hi, nm_r (e' := nI m) (by rw [nI_clamp (by omega)]; exact h15) (br_f (by decide) (br_f (by decide) (br_f (by decide) (br_f (by decide) (br_f (by decide) (br_t rfl ⟨pk_in m 16 hm, ?_⟩))))))⟩
  rw [nI_clamp (show m < 2 ^ 31 by omega)]
  exact ca_10 (P := post) b hb H
theorem ca_plDeep {post : Int32 → Prop} {p1 : Int32} {i : Nat} {b : Bool} (hi : i < 21) (hb : nI i < p1 ↔ b = false) (H : post (ca_i b)) : wpX_plainHolds post (ft, fh, fp, fd, fg, a1, a2, a3, a4, a5, a6, a7, a8, a9, a10, a11, a12, a13, a14, a15, a16, a17, a18, a19) 5 p1 (nI i) := by
  unfold wpX_plainHolds
  exact ⟨pk_in i 21 hi, nm_e (br_f (by decide) (br_t (by decide) (ca_01 (P := post) b hb H)))⟩
theorem ca_plBy0 {post : Int32 → Prop} {p1 : Int32} (H : post 0) : wpX_plainHolds post (ft, fh, fp, fd, fg, a1, a2, a3, a4, a5, a6, a7, a8, a9, a10, a11, a12, a13, a14, a15, a16, a17, a18, a19) 4 p1 (nI 0) := by
  unfold wpX_plainHolds
  exact ⟨pk_in 0 21 (by omega), nm_e (br_f (by decide) (br_f (by decide) (br_f (by decide) (br_f (by decide) (br_f (by decide) (br_f (by decide) (br_t rfl (br_t (by decide) H))))))))⟩
theorem ca_plBy1 {post : Int32 → Prop} {p1 : Int32} {j m : Nat} {c k : Int32} {b : Bool} (hj : j + 1 < 21) (hm : m < 16) (h15 : a15 j = nI m) (h3 : a3 m = c) (hc : vp_in c 8) (h2 : a2 c.toNatClampNeg = k) (hb : ((k >>> (p1 &&& 31)) &&& 1) = 1 ↔ b = true) (H : post (ca_i b)) : wpX_plainHolds post (ft, fh, fp, fd, fg, a1, a2, a3, a4, a5, a6, a7, a8, a9, a10, a11, a12, a13, a14, a15, a16, a17, a18, a19) 4 p1 (nI (j + 1)) := by
  unfold wpX_plainHolds
  refine ⟨pk_in (j + 1) 21 hj, nm_e (br_f (by decide) (br_f (by decide) (br_f (by decide) (br_f (by decide) (br_f (by decide) (br_f (by decide) (br_t rfl (br_f (nI_nle (by omega) (by omega)) ?_))))))))⟩
  rw [nI_pred, nI_clamp (show j < 2 ^ 31 by omega), h15, nI_clamp (show m < 2 ^ 31 by omega), h3, h2]
  exact ⟨pk_in j 21 (by omega), pk_in m 16 hm, hc, ca_10 (P := post) b hb H⟩
/-! joined tokens -/
theorem ca_jn7 {post : Int32 → Prop} {p2 p3 p4 : Int32} {K s : Nat} (hK : K + 1 < 96) (hk : a11 (K + 1) = 7) (H : post (ca_i (ca_bb p4 (nI s)))) : wpX_joined post (ft, fh, fp, fd, fg, a1, a2, a3, a4, a5, a6, a7, a8, a9, a10, a11, a12, a13, a14, a15, a16, a17, a18, a19) (nI (K + 1)) (nI (s + 1)) p2 p3 p4 := by
  unfold wpX_joined
  dsimp only
  rw [nI_pred, nI_pred]
  exact ca_wbit (ca_wbit ⟨pk_in K 96 (by omega), nm_e ⟨pk_in (K + 1) 96 hK, nm_r (e' := 7) (by rw [nI_clamp (by omega)]; exact hk) (br_f (by decide) (br_f (by decide) (br_f (by decide) (br_t rfl ⟨ca_nar _, H⟩))))⟩⟩)
theorem ca_jn13 {post : Int32 → Prop} {p2 p3 p4 : Int32} {K s : Nat} (hK : K + 1 < 96) (hk : a11 (K + 1) = 13) (H : post (ca_i (ca_bb p2 (nI s) && !(ca_bb p4 (nI s))))) : wpX_joined post (ft, fh, fp, fd, fg, a1, a2, a3, a4, a5, a6, a7, a8, a9, a10, a11, a12, a13, a14, a15, a16, a17, a18, a19) (nI (K + 1)) (nI (s + 1)) p2 p3 p4 := by
  unfold wpX_joined
  dsimp only
  rw [nI_pred, nI_pred]
  refine ca_wbit (ca_wbit ⟨pk_in K 96 (by omega), nm_e ⟨pk_in (K + 1) 96 hK, nm_r (e' := 13) (by rw [nI_clamp (by omega)]; exact hk) (br_f (by decide) (br_t (by decide) ?_))⟩⟩)
  unfold wX_joined_179
  refine ca_br _ (fun e => ?_) (fun e => ca_br _ (fun e' => ?_) (fun e' => ?_))
  · rw [e] at H
    exact H
  · rw [e, e'] at H
    exact H
  · rw [e, e'] at H
    exact H
theorem ca_jn8 {post : Int32 → Prop} {p2 p3 p4 : Int32} {K s : Nat} (hK : K + 1 < 96) (hk : a11 (K + 1) = 8) (hsp : a13 K = 1) (H : post (ca_i (ca_bb p2 (nI (s + 1)) || (ca_bb p2 (nI s) && ca_bb p3 (nI (s + 2)))))) : wpX_joined post (ft, fh, fp, fd, fg, a1, a2, a3, a4, a5, a6, a7, a8, a9, a10, a11, a12, a13, a14, a15, a16, a17, a18, a19) (nI (K + 1)) (nI (s + 2)) p2 p3 p4 := by
  unfold wpX_joined
  dsimp only
  rw [nI_pred, show nI (s + 2) - 1 = nI (s + 1) from nI_pred (s + 1)]
  refine ca_wbit (ca_wbit ⟨pk_in K 96 (by omega), nm_r (e' := nI s) (by rw [nI_clamp (by omega), hsp]; exact nI_pred s) ⟨pk_in (K + 1) 96 hK, nm_r (e' := 8) (by rw [nI_clamp (by omega)]; exact hk) (br_f (by decide) (br_f (by decide) (br_f (by decide) (br_f (by decide) (br_t rfl ?_)))))⟩⟩)
  refine ca_br _ (fun e => ca_wbit (ca_br _ (fun e' => ?_) (fun e' => ca_wbit (ca_br _ (fun e'' => ?_) (fun e'' => ?_))))) (fun e => ?_)
  · rw [e, e'] at H
    exact H
  · rw [e, e', e''] at H
    exact H
  · rw [e, e', e''] at H
    exact H
  · rw [e] at H
    exact H
end
end
section
section
variable {ft fh fp fd fg : Int32} {a1 a2 a3 a4 a5 a6 a7 a8 a9 a10 a11 a12 a13 a14 a15 a16 a17 a19 : Nat → Int32} {a18 : Nat → Int64}
/-! one turn of workOut's loop -/
theorem ca_w181 {post : St2 → Prop} {J : Int32 → Int64 → Int32 → Prop} {x1 x2 x3 x4 x5 x6 : Int32} {x7 : Int64} {s : Nat} (b : Bool) (H : J (ca_now b x3 (nI s)) (ca_mn b x7 (nI s)) (nI (s + 1))) : wX_workOut_181 post J x1 x2 x3 x4 x5 x6 x7 (nI s) (ca_i b) ft fh fp fd fg a1 a2 a3 a4 a5 a6 a7 a8 a9 a10 a11 a12 a13 a14 a15 a16 a17 a18 a19 := by
  cases b
  · exact br_t rfl (nm_r (nI_1 s) H)
  · exact br_f (by decide) (nm_e (ca_wup (nm_r (nI_1 s) H)))
theorem ca_ix (p s : Nat) : (16 : Int32) * nI p + nI s = nI (16 * p + s) := by
  rw [show (16 : Int32) = nI 16 from rfl, pk_mul, nI_add]
theorem ca_iy (p i : Nat) : (21 : Int32) * nI p + nI i = nI (21 * p + i) := by
  rw [show (21 : Int32) = nI 21 from rfl, pk_mul, nI_add]
theorem ca_tkP {post : St2 → Prop} {p s L n i : Nat} {x4 hl bf now : Int32} {mn : Int64} {b : Bool} (hp : p < 6) (h9 : a9 p = nI L) (hs : s < L) (hL : L ≤ 16) (hk : ¬ 5 < a11 (16 * p + s))
    (hw : ∀ P : Int32 → Prop, P (ca_i b) → wpX_plainHolds P (ft, fh, fp, fd, fg, a1, a2, a3, a4, a5, a6, a7, a8, a9, a10, a11, a12, a13, a14, a15, a16, a17, a18, a19) (a11 (16 * p + s)) (a12 (16 * p + s)) (nI i))
    (H : wX_workOut_70 post (nI p) (nI i) x4 hl bf ft fh fp fd fg a1 a2 a3 a4 a5 a6 a7 a8 a9 a10 a11 a12 a13 a14 a15 a16 a17 a18 a19 n (ca_now b now (nI s)) (ca_mn b mn (nI s)) (nI (s + 1))) : wX_workOut_70 post (nI p) (nI i) x4 hl bf ft fh fp fd fg a1 a2 a3 a4 a5 a6 a7 a8 a9 a10 a11 a12 a13 a14 a15 a16 a17 a18 a19 (n + 1) now mn (nI s) := by
  have e1 : (nI p).toNatClampNeg = p := nI_clamp (by omega)
  have e3 : (nI (16 * p + s)).toNatClampNeg = 16 * p + s := nI_clamp (by omega)
  refine And.intro (pk_in p 6 hp) (br_f (by rw [e1, h9]; exact nI_ge hs (by omega)) (nm_r (ca_ix p s) ⟨pk_in (16 * p + s) 96 (by omega), br_f (by rw [e3]; exact hk) ⟨pk_in (16 * p + s) 96 (by omega), pk_in (16 * p + s) 96 (by omega), ?_⟩⟩))
  rw [e3]
  exact hw _ (ca_w181 b H)
theorem ca_tkT {post : St2 → Prop} {p s L n i av : Nat} {x4 hl bf now : Int32} {mn : Int64} (hp : p < 6) (h9 : a9 p = nI L) (hs : s + 1 < L) (hL : L ≤ 16) (hk : a11 (16 * p + (s + 1)) = 9) (ha : a12 (16 * p + (s + 1)) = nI av)
    (H : wX_workOut_70 post (nI p) (nI i) x4 hl bf ft fh fp fd fg a1 a2 a3 a4 a5 a6 a7 a8 a9 a10 a11 a12 a13 a14 a15 a16 a17 a18 a19 n (ca_now (!(decide (ca_cnt mn (nI s) < nI av))) now (nI (s + 1))) (ca_mn (!(decide (ca_cnt mn (nI s) < nI av))) mn (nI (s + 1))) (nI (s + 2))) : wX_workOut_70 post (nI p) (nI i) x4 hl bf ft fh fp fd fg a1 a2 a3 a4 a5 a6 a7 a8 a9 a10 a11 a12 a13 a14 a15 a16 a17 a18 a19 (n + 1) now mn (nI (s + 1)) := by
  have e1 : (nI p).toNatClampNeg = p := nI_clamp (by omega)
  have e3 : (nI (16 * p + (s + 1))).toNatClampNeg = 16 * p + (s + 1) := nI_clamp (by omega)
  refine And.intro (pk_in p 6 hp) (br_f (by rw [e1, h9]; exact nI_ge hs (by omega)) (nm_r (ca_ix p (s + 1)) ⟨pk_in (16 * p + (s + 1)) 96 (by omega), br_t (by rw [e3, hk]; decide) ⟨pk_in (16 * p + (s + 1)) 96 (by omega), br_t (by rw [e3]; exact hk) (ca_wcnt ⟨pk_in (16 * p + (s + 1)) 96 (by omega), ?_⟩)⟩⟩))
  rw [e3, ha, nI_pred]
  by_cases c : ca_cnt mn (nI s) < nI av
  · rw [show (!(decide (ca_cnt mn (nI s) < nI av))) = false by rw [decide_eq_true c]; rfl] at H
    exact br_t c (ca_w181 false H)
  · rw [show (!(decide (ca_cnt mn (nI s) < nI av))) = true by rw [decide_eq_false c]; rfl] at H
    exact br_f c (ca_w181 true H)
theorem ca_tkJ {post : St2 → Prop} {p s L n i : Nat} {x4 hl bf now : Int32} {mn : Int64} {b : Bool} (hp : p < 6) (h9 : a9 p = nI L) (hs : s < L) (hL : L ≤ 16) (hk : 5 < a11 (16 * p + s)) (hk9 : ¬ a11 (16 * p + s) = 9)
    (hw : ∀ P : Int32 → Prop, P (ca_i b) → wpX_joined P (ft, fh, fp, fd, fg, a1, a2, a3, a4, a5, a6, a7, a8, a9, a10, a11, a12, a13, a14, a15, a16, a17, a18, a19) (nI (16 * p + s)) (nI s) now hl bf)
    (H : wX_workOut_70 post (nI p) (nI i) x4 hl bf ft fh fp fd fg a1 a2 a3 a4 a5 a6 a7 a8 a9 a10 a11 a12 a13 a14 a15 a16 a17 a18 a19 n (ca_now b now (nI s)) (ca_mn b mn (nI s)) (nI (s + 1))) : wX_workOut_70 post (nI p) (nI i) x4 hl bf ft fh fp fd fg a1 a2 a3 a4 a5 a6 a7 a8 a9 a10 a11 a12 a13 a14 a15 a16 a17 a18 a19 (n + 1) now mn (nI s) := by
  have e1 : (nI p).toNatClampNeg = p := nI_clamp (by omega)
  have e3 : (nI (16 * p + s)).toNatClampNeg = 16 * p + s := nI_clamp (by omega)
  exact And.intro (pk_in p 6 hp) (br_f (by rw [e1, h9]; exact nI_ge hs (by omega)) (nm_r (ca_ix p s) ⟨pk_in (16 * p + s) 96 (by omega), br_t (by rw [e3]; exact hk) ⟨pk_in (16 * p + s) 96 (by omega), br_f (by rw [e3]; exact hk9) (hw _ (ca_w181 b H))⟩⟩))
theorem ca_tkE {post : St2 → Prop} {p x L n i : Nat} {hl bf now : Int32} {mn : Int64} (hp : p < 6) (h9 : a9 p = nI L) (hL : L ≤ 16) (hx : x < 126) (H : post (ft, fh, fp, fd, fg, a1, a2, a3, a4, a5, a6, a7, a8, a9, a10, a11, a12, a13, a14, a15, upd a16 x now, upd a17 x (bf ||| now), vp_updL a18 x mn, a19)) : wX_workOut_70 post (nI p) (nI i) (nI x) hl bf ft fh fp fd fg a1 a2 a3 a4 a5 a6 a7 a8 a9 a10 a11 a12 a13 a14 a15 a16 a17 a18 a19 (n + 1) now mn (nI L) := by
  have e1 : (nI p).toNatClampNeg = p := nI_clamp (by omega)
  have e3 : (nI x).toNatClampNeg = x := nI_clamp (by omega)
  refine And.intro (pk_in p 6 hp) (br_t (by rw [e1, h9]; exact nI_le (Nat.le_refl _) (by omega)) ?_)
  rw [e3]
  exact ⟨pk_in x 126 hx, nm_e ⟨pk_in x 126 hx, nm_e ⟨pk_in x 126 hx, nm_e H⟩⟩⟩
theorem ca_tk {post : St2 → Prop} {av p s m mp n i : Nat} {x4 hl bf now : Int32} {mn : Int64} (C : ca_C (nI av) 6 a2 a3 a4 a5 a9 a10 a11 a12 a13) (hp : p < 6) (hs : s < ca_len p) (hi : i < 21) (hm : m < 16) (hmp : mp < 16) (h15 : a15 i = nI m) (hj : ∀ j, i = j + 1 → a15 j = nI mp)
    (H : wX_workOut_70 post (nI p) (nI i) x4 hl bf ft fh fp fd fg a1 a2 a3 a4 a5 a6 a7 a8 a9 a10 a11 a12 a13 a14 a15 a16 a17 a18 a19 n (ca_now (ca_here av p s m mp i now hl bf mn) now (nI s)) (ca_mn (ca_here av p s m mp i now hl bf mn) mn (nI s)) (nI (s + 1))) : wX_workOut_70 post (nI p) (nI i) x4 hl bf ft fh fp fd fg a1 a2 a3 a4 a5 a6 a7 a8 a9 a10 a11 a12 a13 a14 a15 a16 a17 a18 a19 (n + 1) now mn (nI s) := by
  obtain ⟨⟨hk, hM⟩, hP⟩ := C
  obtain ⟨m3, m4, m5⟩ := hM m hm
  have cp : p = 0 ∨ p = 1 ∨ p = 2 ∨ p = 3 ∨ p = 4 ∨ p = 5 := by omega
  rcases cp with rfl | rfl | rfl | rfl | rfl | rfl
  · obtain ⟨h9, -, hT⟩ := hP 0 (by omega)
    have cs : s = 0 ∨ s = 1 := by have : s < 2 := hs; omega
    rcases cs with rfl | rfl
    · have k1 : a11 (16 * 0 + 0) = 3 := (hT 0 (by decide)).1
      have k2 : a12 (16 * 0 + 0) = 2 := (hT 0 (by decide)).2.1
      exact ca_tkP (b := decide (m = 1)) hp h9 hs (by decide) (by rw [k1]; decide) (fun P hP' => by rw [k1, k2]; exact ca_plMark hi hm h15 (by rw [m5]; exact ca_fMark m hm) hP') H
    · exact ca_tkT (s := 0) hp h9 hs (by decide) (hT 1 (by decide)).1 (hT 1 (by decide)).2.1 H
  · obtain ⟨h9, -, hT⟩ := hP 1 (by omega)
    have cs : s = 0 ∨ s = 1 := by have : s < 2 := hs; omega
    rcases cs with rfl | rfl
    · have k1 : a11 (16 * 1 + 0) = 3 := (hT 0 (by decide)).1
      have k2 : a12 (16 * 1 + 0) = 2 := (hT 0 (by decide)).2.1
      exact ca_tkP (b := decide (m = 1)) hp h9 hs (by decide) (by rw [k1]; decide) (fun P hP' => by rw [k1, k2]; exact ca_plMark hi hm h15 (by rw [m5]; exact ca_fMark m hm) hP') H
    · have k1 : a11 (16 * 1 + 1) = 7 := (hT 1 (by decide)).1
      exact ca_tkJ (b := ca_bb bf (nI 0)) hp h9 hs (by decide) (by rw [k1]; decide) (by rw [k1]; decide) (fun P hP' => ca_jn7 (K := 16) (s := 0) (by decide) k1 hP') H
  · obtain ⟨h9, -, hT⟩ := hP 2 (by omega)
    have cs : s = 0 := by have : s < 1 := hs; omega
    subst cs
    have k1 : a11 (16 * 2 + 0) = 4 := (hT 0 (by decide)).1
    have k2 : a12 (16 * 2 + 0) = 2 := (hT 0 (by decide)).2.1
    cases i with
    | zero => exact ca_tkP (b := false) hp h9 hs (by decide) (by rw [k1]; decide) (fun P hP' => by rw [k1, k2]; exact ca_plBy0 hP') H
    | succ j =>
      obtain ⟨n3, -, -⟩ := hM mp hmp
      have hK := ca_fKin hk mp
      exact ca_tkP (b := decide (mp = 1)) hp h9 hs (by decide) (by rw [k1]; decide) (fun P hP' => by rw [k1, k2]; exact ca_plBy1 hi hmp (hj j rfl) n3 hK.2 hK.1 (ca_fBy mp hmp) hP') (by
        rw [show ca_here av 2 0 m mp (j + 1) now hl bf mn = decide (mp = 1) by show (decide (0 < j + 1) && decide (mp = 1)) = _; rw [decide_eq_true (by omega)]; rfl] at H
        exact H)
  · obtain ⟨h9, -, hT⟩ := hP 3 (by omega)
    have cs : s = 0 ∨ s = 1 ∨ s = 2 := by have : s < 3 := hs; omega
    rcases cs with rfl | rfl | rfl
    · have k1 : a11 (16 * 3 + 0) = 0 := (hT 0 (by decide)).1
      have k2 : a12 (16 * 3 + 0) = 8 := (hT 0 (by decide)).2.1
      exact ca_tkP (b := decide (m = 2)) hp h9 hs (by decide) (by rw [k1]; decide) (fun P hP' => by rw [k1, k2]; exact ca_plName hi hm h15 (by rw [m4]; exact ca_fN8 m hm) hP') H
    · have k1 : a11 (16 * 3 + 1) = 1 := (hT 1 (by decide)).1
      have k2 : a12 (16 * 3 + 1) = 3 := (hT 1 (by decide)).2.1
      exact ca_tkP (b := decide (m = 1)) hp h9 hs (by decide) (by rw [k1]; decide) (fun P hP' => by rw [k1, k2]; exact ca_plClass hi hm h15 (by rw [m3]; exact ca_fC3 m hm) hP') H
    · have k1 : a11 (16 * 3 + 2) = 8 := (hT 2 (by decide)).1
      have k3 : a13 (16 * 3 + 1) = 1 := (hT 1 (by decide)).2.2
      exact ca_tkJ (b := ca_bb now (nI 1) || (ca_bb now (nI 0) && ca_bb hl (nI 2))) hp h9 hs (by decide) (by rw [k1]; decide) (by rw [k1]; decide) (fun P hP' => ca_jn8 (K := 49) (s := 0) (by decide) k1 k3 hP') H
  · obtain ⟨h9, -, hT⟩ := hP 4 (by omega)
    have cs : s = 0 ∨ s = 1 := by have : s < 2 := hs; omega
    rcases cs with rfl | rfl
    · have k1 : a11 (16 * 4 + 0) = 0 := (hT 0 (by decide)).1
      have k2 : a12 (16 * 4 + 0) = 7 := (hT 0 (by decide)).2.1
      exact ca_tkP (b := decide (m = 1)) hp h9 hs (by decide) (by rw [k1]; decide) (fun P hP' => by rw [k1, k2]; exact ca_plName hi hm h15 (by rw [m4]; exact ca_fN7 m hm) hP') H
    · have k1 : a11 (16 * 4 + 1) = 13 := (hT 1 (by decide)).1
      exact ca_tkJ (b := ca_bb now (nI 0) && !(ca_bb bf (nI 0))) hp h9 hs (by decide) (by rw [k1]; decide) (by rw [k1]; decide) (fun P hP' => ca_jn13 (K := 64) (s := 0) (by decide) k1 hP') H
  · obtain ⟨h9, -, hT⟩ := hP 5 (by omega)
    have cs : s = 0 := by have : s < 1 := hs; omega
    subst cs
    have k1 : a11 (16 * 5 + 0) = 5 := (hT 0 (by decide)).1
    have k2 : a12 (16 * 5 + 0) = 3 := (hT 0 (by decide)).2.1
    exact ca_tkP (b := decide (3 ≤ i)) hp h9 hs (by decide) (by rw [k1]; decide) (fun P hP' => by
      rw [k1, k2]
      exact ca_plDeep hi (by rw [show (3 : Int32) = nI 3 from rfl, nI_ltI (by omega) (by omega), decide_eq_false_iff_not]; omega) hP') H
theorem ca_lp {post : St2 → Prop} {av p m mp i x : Nat} {hl bf : Int32} (C : ca_C (nI av) 6 a2 a3 a4 a5 a9 a10 a11 a12 a13) (hp : p < 6) (hi : i < 21) (hm : m < 16) (hmp : mp < 16) (h15 : a15 i = nI m) (hj : ∀ j, i = j + 1 → a15 j = nI mp) (hx : x < 126) :
    ∀ (k s : Nat) (now : Int32) (mn : Int64), s + k = ca_len p → post (ft, fh, fp, fd, fg, a1, a2, a3, a4, a5, a6, a7, a8, a9, a10, a11, a12, a13, a14, a15, upd a16 x (ca_go av p m mp i hl bf k s now mn).1, upd a17 x (bf ||| (ca_go av p m mp i hl bf k s now mn).1), vp_updL a18 x (ca_go av p m mp i hl bf k s now mn).2, a19) →
      wX_workOut_70 post (nI p) (nI i) (nI x) hl bf ft fh fp fd fg a1 a2 a3 a4 a5 a6 a7 a8 a9 a10 a11 a12 a13 a14 a15 a16 a17 a18 a19 (k + 1) now mn (nI s)
  | 0, s, now, mn, e, H => ca_tkE hp (by rw [show s = ca_len p by omega]; exact (C.2 p hp).1) (by have := (ca_len1 (p := p)).2; omega) hx H
  | k + 1, s, now, mn, e, H => ca_tk C hp (by omega) hi hm hmp h15 hj (ca_lp C hp hi hm hmp h15 hj hx k (s + 1) _ _ (by omega) H)
/-- workOut: a piece's parts at call i -/
theorem ca_wo {post : St2 → Prop} {av p m mp i : Nat} (C : ca_C (nI av) 6 a2 a3 a4 a5 a9 a10 a11 a12 a13) (hp : p < 6) (hi : i < 21) (hm : m < 16) (hmp : mp < 16) (h15 : a15 i = nI m) (hj : ∀ j, i = j + 1 → a15 j = nI mp)
    (H : post (ft, fh, fp, fd, fg, a1, a2, a3, a4, a5, a6, a7, a8, a9, a10, a11, a12, a13, a14, a15, upd a16 (21 * p + i) (ca_W av p m mp i (ca_pv a16 0 p i) (ca_pv a17 0 p i) (ca_pv a18 0 p i)).1, upd a17 (21 * p + i) (ca_pv a17 0 p i ||| (ca_W av p m mp i (ca_pv a16 0 p i) (ca_pv a17 0 p i) (ca_pv a18 0 p i)).1), vp_updL a18 (21 * p + i) (ca_W av p m mp i (ca_pv a16 0 p i) (ca_pv a17 0 p i) (ca_pv a18 0 p i)).2, a19)) : wpX_workOut post (ft, fh, fp, fd, fg, a1, a2, a3, a4, a5, a6, a7, a8, a9, a10, a11, a12, a13, a14, a15, a16, a17, a18, a19) (nI p) (nI i) := by
  unfold wpX_workOut
  refine nm_r (ca_iy p i) ?_
  cases i with
  | zero =>
    refine br_t (by decide) ?_
    unfold wX_workOut_27
    refine br_t (by decide) ?_
    unfold wX_workOut_46
    exact br_t (by decide) ⟨ca_len p + 1, ca_lp C hp hi hm hmp h15 hj (by omega) (ca_len p) 0 0 0 (by omega) H⟩
  | succ j =>
    have z : ¬ nI (j + 1) ≤ 0 := nI_nle (by omega) (by omega)
    have e : nI (21 * p + (j + 1)) - 1 = nI (21 * p + j) := nI_pred (21 * p + j)
    have e2 : (nI (21 * p + j)).toNatClampNeg = 21 * p + j := nI_clamp (by omega)
    have v : vp_in (nI (21 * p + j)) 126 := pk_in (21 * p + j) 126 (by omega)
    refine br_f z ?_
    rw [e, e2]
    refine ⟨v, ?_⟩
    unfold wX_workOut_27
    refine br_f z ?_
    rw [e, e2]
    refine ⟨v, ?_⟩
    unfold wX_workOut_46
    refine br_f z ?_
    rw [e, e2]
    exact ⟨v, nm_e ⟨ca_len p + 1, ca_lp C hp hi hm hmp h15 hj (by omega) (ca_len p) 0 0 _ (by omega) H⟩⟩
/-- a piece's whole formula at a call -/
theorem ca_wh {post : Int32 → Prop} {av p i : Nat} (C : ca_C (nI av) 6 a2 a3 a4 a5 a9 a10 a11 a12 a13) (hp : p < 6) (hi : i < 21) (H : post (ca_i (ca_hb (a16 (21 * p + i)) p))) : wpX_wholeHolds post (ft, fh, fp, fd, fg, a1, a2, a3, a4, a5, a6, a7, a8, a9, a10, a11, a12, a13, a14, a15, a16, a17, a18, a19) (nI p) (nI i) := by
  have l1 := (ca_len1 (p := p))
  have e1 : (nI p).toNatClampNeg = p := nI_clamp (by omega)
  have e3 : (nI (21 * p + i)).toNatClampNeg = 21 * p + i := nI_clamp (by omega)
  have e4 : nI (ca_len p) - 1 = nI (ca_len p - 1) := by
    rw [show ca_len p = (ca_len p - 1) + 1 by omega, nI_pred]
    rfl
  unfold wpX_wholeHolds
  dsimp only
  rw [ca_iy, e3, e1, (C.2 p hp).1, e4]
  exact ⟨pk_in (21 * p + i) 126 (by omega), pk_in p 6 hp, ca_wbit ⟨ca_nar _, H⟩⟩
end
end
section
section
variable {ft fh fp fd fg : Int32} {a1 a2 a3 a4 a5 a6 a7 a8 a9 a10 a11 a12 a13 a14 a15 a16 a17 a19 : Nat → Int32} {a18 : Nat → Int64}
theorem ca_isP {post : Int32 → Prop} {p k : Nat} (h : p < k) (hk : k ≤ 6) (H : post 1) : wpX_isPiece post (ft, fh, nI k, fd, fg, a1, a2, a3, a4, a5, a6, a7, a8, a9, a10, a11, a12, a13, a14, a15, a16, a17, a18, a19) (nI p) := by
  unfold wpX_isPiece
  exact br_f (nI_pos (by omega)) (br_f (nI_ge h (by omega)) H)
theorem ca_isPn {post : Int32 → Prop} {p k : Nat} (h : k ≤ p) (hk : p ≤ 6) (H : post 0) : wpX_isPiece post (ft, fh, nI k, fd, fg, a1, a2, a3, a4, a5, a6, a7, a8, a9, a10, a11, a12, a13, a14, a15, a16, a17, a18, a19) (nI p) := by
  unfold wpX_isPiece
  exact br_f (nI_pos (by omega)) (br_t (nI_le h (by omega)) H)
theorem ca_isM {post : Int32 → Prop} {m : Nat} (h : m < 16) (H : post 1) : wpX_isMethod post () (nI m) := by
  unfold wpX_isMethod
  exact br_f (nI_pos (by omega)) (br_f (nI_ge (b := 16) h (by omega)) H)
/-- a call tried above the stack -/
theorem ca_tr {post : Int32 → St2 → Prop} {av p m mp i : Nat} (C : ca_C (nI av) 6 a2 a3 a4 a5 a9 a10 a11 a12 a13) (hp : p < 6) (hi : i < 21) (hm : m < 16) (hmp : mp < 16) (hj : ∀ j, i = j + 1 → a15 j = nI mp)
    (H : post (ca_i (ca_hb (ca_W av p m mp i (ca_pv a16 0 p i) (ca_pv a17 0 p i) (ca_pv a18 0 p i)).1 p)) (ft, fh, fp, nI i, fg, a1, a2, a3, a4, a5, a6, a7, a8, a9, a10, a11, a12, a13, a14, upd a15 i (nI m), upd a16 (21 * p + i) (ca_W av p m mp i (ca_pv a16 0 p i) (ca_pv a17 0 p i) (ca_pv a18 0 p i)).1, upd a17 (21 * p + i) (ca_pv a17 0 p i ||| (ca_W av p m mp i (ca_pv a16 0 p i) (ca_pv a17 0 p i) (ca_pv a18 0 p i)).1), vp_updL a18 (21 * p + i) (ca_W av p m mp i (ca_pv a16 0 p i) (ca_pv a17 0 p i) (ca_pv a18 0 p i)).2, a19)) : wpX_tried post (ft, fh, fp, nI i, fg, a1, a2, a3, a4, a5, a6, a7, a8, a9, a10, a11, a12, a13, a14, a15, a16, a17, a18, a19) (nI p) (nI m) := by
  unfold wpX_tried
  refine ⟨pk_in i 21 hi, nm_r (e' := upd a15 i (nI m)) (by rw [nI_clamp (by omega)]) (ca_wo C hp hi hm hmp pk_us (fun j e => by rw [pk_un (by omega)]; exact hj j e) ?_)⟩
  refine ca_wh C hp hi ?_
  rw [pk_us]
  exact ⟨ca_nar _, H⟩
theorem ca_woH {post : Int32 → St2 → Prop} {av p m mp i : Nat} (C : ca_C (nI av) 6 a2 a3 a4 a5 a9 a10 a11 a12 a13) (hp : p < 6) (hi : i < 20) (hm : m < 16) (hmp : mp < 16) (hj : ∀ j, i = j + 1 → a15 j = nI mp)
    (H : post (ca_i (ca_hb (ca_W av p m mp i (ca_pv a16 0 p i) (ca_pv a17 0 p i) (ca_pv a18 0 p i)).1 p)) (ft, fh, nI 6, nI i, fg, a1, a2, a3, a4, a5, a6, a7, a8, a9, a10, a11, a12, a13, a14, upd a15 i (nI m), upd a16 (21 * p + i) (ca_W av p m mp i (ca_pv a16 0 p i) (ca_pv a17 0 p i) (ca_pv a18 0 p i)).1, upd a17 (21 * p + i) (ca_pv a17 0 p i ||| (ca_W av p m mp i (ca_pv a16 0 p i) (ca_pv a17 0 p i) (ca_pv a18 0 p i)).1), vp_updL a18 (21 * p + i) (ca_W av p m mp i (ca_pv a16 0 p i) (ca_pv a17 0 p i) (ca_pv a18 0 p i)).2, a19)) : wpX_wouldHold post (ft, fh, nI 6, nI i, fg, a1, a2, a3, a4, a5, a6, a7, a8, a9, a10, a11, a12, a13, a14, a15, a16, a17, a18, a19) (nI p) (nI m) := by
  unfold wpX_wouldHold
  refine ca_isP hp (by omega) (br_f (by decide) (ca_isM hm (br_f (by decide) (br_t (nI_lt (b := 20) hi (by omega)) (ca_tr C hp (by omega) hm hmp hj (ca_br _ (fun e => ?_) (fun e => ?_)))))))
  · rw [e] at H
    exact H
  · rw [e] at H
    exact H
/-- giving a piece -/
theorem ca_gi {post : St2 → Prop} {G p : Nat} (hG : G < 64) (hp : p < 6) (H : post (ft, fh, fp, fd, nI (G + 1), a1, a2, a3, a4, a5, a6, a7, a8, a9, a10, a11, a12, a13, upd a14 p (a14 p + 1), a15, a16, a17, a18, upd a19 G (nI p))) : wpX_give post (ft, fh, fp, fd, nI G, a1, a2, a3, a4, a5, a6, a7, a8, a9, a10, a11, a12, a13, a14, a15, a16, a17, a18, a19) (nI p) := by
  have e : nI G - nI G / 64 * 64 = nI G := by
    rw [show (64 : Int32) = nI 64 from rfl, pk_rem (by omega) (by omega) (by omega), Nat.mod_eq_of_lt hG]
  have e1 : (nI p).toNatClampNeg = p := nI_clamp (by omega)
  have e2 : (nI G).toNatClampNeg = G := nI_clamp (by omega)
  unfold wpX_give
  dsimp only
  rw [e, e1, e2]
  exact ⟨by decide, pk_in G 64 hG, nm_e (nm_r (nI_1 G) ⟨pk_in p 6 hp, pk_in p 6 hp, nm_e H⟩)⟩
def ca_u14 (b : Bool) (f : Nat → Int32) (p : Nat) : Nat → Int32 := cond b (upd f p (f p + 1)) f
def ca_u19 (b : Bool) (f : Nat → Int32) (G p : Nat) : Nat → Int32 := cond b (upd f G (nI p)) f
theorem ca_c78 {post : Int32 → St2 → Prop} {J : Int32 → Int32 → Int32 → Int32 → Int32 → Int32 → Int32 → (Nat → Int32) → (Nat → Int32) → (Nat → Int32) → (Nat → Int32) → (Nat → Int32) → (Nat → Int32) → (Nat → Int32) → (Nat → Int32) → (Nat → Int32) → (Nat → Int32) → (Nat → Int32) → (Nat → Int32) → (Nat → Int32) → (Nat → Int32) → (Nat → Int32) → (Nat → Int32) → (Nat → Int32) → (Nat → Int64) → (Nat → Int32) → Prop} {x p G : Nat} (b : Bool) (hG : G < 64) (hp : p < 6)
    (H : J (nI (x + b.toNat)) (nI (p + 1)) ft fh fp fd (nI (G + b.toNat)) a1 a2 a3 a4 a5 a6 a7 a8 a9 a10 a11 a12 a13 (ca_u14 b a14 p) a15 a16 a17 a18 (ca_u19 b a19 G p)) : wX_call_78 post J (nI x) (nI p) (ca_i b) ft fh fp fd (nI G) a1 a2 a3 a4 a5 a6 a7 a8 a9 a10 a11 a12 a13 a14 a15 a16 a17 a18 a19 := by
  cases b
  · exact br_t rfl (nm_r (nI_1 p) H)
  · exact br_f (by decide) (ca_gi hG hp (nm_r (nI_1 x) (nm_r (nI_1 p) H)))
/-- one turn of call's loop -/
theorem ca_cst {post : Int32 → St2 → Prop} {av p m mp i x G k n : Nat} (C : ca_C (nI av) 6 a2 a3 a4 a5 a9 a10 a11 a12 a13) (hp : p < k) (hk : k ≤ 6) (hi : i < 21) (hm : m < 16) (hmp : mp < 16) (h15 : a15 i = nI m) (hj : ∀ j, i = j + 1 → a15 j = nI mp) (hG : G < 64) (b : Bool)
    (hb : b = (!(ca_tb p) && ca_hb (ca_W av p m mp i (ca_pv a16 0 p i) (ca_pv a17 0 p i) (ca_pv a18 0 p i)).1 p))
    (H : wX_call_35 post n (nI (x + b.toNat)) (nI (p + 1)) ft fh (nI k) (nI i) (nI (G + b.toNat)) a1 a2 a3 a4 a5 a6 a7 a8 a9 a10 a11 a12 a13 (ca_u14 b a14 p) a15 (upd a16 (21 * p + i) (ca_W av p m mp i (ca_pv a16 0 p i) (ca_pv a17 0 p i) (ca_pv a18 0 p i)).1) (upd a17 (21 * p + i) (ca_pv a17 0 p i ||| (ca_W av p m mp i (ca_pv a16 0 p i) (ca_pv a17 0 p i) (ca_pv a18 0 p i)).1)) (vp_updL a18 (21 * p + i) (ca_W av p m mp i (ca_pv a16 0 p i) (ca_pv a17 0 p i) (ca_pv a18 0 p i)).2) (ca_u19 b a19 G p)) :
    wX_call_35 post (n + 1) (nI x) (nI p) ft fh (nI k) (nI i) (nI G) a1 a2 a3 a4 a5 a6 a7 a8 a9 a10 a11 a12 a13 a14 a15 a16 a17 a18 a19 := by
  have hp6 : p < 6 := by omega
  have e1 : (nI p).toNatClampNeg = p := nI_clamp (by omega)
  refine br_f (nI_ge hp (by omega)) (ca_wo C hp6 hi hm hmp h15 hj ⟨pk_in p 6 hp6, ?_⟩)
  rw [e1, (C.2 p hp6).2.1]
  refine ca_br _ (fun e => ca_wh C hp6 hi ?_) (fun e => ?_)
  · rw [pk_us]
    refine ca_br _ (fun e' => ?_) (fun e' => ?_)
    · have hb' : b = false := by rw [hb, e, e']; rfl
      rw [hb'] at H
      exact ca_c78 false hG hp6 H
    · have hb' : b = true := by rw [hb, e, e']; rfl
      rw [hb'] at H
      exact ca_c78 true hG hp6 H
  · have hb' : b = false := by rw [hb, e]; rfl
    rw [hb'] at H
    exact ca_c78 false hG hp6 H
end
end
section
section
variable {ft fh fp fd fg : Int32} {a1 a2 a3 a4 a5 a6 a7 a8 a9 a10 a11 a12 a13 a14 a15 a16 a17 a19 : Nat → Int32} {a18 : Nat → Int64}
def ca_gb (av m mp i : Nat) (b16 b17 : Nat → Int32) (b18 : Nat → Int64) (q : Nat) : Bool := !(ca_tb q) && ca_hb (ca_W av q m mp i (ca_pv b16 0 q i) (ca_pv b17 0 q i) (ca_pv b18 0 q i)).1 q
def ca_ct (f : Nat → Bool) : Nat → Nat
  | 0 => 0
  | p + 1 => ca_ct f p + (f p).toNat
theorem ca_ct_le (f : Nat → Bool) : ∀ p, ca_ct f p ≤ p
  | 0 => Nat.le_refl 0
  | p + 1 => by
    have h := ca_ct_le f p
    show ca_ct f p + (f p).toNat ≤ p + 1
    have := Bool.toNat_le (f p)
    omega
/-- the arrays of the levels while call works on pieces: level i is new below p, all else is as before -/
def ca_Q (av m mp i p : Nat) (b16 b17 : Nat → Int32) (b18 : Nat → Int64) (a16 a17 : Nat → Int32) (a18 : Nat → Int64) : Prop :=
  (∀ q j, q < 6 → j < 21 → j ≠ i → a16 (21 * q + j) = b16 (21 * q + j) ∧ a17 (21 * q + j) = b17 (21 * q + j) ∧ a18 (21 * q + j) = b18 (21 * q + j)) ∧
  ∀ q, q < p → a16 (21 * q + i) = (ca_W av q m mp i (ca_pv b16 0 q i) (ca_pv b17 0 q i) (ca_pv b18 0 q i)).1 ∧ a17 (21 * q + i) = (ca_pv b17 0 q i ||| (ca_W av q m mp i (ca_pv b16 0 q i) (ca_pv b17 0 q i) (ca_pv b18 0 q i)).1) ∧ a18 (21 * q + i) = (ca_W av q m mp i (ca_pv b16 0 q i) (ca_pv b17 0 q i) (ca_pv b18 0 q i)).2
theorem ca_Q0 {av m mp i : Nat} : ca_Q av m mp i 0 a16 a17 a18 a16 a17 a18 := ⟨fun _ _ _ _ _ => ⟨rfl, rfl, rfl⟩, fun _ h => absurd h (by omega)⟩
theorem ca_Qpv {av m mp i p : Nat} {b16 b17 : Nat → Int32} {b18 : Nat → Int64} (Q : ca_Q av m mp i p b16 b17 b18 a16 a17 a18) {q : Nat} (hq : q < 6) (hi : i < 21) : ca_pv a16 0 q i = ca_pv b16 0 q i ∧ ca_pv a17 0 q i = ca_pv b17 0 q i ∧ ca_pv a18 0 q i = ca_pv b18 0 q i := by
  cases i with
  | zero => exact ⟨rfl, rfl, rfl⟩
  | succ j => exact Q.1 q j hq (by omega) (by omega)
theorem ca_Qs {av m mp i p : Nat} {b16 b17 : Nat → Int32} {b18 : Nat → Int64} (Q : ca_Q av m mp i p b16 b17 b18 a16 a17 a18) (hp : p < 6) (hi : i < 21) : ca_Q av m mp i (p + 1) b16 b17 b18 (upd a16 (21 * p + i) (ca_W av p m mp i (ca_pv b16 0 p i) (ca_pv b17 0 p i) (ca_pv b18 0 p i)).1) (upd a17 (21 * p + i) (ca_pv b17 0 p i ||| (ca_W av p m mp i (ca_pv b16 0 p i) (ca_pv b17 0 p i) (ca_pv b18 0 p i)).1)) (vp_updL a18 (21 * p + i) (ca_W av p m mp i (ca_pv b16 0 p i) (ca_pv b17 0 p i) (ca_pv b18 0 p i)).2) := by
  refine ⟨fun q j hq hj hne => ?_, fun q hq => ?_⟩
  · rw [pk_un (by omega), pk_un (by omega), pk_uLn (by omega)]
    exact Q.1 q j hq hj hne
  · by_cases e : q = p
    · subst e
      exact ⟨pk_us, pk_us, pk_uLs⟩
    · rw [pk_un (by omega), pk_un (by omega), pk_uLn (by omega)]
      exact Q.2 q (by omega)
theorem ca_u14n {b : Bool} {f : Nat → Int32} {p k : Nat} (h : k ≠ p) : ca_u14 b f p k = f k := by
  cases b
  · rfl
  · exact pk_un h
theorem ca_u14s {b : Bool} {f : Nat → Int32} {p : Nat} : ca_u14 b f p p = f p + ca_i b := by
  cases b
  · show f p = f p + 0
    grind
  · exact pk_us
theorem ca_clp {post : Int32 → St2 → Prop} {av m mp i G0 K : Nat} {b14 b16 b17 : Nat → Int32} {b18 : Nat → Int64} (C : ca_C (nI av) 6 a2 a3 a4 a5 a9 a10 a11 a12 a13) (hK : K ≤ 6) (hi : i < 20) (hm : m < 16) (hmp : mp < 16) (h15 : a15 i = nI m) (hj : ∀ j, i = j + 1 → a15 j = nI mp) (hG : G0 + 6 < 64)
    (HH : ∀ (a14 a16 a17 : Nat → Int32) (a18 : Nat → Int64) (a19 : Nat → Int32), ca_Q av m mp i K b16 b17 b18 a16 a17 a18 → (4 < K → a14 4 = b14 4 + ca_i (ca_gb av m mp i b16 b17 b18 4)) → a14 5 = b14 5 → post (nI (ca_ct (ca_gb av m mp i b16 b17 b18) K)) (ft, fh, nI K, nI (i + 1), nI (G0 + ca_ct (ca_gb av m mp i b16 b17 b18) K), a1, a2, a3, a4, a5, a6, a7, a8, a9, a10, a11, a12, a13, a14, a15, a16, a17, a18, a19)) :
    ∀ (k p : Nat) (a14 a16 a17 : Nat → Int32) (a18 : Nat → Int64) (a19 : Nat → Int32), p + k = K → ca_Q av m mp i p b16 b17 b18 a16 a17 a18 → (4 < p → a14 4 = b14 4 + ca_i (ca_gb av m mp i b16 b17 b18 4)) → (p ≤ 4 → a14 4 = b14 4) → a14 5 = b14 5 →
      wX_call_35 post (k + 1) (nI (ca_ct (ca_gb av m mp i b16 b17 b18) p)) (nI p) ft fh (nI K) (nI i) (nI (G0 + ca_ct (ca_gb av m mp i b16 b17 b18) p)) a1 a2 a3 a4 a5 a6 a7 a8 a9 a10 a11 a12 a13 a14 a15 a16 a17 a18 a19 := by
  intro k
  induction k with
  | zero =>
    intro p a14 a16 a17 a18 a19 e Q h4 _ h5
    have e' : p = K := by omega
    subst e'
    exact br_t (nI_le (Nat.le_refl _) (by omega)) (nm_r (nI_1 i) (HH a14 a16 a17 a18 a19 Q h4 h5))
  | succ k ih =>
    intro p a14 a16 a17 a18 a19 e Q h4 h4' h5
    have hp : p < 6 := by omega
    have hc := ca_ct_le (ca_gb av m mp i b16 b17 b18) p
    obtain ⟨p1, p2, p3⟩ := ca_Qpv Q hp (show i < 21 by omega)
    refine ca_cst C (show p < K by omega) hK (by omega) hm hmp h15 hj (by omega) (ca_gb av m mp i b16 b17 b18 p) (by rw [p1, p2, p3]; rfl) ?_
    rw [p1, p2, p3, Nat.add_assoc]
    refine ih (p + 1) _ _ _ _ _ (by omega) (ca_Qs Q hp (by omega)) (fun h => ?_) (fun h => ?_) ?_
    · by_cases e4 : p = 4
      · subst e4
        rw [ca_u14s, h4' (by omega)]
      · rw [ca_u14n (by omega)]
        exact h4 (by omega)
    · rw [ca_u14n (by omega)]
      exact h4' (by omega)
    · by_cases e5 : p = 5
      · subst e5
        exact h5
      · rw [ca_u14n (by omega)]
        exact h5
/-- call, at depth i, of method m -/
theorem ca_call {post : Int32 → St2 → Prop} {av m mp i G0 K : Nat} (C : ca_C (nI av) 6 a2 a3 a4 a5 a9 a10 a11 a12 a13) (hK : K ≤ 6) (hi : i < 20) (hm : m < 16) (hmp : mp < 16) (hj : ∀ j, i = j + 1 → a15 j = nI mp) (hG : G0 + 6 < 64)
    (HH : ∀ (b14 b16 b17 : Nat → Int32) (b18 : Nat → Int64) (b19 : Nat → Int32), ca_Q av m mp i K a16 a17 a18 b16 b17 b18 → (4 < K → b14 4 = a14 4 + ca_i (ca_gb av m mp i a16 a17 a18 4)) → b14 5 = a14 5 → post (nI (ca_ct (ca_gb av m mp i a16 a17 a18) K)) (ft, fh, nI K, nI (i + 1), nI (G0 + ca_ct (ca_gb av m mp i a16 a17 a18) K), a1, a2, a3, a4, a5, a6, a7, a8, a9, a10, a11, a12, a13, b14, upd a15 i (nI m), b16, b17, b18, b19)) :
    wpX_call post (ft, fh, nI K, nI i, nI G0, a1, a2, a3, a4, a5, a6, a7, a8, a9, a10, a11, a12, a13, a14, a15, a16, a17, a18, a19) (nI m) := by
  unfold wpX_call
  refine ca_isM hm (br_f (by decide) (br_t (nI_lt (b := 20) hi (by omega)) ⟨pk_in i 21 (by omega), nm_r (e' := upd a15 i (nI m)) (by rw [nI_clamp (by omega)]) ⟨K + 1, ?_⟩⟩))
  exact ca_clp C hK hi hm hmp pk_us (fun j e => by rw [pk_un (by omega)]; exact hj j e) hG HH K 0 a14 a16 a17 a18 a19 (by omega) ca_Q0 (fun h => absurd h (by omega)) (fun _ => rfl) rfl
/-! the other questions -/
theorem ca_ho {post : Int32 → Prop} {av p i D : Nat} (C : ca_C (nI av) 6 a2 a3 a4 a5 a9 a10 a11 a12 a13) (hp : p < 6) (hi : i < D) (hD : D ≤ 20) (H : post (ca_i (ca_hb (a16 (21 * p + i)) p))) : wpX_holds post (ft, fh, nI 6, nI D, fg, a1, a2, a3, a4, a5, a6, a7, a8, a9, a10, a11, a12, a13, a14, a15, a16, a17, a18, a19) (nI p) (nI i) := by
  unfold wpX_holds
  refine ca_isP hp (by omega) (br_f (by decide) (br_f (nI_pos (by omega)) (br_t (nI_lt hi (by omega)) (ca_wh C hp (by omega) (ca_br _ (fun e => ?_) (fun e => ?_))))))
  · rw [e] at H
    exact H
  · rw [e] at H
    exact H
theorem ca_given {post : Int32 → Prop} (H : post fg) : wpX_given post (ft, fh, fp, fd, fg, a1, a2, a3, a4, a5, a6, a7, a8, a9, a10, a11, a12, a13, a14, a15, a16, a17, a18, a19) := H
theorem ca_depth {post : Int32 → Prop} (H : post fd) : wpX_depth post (ft, fh, fp, fd, fg, a1, a2, a3, a4, a5, a6, a7, a8, a9, a10, a11, a12, a13, a14, a15, a16, a17, a18, a19) := H
theorem ca_co {post : Int32 → Prop} {p : Nat} (hp : p < 6) (H : post (a14 p)) : wpX_count post (ft, fh, nI 6, fd, fg, a1, a2, a3, a4, a5, a6, a7, a8, a9, a10, a11, a12, a13, a14, a15, a16, a17, a18, a19) (nI p) := by
  unfold wpX_count
  refine ca_isP hp (by omega) (br_f (by decide) ⟨pk_in p 6 hp, ?_⟩)
  rw [nI_clamp (by omega)]
  exact H
theorem ca_la {post : Int32 → Prop} {k G : Nat} (hk : k < G) (hG : G ≤ 64) (H : post (a19 (G - 1 - k))) : wpX_last post (ft, fh, fp, fd, nI G, a1, a2, a3, a4, a5, a6, a7, a8, a9, a10, a11, a12, a13, a14, a15, a16, a17, a18, a19) (nI k) := by
  have e : nI G - 1 - nI k = nI (G - 1 - k) := by
    rw [show nI G - 1 = nI (G - 1) from pk_sub (b := 1) (by omega), pk_sub (by omega)]
  have e' : nI (G - 1 - k) - nI (G - 1 - k) / 64 * 64 = nI (G - 1 - k) := by
    rw [show (64 : Int32) = nI 64 from rfl, pk_rem (by omega) (by omega) (by omega), Nat.mod_eq_of_lt (by omega)]
  unfold wpX_last
  dsimp only
  rw [e, e', nI_clamp (show G - 1 - k < 2 ^ 31 by omega)]
  exact br_f (nI_pos (by omega)) (br_f (nI_ge hk (by omega)) (br_t (nI_lt (b := 64) (by omega) (by omega)) ⟨by decide, pk_in (G - 1 - k) 64 (by omega), H⟩))
end
end
section
section
variable {ft fh fp fd fg : Int32} {a1 a2 a3 a4 a5 a6 a7 a8 a9 a10 a11 a12 a13 a14 a15 a16 a17 a19 : Nat → Int32} {a18 : Nat → Int64}
theorem ca_br1 {A B : Prop} (b : Bool) (f : b = true → A) (g : b = false → B) : (ca_i b = 1 → A) ∧ (¬ ca_i b = 1 → B) := by
  cases b
  · exact ⟨fun z => absurd z (by decide), fun _ => g rfl⟩
  · exact ⟨fun _ => f rfl, fun z => absurd (show ca_i true = 1 from rfl) z⟩
theorem ca_g59 {post : Int32 → St2 → Prop} {J : Int32 → Int32 → Int32 → Int32 → Int32 → Int32 → Int32 → (Nat → Int32) → (Nat → Int32) → (Nat → Int32) → (Nat → Int32) → (Nat → Int32) → (Nat → Int32) → (Nat → Int32) → (Nat → Int32) → (Nat → Int32) → (Nat → Int32) → (Nat → Int32) → (Nat → Int32) → (Nat → Int32) → (Nat → Int32) → (Nat → Int32) → (Nat → Int32) → (Nat → Int32) → (Nat → Int64) → (Nat → Int32) → Prop} {x p G : Nat} {y : Int32} (b : Bool) (hy : nI p + (-1) = y) (hG : G < 64) (hp : p < 6)
    (H : J (nI (x + b.toNat)) y ft fh fp fd (nI (G + b.toNat)) a1 a2 a3 a4 a5 a6 a7 a8 a9 a10 a11 a12 a13 (ca_u14 b a14 p) a15 a16 a17 a18 (ca_u19 b a19 G p)) : wX_giveBack_59 post J (nI x) (nI p) (ca_i b) ft fh fp fd (nI G) a1 a2 a3 a4 a5 a6 a7 a8 a9 a10 a11 a12 a13 a14 a15 a16 a17 a18 a19 := by
  cases b
  · exact br_t rfl (nm_r hy H)
  · exact br_f (by decide) (ca_gi hG hp (nm_r (nI_1 x) (nm_r hy H)))
theorem ca_gst {post : Int32 → St2 → Prop} {av p i x G n : Nat} {y : Int32} (C : ca_C (nI av) 6 a2 a3 a4 a5 a9 a10 a11 a12 a13) (hp : p < 6) (hi : i < 21) (hG : G < 64) (hy : nI p + (-1) = y) (b : Bool) (hb : b = (ca_tb p && ca_hb (a16 (21 * p + i)) p))
    (H : wX_giveBack_28 post n (nI (x + b.toNat)) y ft fh fp (nI i) (nI (G + b.toNat)) a1 a2 a3 a4 a5 a6 a7 a8 a9 a10 a11 a12 a13 (ca_u14 b a14 p) a15 a16 a17 a18 (ca_u19 b a19 G p)) : wX_giveBack_28 post (n + 1) (nI x) (nI p) ft fh fp (nI i) (nI G) a1 a2 a3 a4 a5 a6 a7 a8 a9 a10 a11 a12 a13 a14 a15 a16 a17 a18 a19 := by
  have e1 : (nI p).toNatClampNeg = p := nI_clamp (by omega)
  refine br_f (nI_pos (by omega)) ⟨pk_in p 6 hp, ?_⟩
  rw [e1, (C.2 p hp).2.1]
  refine ca_br1 _ (fun e => ca_wh C hp hi (ca_br _ (fun e' => ?_) (fun e' => ?_))) (fun e => ?_)
  · have hb' : b = false := by rw [hb, e, e']; rfl
    rw [hb'] at H
    exact ca_g59 false hy hG hp H
  · have hb' : b = true := by rw [hb, e, e']; rfl
    rw [hb'] at H
    exact ca_g59 true hy hG hp H
  · have hb' : b = false := by rw [hb, e]; rfl
    rw [hb'] at H
    exact ca_g59 false hy hG hp H
/-- giveBack: pieces 5, 3, 2 in this order, where their formulas hold -/
theorem ca_gbk {post : Int32 → St2 → Prop} {av i G : Nat} (C : ca_C (nI av) 6 a2 a3 a4 a5 a9 a10 a11 a12 a13) (hi : i < 20) (hG : G + 3 < 64) (b5 b3 b2 : Bool) (h5 : b5 = ca_hb (a16 (21 * 5 + i)) 5) (h3 : b3 = ca_hb (a16 (21 * 3 + i)) 3) (h2 : b2 = ca_hb (a16 (21 * 2 + i)) 2)
    (H : post (nI (0 + b5.toNat + b3.toNat + b2.toNat)) (ft, fh, nI 6, nI i, nI (G + b5.toNat + b3.toNat + b2.toNat), a1, a2, a3, a4, a5, a6, a7, a8, a9, a10, a11, a12, a13, ca_u14 b2 (ca_u14 b3 (ca_u14 b5 a14 5) 3) 2, a15, a16, a17, a18, ca_u19 b2 (ca_u19 b3 (ca_u19 b5 a19 G 5) (G + b5.toNat) 3) (G + b5.toNat + b3.toNat) 2)) :
    wpX_giveBack post (ft, fh, nI 6, nI (i + 1), nI G, a1, a2, a3, a4, a5, a6, a7, a8, a9, a10, a11, a12, a13, a14, a15, a16, a17, a18, a19) := by
  have t5 := Bool.toNat_le b5
  have t3 := Bool.toNat_le b3
  have t2 := Bool.toNat_le b2
  unfold wpX_giveBack
  refine br_f (nI_ne0 (by omega) (by omega)) (nm_r (nI_pred i) (nm_r (e' := nI 5) (nI_pred 5) ⟨7, ?_⟩))
  refine ca_gst (x := 0) (p := 5) C (by omega) (by omega) (by omega) (pk_m1 4) b5 h5 ?_
  refine ca_gst (p := 4) C (by omega) (by omega) (by omega) (pk_m1 3) false rfl ?_
  refine ca_gst (p := 3) C (by omega) (by omega) (by show G + b5.toNat + 0 < 64; omega) (pk_m1 2) b3 h3 ?_
  refine ca_gst (p := 2) C (by omega) (by omega) (by show G + b5.toNat + 0 + b3.toNat < 64; omega) (pk_m1 1) b2 h2 ?_
  refine ca_gst (p := 1) C (by omega) (by omega) (by show G + b5.toNat + 0 + b3.toNat + b2.toNat < 64; omega) (pk_m1 0) false rfl ?_
  refine ca_gst (p := 0) (y := -1) C (by omega) (by omega) (by show G + b5.toNat + 0 + b3.toNat + b2.toNat + 0 < 64; omega) (by decide) false rfl ?_
  exact br_t (by decide) H
theorem ca_gb0 {post : Int32 → St2 → Prop} (H : post (-1) (ft, fh, fp, 0, fg, a1, a2, a3, a4, a5, a6, a7, a8, a9, a10, a11, a12, a13, a14, a15, a16, a17, a18, a19)) : wpX_giveBack post (ft, fh, fp, 0, fg, a1, a2, a3, a4, a5, a6, a7, a8, a9, a10, a11, a12, a13, a14, a15, a16, a17, a18, a19) := by
  unfold wpX_giveBack
  exact br_t rfl H
end
end
section
section
variable {ft fh fp fd fg : Int32} {a1 a2 a3 a4 a5 a6 a7 a8 a9 a10 a11 a12 a13 a14 a15 a16 a17 a19 : Nat → Int32} {a18 : Nat → Int64}
theorem ca_fill {f s : Nat → Int32} {i : Nat} {x : Int32} (h : ∀ j, j < i → s j = f j) (hx : x = f i) : ∀ j, j < i + 1 → upd s i x j = f j := by
  intro j hj
  by_cases e : j = i
  · rw [e, pk_us, hx]
  · rw [pk_un e]
    exact h j (by omega)
theorem ca_init {post : St2 → Prop} (H : ∀ b1 b2 : Nat → Int32, (∀ j, j < 8 → b1 j = -1) → post (0, 0, 0, 0, 0, b1, b2, fun _ => 0, fun _ => 0, fun _ => 0, fun _ => 0, fun _ => 0, fun _ => 0, fun _ => 0, fun _ => 0, fun _ => 0, fun _ => 0, fun _ => 0, fun _ => 0, fun _ => 0, fun _ => 0, fun _ => 0, fun _ => 0, fun _ => 0)) : wpX_init post 19 881 (0, 0, 0, 0, 0) := by
  have L : ∃ n, wX_init_158 post 19 881 19 881 0 0 0 0 0 n 0 (fun _ => 0) (fun _ => 0) (fun _ => 0) (fun _ => 0) (fun _ => 0) (fun _ => 0) (fun _ => 0) (fun _ => 0) (fun _ => 0) (fun _ => 0) (fun _ => 0) (fun _ => 0) (fun _ => 0) (fun _ => 0) (fun _ => 0) (fun _ => 0) (fun _ => 0) (fun _ => 0) (fun _ => 0) :=
    pk_loop (σ := (Nat → Int32) × (Nat → Int32)) (fun n i s => wX_init_158 post 19 881 19 881 0 0 0 0 0 n (nI i) s.1 s.2 (fun _ => 0) (fun _ => 0) (fun _ => 0) (fun _ => 0) (fun _ => 0) (fun _ => 0) (fun _ => 0) (fun _ => 0) (fun _ => 0) (fun _ => 0) (fun _ => 0) (fun _ => 0) (fun _ => 0) (fun _ => 0) (fun _ => 0) (fun _ => 0) (fun _ => 0)) (fun i s => ∀ j, j < i → s.1 j = -1) 8 0 (fun _ => 0, fun _ => 0) (by omega) (fun j hj => absurd hj (by omega))
      (fun n s h => br_t (by decide) (H s.1 s.2 h))
      (fun n i s hi h hw => by
        have e : (nI i).toNatClampNeg = i := nI_clamp (by omega)
        refine br_f (nI_ge (b := 8) hi (by omega)) ⟨pk_in i 8 hi, nm_e ⟨pk_in i 8 hi, nm_e (nm_r (nI_1 i) (hw (upd s.1 (nI i).toNatClampNeg (-1), upd s.2 (nI i).toNatClampNeg ((1 : Int32) <<< (nI i &&& 31))) ?_))⟩⟩
        rw [e]
        exact ca_fill (f := fun _ => -1) h rfl)
  unfold wpX_init
  exact ⟨by decide, by decide, by decide, by decide, by decide, by decide, by decide, by decide, by decide, by decide, by decide, by decide, by decide, by decide, by decide, by decide, by decide, by decide, by decide, by decide, by decide, by decide, by decide, by decide, by decide, by decide, by decide, by decide, by decide, by decide, by decide, by decide, by decide, by decide, by decide, by decide, by decide, by decide, L⟩
def ca_k8 (j : Nat) : Int32 := if j = 3 then 12 else (1 : Int32) <<< (nI j &&& 31)
theorem ca_k8or : ∀ j, j < 8 → j ≠ 3 → ((1 : Int32) <<< (nI j &&& 31)) ||| 0 = ca_k8 j := by decide +kernel
theorem ca_derive {post : Int32 → St2 → Prop} (h1 : ∀ j, j < 8 → a1 j = -1) (H : ∀ (r : Int32) (b1 b2 : Nat → Int32), b2 0 = 1 ∧ b2 3 = 12 ∧ b2 5 = 32 → post r (ft, fh, fp, 0, fg, b1, b2, a3, a4, a5, a6, a7, a8, a9, a10, a11, a12, a13, a14, a15, a16, a17, a18, a19)) : wpX_derive post (ft, fh, fp, 0, fg, a1, a2, a3, a4, a5, a6, a7, a8, a9, a10, a11, a12, a13, a14, a15, a16, a17, a18, a19) 3 2 := by
  unfold wpX_derive
  refine br_f (by decide) (br_f (by decide) (br_f (by decide) (br_t (by decide) (br_t (by decide) ⟨pk_in 3 8 (by omega), nm_e ⟨pk_in 3 8 (by omega), nm_r (e' := upd a1 3 2) rfl ?_⟩⟩))))
  refine pk_loop (σ := Nat → Int32) (fun n i s => wX_derive_49 post (a1 (3 : Int32).toNatClampNeg) ft fh fp 0 fg n (nI i) (upd a1 3 2) s a3 a4 a5 a6 a7 a8 a9 a10 a11 a12 a13 a14 a15 a16 a17 a18 a19) (fun i s => ∀ j, j < i → s j = ca_k8 j) 8 0 a2 (by omega) (fun j hj => absurd hj (by omega))
    (fun n s h => br_t (by decide) (H _ _ _ ⟨h 0 (by omega), h 3 (by omega), h 5 (by omega)⟩)) (fun n i s hi h hw => ?_)
  have e : (nI i).toNatClampNeg = i := nI_clamp (by omega)
  refine br_f (nI_ge (b := 8) hi (by omega)) ⟨pk_in i 8 hi, ?_⟩
  rw [e]
  by_cases i3 : i = 3
  · subst i3
    have e2 : upd a1 3 2 3 = 2 := pk_us
    rw [e2]
    refine br_t (by decide) ⟨pk_in 3 8 hi, pk_in 2 8 (by omega), pk_in 3 8 hi, nm_e (nm_r (nI_1 3) (hw _ (ca_fill h ?_)))⟩
    rw [show (2 : Int32).toNatClampNeg = 2 from rfl, h 2 (by omega)]
    decide
  · have e2 : upd a1 3 2 i = -1 := by rw [pk_un i3]; exact h1 i hi
    rw [e2]
    exact br_f (by decide) ⟨pk_in i 8 hi, nm_e (nm_r (nI_1 i) (hw _ (ca_fill h (ca_k8or i hi i3))))⟩
theorem ca_define {post : Int32 → St2 → Prop} {m c n k : Nat} (hm : m < 16) (hc : c < 8) (hn : n ≤ 9) (hk : k ≤ 15) (H : post 1 (ft, fh, fp, 0, fg, a1, a2, upd a3 m (nI c), upd a4 m (nI n), upd a5 m (nI k), a6, a7, a8, a9, a10, a11, a12, a13, a14, a15, a16, a17, a18, a19)) : wpX_define post (ft, fh, fp, 0, fg, a1, a2, a3, a4, a5, a6, a7, a8, a9, a10, a11, a12, a13, a14, a15, a16, a17, a18, a19) (nI m) (nI c) (nI n) (nI k) := by
  unfold wpX_define
  refine ca_isM hm (br_f (by decide) (br_f (nI_pos (by omega)) (br_f (nI_ge (b := 8) hc (by omega)) (br_f (nI_pos (by omega)) (br_f (nI_nlt (a := 9) hn (by omega)) (br_f (nI_pos (by omega)) (br_t (nI_le (b := 15) hk (by omega)) (br_t (by decide) ?_))))))))
  rw [nI_clamp (show m < 2 ^ 31 by omega)]
  exact ⟨pk_in m 16 hm, nm_e ⟨pk_in m 16 hm, nm_e ⟨pk_in m 16 hm, nm_e H⟩⟩⟩
/-! tokens -/
theorem ca_tokE {post : Int32 → St2 → Prop} {x1 x2 x3 x4 x5 x6 fh' : Int32} {T n : Nat} (hT : T < 16) (hx : x3 ≤ x6) (hh : fh + (1 - x3) = fh') (H : post fh' (nI (T + 1), fh', fp, fd, fg, a1, a2, a3, a4, a5, upd a6 T x1, upd a7 T x2, upd a8 T x4, a9, a10, a11, a12, a13, a14, a15, a16, a17, a18, a19)) : wX_token_78 post x1 x2 x3 (nI T) fh fp fd fg a1 a2 a3 a4 a5 a6 a7 a8 a9 a10 a11 a12 a13 a14 a15 a16 a17 a18 a19 (n + 1) x4 x5 x6 := by
  refine br_t hx ?_
  rw [nI_clamp (show T < 2 ^ 31 by omega)]
  exact ⟨pk_in T 16 hT, nm_e ⟨pk_in T 16 hT, nm_e ⟨pk_in T 16 hT, nm_e (nm_r (nI_1 T) (nm_r hh H))⟩⟩⟩
theorem ca_tokS {post : Int32 → St2 → Prop} {x1 x2 x3 x4 y4 y5 x6 y6 : Int32} {y s n : Nat} (hy : y < 16) (h8 : a8 y = nI s) (h4 : x4 + nI s = y4) (h5 : nI y - nI s = y5) (h6 : x6 + 1 = y6) (hx : ¬ x3 ≤ x6) (H : wX_token_78 post x1 x2 x3 ft fh fp fd fg a1 a2 a3 a4 a5 a6 a7 a8 a9 a10 a11 a12 a13 a14 a15 a16 a17 a18 a19 n y4 y5 y6) : wX_token_78 post x1 x2 x3 ft fh fp fd fg a1 a2 a3 a4 a5 a6 a7 a8 a9 a10 a11 a12 a13 a14 a15 a16 a17 a18 a19 (n + 1) x4 (nI y) x6 := by
  refine br_f hx ?_
  rw [nI_clamp (show y < 2 ^ 31 by omega), h8]
  exact ⟨pk_in y 16 hy, nm_r h4 ⟨pk_in y 16 hy, nm_r h5 (nm_r h6 H)⟩⟩
theorem ca_tok0 {post : Int32 → St2 → Prop} {k a : Int32} {T D : Nat} (hT : T < 16) (hD : D < 6) (k0 : ¬ k < 0) (k13 : ¬ 13 < k) (hf : ∀ P : Int32 → Prop, P 1 → wpX_fits P () k a) (ht : ¬ 5 < k)
    (H : post (nI (D + 1)) (nI (T + 1), nI (D + 1), fp, fd, fg, a1, a2, a3, a4, a5, upd a6 T k, upd a7 T a, upd a8 T 1, a9, a10, a11, a12, a13, a14, a15, a16, a17, a18, a19)) : wpX_token post (nI T, nI D, fp, fd, fg, a1, a2, a3, a4, a5, a6, a7, a8, a9, a10, a11, a12, a13, a14, a15, a16, a17, a18, a19) k a := by
  unfold wpX_token
  refine br_f k0 (br_f k13 (hf _ (br_f (by decide) (br_t (nI_lt (b := 16) hT (by omega)) ?_))))
  unfold wpX_taken
  refine br_f ht (br_t (nI_pos' (by omega)) (br_t rfl (br_t (nI_lt (b := 6) hD (by omega)) ?_)))
  unfold wX_token_64
  exact nm_e ⟨1, ca_tokE hT (by decide) (nI_1 D) H⟩
theorem ca_tok1 {post : Int32 → St2 → Prop} {k a : Int32} {T D s : Nat} (hT : T + 1 < 16) (hD : D < 6) (k0 : ¬ k < 0) (k13 : ¬ 13 < k) (hf : ∀ P : Int32 → Prop, P 1 → wpX_fits P () k a) (ht : ∀ P : Int32 → Prop, P 1 → wpX_taken P () k) (h8 : a8 T = nI s)
    (H : post (nI (D + 1)) (nI (T + 2), nI (D + 1), fp, fd, fg, a1, a2, a3, a4, a5, upd a6 (T + 1) k, upd a7 (T + 1) a, upd a8 (T + 1) (nI (1 + s)), a9, a10, a11, a12, a13, a14, a15, a16, a17, a18, a19)) : wpX_token post (nI (T + 1), nI (D + 1), fp, fd, fg, a1, a2, a3, a4, a5, a6, a7, a8, a9, a10, a11, a12, a13, a14, a15, a16, a17, a18, a19) k a := by
  unfold wpX_token
  refine br_f k0 (br_f k13 (hf _ (br_f (by decide) (br_t (nI_lt (b := 16) hT (by omega)) (ht _ (br_t (nI_le (a := 1) (by omega) (by omega)) (br_f (by decide) ?_)))))))
  unfold wX_token_64
  refine nm_r (nI_pred T) ⟨2, ca_tokS (by omega) h8 (nI_add 1 s) rfl (show (0 : Int32) + 1 = 1 by decide) (by decide) (ca_tokE (T := T + 1) hT (by decide) ?_ H)⟩
  show nI (D + 1) + 0 = nI (D + 1)
  exact nI_add (D + 1) 0
theorem ca_tok2 {post : Int32 → St2 → Prop} {k a : Int32} {T D s r : Nat} (hT : T + 1 < 16) (hD : D < 5) (k0 : ¬ k < 0) (k13 : ¬ 13 < k) (hf : ∀ P : Int32 → Prop, P 1 → wpX_fits P () k a) (ht : ∀ P : Int32 → Prop, P 2 → wpX_taken P () k) (hs : s ≤ T) (h8 : a8 T = nI s) (h8' : a8 (T - s) = nI r)
    (H : post (nI (D + 1)) (nI (T + 2), nI (D + 1), fp, fd, fg, a1, a2, a3, a4, a5, upd a6 (T + 1) k, upd a7 (T + 1) a, upd a8 (T + 1) (nI (1 + s + r)), a9, a10, a11, a12, a13, a14, a15, a16, a17, a18, a19)) : wpX_token post (nI (T + 1), nI (D + 2), fp, fd, fg, a1, a2, a3, a4, a5, a6, a7, a8, a9, a10, a11, a12, a13, a14, a15, a16, a17, a18, a19) k a := by
  unfold wpX_token
  refine br_f k0 (br_f k13 (hf _ (br_f (by decide) (br_t (nI_lt (b := 16) hT (by omega)) (ht _ (br_t (nI_le (a := 2) (by omega) (by omega)) (br_f (by decide) ?_)))))))
  unfold wX_token_64
  refine nm_r (nI_pred T) ⟨3, ca_tokS (by omega) h8 (nI_add 1 s) (pk_sub hs) (show (0 : Int32) + 1 = 1 by decide) (by decide) (ca_tokS (by omega) h8' (nI_add (1 + s) r) rfl (show (1 : Int32) + 1 = 2 by decide) (by decide) (ca_tokE (T := T + 1) hT (by decide) ?_ H))⟩
  show nI (D + 2) + (1 - 2) = nI (D + 1)
  rw [show (1 : Int32) - 2 = -1 by decide]
  exact pk_m1 (D + 1)
end
end
section
section
variable {ft fh fp fd fg : Int32} {a1 a2 a3 a4 a5 a6 a7 a8 a9 a10 a11 a12 a13 a14 a15 a16 a17 a19 : Nat → Int32} {a18 : Nat → Int64}
/-- the draft becomes piece k -/
theorem ca_adv {post : Int32 → St2 → Prop} {av : Int32} {k : Nat} (hk : k < 6) (C : ca_C av k a2 a3 a4 a5 a9 a10 a11 a12 a13) (hd : ∀ t, t < ca_len k → a6 t = ca_kd k t ∧ a7 t = ca_ar av k t ∧ a8 t = ca_sp k t) (hz : ∀ q, q < k → a14 q = 0)
    (H : ∀ b9 b10 b11 b12 b13 b14 : Nat → Int32, ca_C av (k + 1) a2 a3 a4 a5 b9 b10 b11 b12 b13 → (∀ q, q < k + 1 → b14 q = 0) → post (nI k) (0, 0, nI (k + 1), 0, fg, a1, a2, a3, a4, a5, a6, a7, a8, b9, b10, b11, b12, b13, b14, a15, a16, a17, a18, a19)) :
    wpX_advise post (nI (ca_len k), 1, nI k, 0, fg, a1, a2, a3, a4, a5, a6, a7, a8, a9, a10, a11, a12, a13, a14, a15, a16, a17, a18, a19) (ca_i (ca_tb k)) := by
  have l1 := ca_len1 (p := k)
  have ek : (nI k).toNatClampNeg = k := nI_clamp (by omega)
  unfold wpX_advise
  refine br_f (by cases ca_tb k <;> decide) (br_t (by cases ca_tb k <;> decide) (br_t rfl (br_t (nI_lt (b := 6) hk (by omega)) (br_t (by decide) ?_))))
  refine pk_loop (σ := (Nat → Int32) × (Nat → Int32) × (Nat → Int32)) (fun n i s => wX_advise_46 post (ca_i (ca_tb k)) (nI (ca_len k)) 1 (nI k) 0 fg n (nI i) a1 a2 a3 a4 a5 a6 a7 a8 a9 a10 s.1 s.2.1 s.2.2 a14 a15 a16 a17 a18 a19)
    (fun i s => (∀ x, x < 16 * k → s.1 x = a11 x ∧ s.2.1 x = a12 x ∧ s.2.2 x = a13 x) ∧ ∀ t, t < i → s.1 (16 * k + t) = a6 t ∧ s.2.1 (16 * k + t) = a7 t ∧ s.2.2 (16 * k + t) = a8 t) (ca_len k) 0 (a11, a12, a13) (by omega) ⟨fun x _ => ⟨rfl, rfl, rfl⟩, fun t ht => absurd ht (by omega)⟩ (fun n s h => ?_) (fun n i s hi h hw => ?_)
  · refine br_t (nI_le (Nat.le_refl _) (by omega)) ?_
    rw [ek]
    refine ⟨pk_in k 6 hk, nm_e ⟨pk_in k 6 hk, nm_e ⟨pk_in k 6 hk, nm_e (nm_r (nI_1 k) ?_)⟩⟩⟩
    unfold wpX_clear
    refine ek_v (P := fun r => post r _) (nI_pred k) (H _ _ _ _ _ _ ⟨C.1, fun p hp => ?_⟩ (fun q hq => ?_))
    · by_cases e : p = k
      · subst e
        refine ⟨pk_us, pk_us, fun t ht => ?_⟩
        obtain ⟨q1, q2, q3⟩ := h.2 t ht
        obtain ⟨d1, d2, d3⟩ := hd t ht
        exact ⟨q1.trans d1, q2.trans d2, q3.trans d3⟩
      · rw [pk_un e, pk_un e]
        obtain ⟨c1, c2, c3⟩ := C.2 p (by omega)
        refine ⟨c1, c2, fun t ht => ?_⟩
        have l2 := ca_len1 (p := p)
        obtain ⟨q1, q2, q3⟩ := h.1 (16 * p + t) (by omega)
        rw [q1, q2, q3]
        exact c3 t ht
    · by_cases e : q = k
      · rw [e]
        exact pk_us
      · rw [pk_un e]
        exact hz q (by omega)
  · have ei : (nI i).toNatClampNeg = i := nI_clamp (by omega)
    have ex : (nI (16 * k + i)).toNatClampNeg = 16 * k + i := nI_clamp (by omega)
    have v1 : vp_in (nI i) 16 := pk_in i 16 (by omega)
    have v2 : vp_in (nI (16 * k + i)) 96 := pk_in (16 * k + i) 96 (by omega)
    refine br_f (nI_ge hi (by omega)) ?_
    rw [ca_ix, ei, ex]
    refine ⟨v1, v2, nm_e ⟨v1, v2, nm_e ⟨v1, v2, nm_e (nm_r (nI_1 i) (hw (_, _, _) ⟨fun x hx => ?_, fun t ht => ?_⟩))⟩⟩⟩
    · show upd s.1 (16 * k + i) (a6 i) x = _ ∧ upd s.2.1 (16 * k + i) (a7 i) x = _ ∧ upd s.2.2 (16 * k + i) (a8 i) x = _
      rw [pk_un (by omega), pk_un (by omega), pk_un (by omega)]
      exact h.1 x hx
    · show upd s.1 (16 * k + i) (a6 i) (16 * k + t) = _ ∧ upd s.2.1 (16 * k + i) (a7 i) (16 * k + t) = _ ∧ upd s.2.2 (16 * k + i) (a8 i) (16 * k + t) = _
      by_cases e : t = i
      · subst e
        exact ⟨pk_us, pk_us, pk_us⟩
      · rw [pk_un (by omega), pk_un (by omega), pk_un (by omega)]
        exact h.2 t (by omega)
/-- would(4), nothing called yet: method 1 alone -/
theorem ca_fWd : ∀ m, m < 16 → ca_hb (ca_W 0 4 m 0 0 0 0 0).1 4 = decide (m = 1) := by decide +kernel
def ca_ws (m : Nat) : Int32 := if m ≤ 1 then 0 else 2
theorem ca_fWs : ∀ m, m < 16 → ca_ws m ||| (if m = 1 then ((1 : Int32) <<< (nI m &&& 31)) else 0) = ca_ws (m + 1) := by decide +kernel
theorem ca_wdL {post : Int32 → St2 → Prop} {av : Nat} (C : ca_C (nI av) 6 a2 a3 a4 a5 a9 a10 a11 a12 a13) (H : ∀ (a15 a16 a17 : Nat → Int32) (a18 : Nat → Int64), post 2 (ft, fh, fp, nI 0, fg, a1, a2, a3, a4, a5, a6, a7, a8, a9, a10, a11, a12, a13, a14, a15, a16, a17, a18, a19)) :
    ∀ (k m : Nat) (a15 a16 a17 : Nat → Int32) (a18 : Nat → Int64), m + k = 16 → wX_would_26 post (nI 4) (k + 1) (ca_ws m) (nI m) ft fh fp (nI 0) fg a1 a2 a3 a4 a5 a6 a7 a8 a9 a10 a11 a12 a13 a14 a15 a16 a17 a18 a19 := by
  intro k
  induction k with
  | zero =>
    intro m a15 a16 a17 a18 e
    have e' : m = 16 := by omega
    subst e'
    exact br_t (by decide) (H a15 a16 a17 a18)
  | succ k ih =>
    intro m a15 a16 a17 a18 e
    have hm : m < 16 := by omega
    have fb : ca_hb (ca_W av 4 m 0 0 (ca_pv a16 0 4 0) (ca_pv a17 0 4 0) (ca_pv a18 0 4 0)).1 4 = decide (m = 1) := by
      rw [← ca_fWd m hm]
      unfold ca_W
      rw [ca_gav av 3]
      rfl
    have fs := ca_fWs m hm
    refine br_f (nI_ge (b := 16) hm (by omega)) (ca_tr (p := 4) (mp := 0) C (by omega) (by omega) hm (by omega) (fun j z => absurd z (by omega)) ?_)
    rw [fb]
    refine ca_br _ (fun z => nm_r (e' := ca_ws (m + 1)) ?_ (nm_r (nI_1 m) (ih (m + 1) _ _ _ _ (by omega)))) (fun z => nm_r (e' := ca_ws (m + 1)) ?_ (nm_r (nI_1 m) (ih (m + 1) _ _ _ _ (by omega))))
    · rw [if_neg (of_decide_eq_false z)] at fs
      exact fs
    · rw [if_pos (of_decide_eq_true z)] at fs
      exact fs
theorem ca_would {post : Int32 → St2 → Prop} {av : Nat} (C : ca_C (nI av) 6 a2 a3 a4 a5 a9 a10 a11 a12 a13) (H : ∀ (a15 a16 a17 : Nat → Int32) (a18 : Nat → Int64), post 2 (ft, fh, nI 6, nI 0, fg, a1, a2, a3, a4, a5, a6, a7, a8, a9, a10, a11, a12, a13, a14, a15, a16, a17, a18, a19)) : wpX_would post (ft, fh, nI 6, nI 0, fg, a1, a2, a3, a4, a5, a6, a7, a8, a9, a10, a11, a12, a13, a14, a15, a16, a17, a18, a19) (nI 4) := by
  unfold wpX_would
  exact ca_isP (by omega) (by omega) (br_f (by decide) (br_t (by decide) ⟨17, ca_wdL C H 16 0 a15 a16 a17 a18 (by omega)⟩))
end
end
section
section
variable {ft fh fp fd fg : Int32} {a1 a2 a3 a4 a5 a6 a7 a8 a9 a10 a11 a12 a13 a14 a15 a16 a17 a19 : Nat → Int32} {a18 : Nat → Int64}
abbrev ca_J8 : Type := Int32 → Int32 → Int32 → Int32 → Int32 → Int32 → Int32 → Int32 → (Nat → Int32) → (Nat → Int32) → (Nat → Int32) → (Nat → Int32) → (Nat → Int32) → (Nat → Int32) → (Nat → Int32) → (Nat → Int32) → (Nat → Int32) → (Nat → Int32) → (Nat → Int32) → (Nat → Int32) → (Nat → Int32) → (Nat → Int32) → (Nat → Int32) → (Nat → Int32) → (Nat → Int32) → (Nat → Int64) → (Nat → Int32) → Prop
theorem ca_bit : ∀ w, w < 64 → ∀ i, i < 6 → (((nI w >>> (nI i &&& 31)) &&& 1) = 1 ↔ w.testBit i = true) := by decide +kernel
/-- what a call of the law's first loop gives -/
def ca_nn (w av i : Nat) : Nat := (decide (av ≤ ca_sn w (i + 1))).toNat + (decide (0 < ca_sn w i)).toNat + (w.testBit i && decide (ca_sn w i = 0)).toNat
theorem ca_nn3 (w av i : Nat) : ca_nn w av i ≤ 3 := by
  unfold ca_nn
  have h1 := Bool.toNat_le (decide (av ≤ ca_sn w (i + 1)))
  have h2 := Bool.toNat_le (decide (0 < ca_sn w i))
  have h3 := Bool.toNat_le (w.testBit i && decide (ca_sn w i = 0))
  omega
theorem ca_sn_le (w : Nat) : ∀ i, ca_sn w i ≤ i
  | 0 => Nat.le_refl 0
  | i + 1 => by
    have h := ca_sn_le w i
    have h1 := Bool.toNat_le (w.testBit i)
    show ca_sn w i + (w.testBit i).toNat ≤ i + 1
    omega
theorem ca_F0 {w av i : Nat} (hw : w < 64) (hav : av < 5) (hi : i < 6) : ca_hb (ca_L w (av + 1) 0 (i + 1)).1 0 = decide (av + 1 ≤ ca_sn w (i + 1)) := by
  show ca_hb (ca_W (av + 1) 0 (ca_mt w i) (ca_mt w (i - 1)) i (ca_L w (av + 1) 0 i).1 (ca_L w (av + 1) 0 i).2.1 (ca_L w (av + 1) 0 i).2.2).1 0 = decide (av + 1 ≤ ca_sn w i + (w.testBit i).toNat)
  cases hb : w.testBit i with
  | true =>
    rw [show ca_mt w i = 1 by unfold ca_mt; rw [hb]; rfl]
    exact ca_FW1 w hw av hav i hi
  | false =>
    rw [show ca_mt w i = 2 by unfold ca_mt; rw [hb]; rfl]
    exact ca_FW2 w hw av hav i hi
/-- the levels' picture gives what stood before -/
theorem ca_Lpv {w av i : Nat} (Lv : ca_Lev w av i a15 a16 a17 a18) {q : Nat} (hq : q < 6) : ca_pv a16 0 q i = (ca_L w av q i).1 ∧ ca_pv a17 0 q i = (ca_L w av q i).2.1 ∧ ca_pv a18 0 q i = (ca_L w av q i).2.2 := by
  cases i with
  | zero => exact ⟨rfl, rfl, rfl⟩
  | succ j => exact (Lv j (by omega)).2 q hq
/-- a try at level i leaves the levels below it -/
theorem ca_Ltry {w av i p : Nat} {x y : Int32} {z : Int64} {m : Int32} (Lv : ca_Lev w av i a15 a16 a17 a18) (hp : p < 6) (hi : i < 21) : ca_Lev w av i (upd a15 i m) (upd a16 (21 * p + i) x) (upd a17 (21 * p + i) y) (vp_updL a18 (21 * p + i) z) := by
  intro j hj
  refine ⟨?_, fun q hq => ?_⟩
  · rw [pk_un (by omega)]
    exact (Lv j hj).1
  · rw [pk_un (by omega), pk_un (by omega), pk_uLn (by omega)]
    exact (Lv j hj).2 q hq
/-- a call adds a level -/
theorem ca_Lcall {w av i : Nat} {b16 b17 : Nat → Int32} {b18 : Nat → Int64} (Lv : ca_Lev w av i a15 a16 a17 a18) (hi : i < 20) (Q : ca_Q av (ca_mt w i) (ca_mt w (i - 1)) i 6 a16 a17 a18 b16 b17 b18) : ca_Lev w av (i + 1) (upd a15 i (nI (ca_mt w i))) b16 b17 b18 := by
  intro j hj
  by_cases e : j = i
  · subst e
    refine ⟨pk_us, fun q hq => ?_⟩
    obtain ⟨p1, p2, p3⟩ := ca_Lpv Lv hq
    obtain ⟨q1, q2, q3⟩ := Q.2 q hq
    rw [p1, p2, p3] at q1 q2 q3
    exact ⟨q1, q2, q3⟩
  · refine ⟨?_, fun q hq => ?_⟩
    · rw [pk_un e]
      exact (Lv j (by omega)).1
    · obtain ⟨q1, q2, q3⟩ := Q.1 q j hq (by omega) e
      rw [q1, q2, q3]
      exact (Lv j (by omega)).2 q hq
theorem ca_gbL {w av i : Nat} (Lv : ca_Lev w av i a15 a16 a17 a18) {q : Nat} (hq : q < 6) : ca_gb av (ca_mt w i) (ca_mt w (i - 1)) i a16 a17 a18 q = (!(ca_tb q) && ca_hb (ca_L w av q (i + 1)).1 q) := by
  obtain ⟨p1, p2, p3⟩ := ca_Lpv Lv hq
  unfold ca_gb
  rw [p1, p2, p3]
  rfl
theorem ca_451 {post : Int32 → St0 → Prop} {mc ms kc ks : Nat} {J : ca_J8} {x2 x4 x5 x6 z y : Int32} {i G : Nat} (hz : y = z) (H : J x6 (nI G) (nI (i + 1)) ft fh fp (nI (i + 1)) (nI G) a1 a2 a3 a4 a5 a6 a7 a8 a9 a10 a11 a12 a13 a14 a15 a16 a17 a18 a19) : wL_lawOf_451 post mc ms J x2 x4 x5 x6 (nI G) (nI i) z y kc ks ft fh fp (nI (i + 1)) (nI G) a1 a2 a3 a4 a5 a6 a7 a8 a9 a10 a11 a12 a13 a14 a15 a16 a17 a18 a19 := by
  unfold wL_lawOf_451
  exact br_t hz (ca_given (br_t rfl (ca_depth (br_t (nI_1 i).symm (nm_r (nI_1 i) H)))))
theorem ca_418 {post : Int32 → St0 → Prop} {mc ms kc ks : Nat} {J : ca_J8} {x2 x5 x6 z y : Int32} {w av i G : Nat} (hw : w < 64) (hi : i < 6) (C : ca_C (nI av) 6 a2 a3 a4 a5 a9 a10 a11 a12 a13) (h2 : ca_hb (a16 (21 * 2 + i)) 2 = (decide (0 < i) && w.testBit (i - 1))) (hz : y = z) (H : J x6 (nI G) (nI (i + 1)) ft fh (nI 6) (nI (i + 1)) (nI G) a1 a2 a3 a4 a5 a6 a7 a8 a9 a10 a11 a12 a13 a14 a15 a16 a17 a18 a19) : wL_lawOf_418 post mc ms J x2 (nI w) x5 x6 (nI G) (nI i) z y kc ks ft fh (nI 6) (nI (i + 1)) (nI G) a1 a2 a3 a4 a5 a6 a7 a8 a9 a10 a11 a12 a13 a14 a15 a16 a17 a18 a19 := by
  unfold wL_lawOf_418
  refine br_t hz (ca_ho (p := 2) C (by omega) (show i < i + 1 by omega) (by omega) ?_)
  rw [h2]
  cases i with
  | zero =>
    refine br_t (by decide) ?_
    unfold wL_lawOf_450
    exact ca_451 rfl H
  | succ j =>
    refine br_f (nI_nle (by omega) (by omega)) ?_
    rw [nI_pred]
    have hb := ca_bit w hw j (by omega)
    rw [show (decide (0 < j + 1) && w.testBit (j + 1 - 1)) = w.testBit j by rw [decide_eq_true (by omega)]; rfl]
    cases e : w.testBit j with
    | true => exact br_t (hb.mpr e) (ca_451 rfl H)
    | false =>
      refine br_f (fun z => absurd (hb.mp z) (by rw [e]; decide)) ?_
      unfold wL_lawOf_450
      exact ca_451 rfl H
theorem ca_380 {post : Int32 → St0 → Prop} {mc ms kc ks : Nat} {J : ca_J8} {x2 : Int32} {w av i G : Nat} (hw : w < 64) (hav : av < 5) (hi : i < 6) (hG : G + 6 < 64) (C : ca_C (nI (av + 1)) 6 a2 a3 a4 a5 a9 a10 a11 a12 a13) (Lv : ca_Lev w (av + 1) i a15 a16 a17 a18) {x5 : Int32} (HH : ∀ (b14 b15 b16 b17 : Nat → Int32) (b18 : Nat → Int64) (b19 : Nat → Int32), ca_Lev w (av + 1) (i + 1) b15 b16 b17 b18 → b14 4 = a14 4 + ca_i (w.testBit i && decide (ca_sn w i = 0)) → b14 5 = a14 5 → J (nI (ca_sn w (i + 1))) (nI (G + ca_nn w (av + 1) i)) (nI (i + 1)) ft fh (nI 6) (nI (i + 1)) (nI (G + ca_nn w (av + 1) i)) a1 a2 a3 a4 a5 a6 a7 a8 a9 a10 a11 a12 a13 b14 b15 b16 b17 b18 b19) : wL_lawOf_380 post mc ms J x2 (nI w) x5 (nI G) (nI i) (nI (ca_sn w (i + 1))) (nI (ca_nn w (av + 1) i)) (nI (ca_mt w i)) kc ks ft fh (nI 6) (nI i) (nI G) a1 a2 a3 a4 a5 a6 a7 a8 a9 a10 a11 a12 a13 a14 a15 a16 a17 a18 a19 := by
  unfold wL_lawOf_380
  have sle := ca_sn_le w (i + 1)
  refine ca_call (K := 6) (mp := ca_mt w (i - 1)) C (by omega) (by omega) (ca_mt16 _ _) (ca_mt16 _ _) (fun j e => by subst e; exact (Lv j (by omega)).1) hG (fun b14 b16 b17 b18 b19 Q h4 h5 => ?_)
  have L' := ca_Lcall Lv (by omega) Q
  have v2 : ca_hb (b16 (21 * 2 + i)) 2 = (decide (0 < i) && w.testBit (i - 1)) := by
    rw [((L' i (by omega)).2 2 (by omega)).1, ca_Lav]
    exact ca_F2 w hw i hi
  have v3 : ca_hb (b16 (21 * 3 + i)) 3 = decide (0 < ca_sn w (i + 1)) := by
    rw [((L' i (by omega)).2 3 (by omega)).1, ca_Lav]
    exact ca_F3 w hw i hi
  have g0 : ca_gb (av + 1) (ca_mt w i) (ca_mt w (i - 1)) i a16 a17 a18 0 = decide (av + 1 ≤ ca_sn w (i + 1)) := by
    rw [ca_gbL Lv (by omega), ca_F0 hw hav hi]
    rfl
  have g1 : ca_gb (av + 1) (ca_mt w i) (ca_mt w (i - 1)) i a16 a17 a18 1 = decide (0 < ca_sn w i) := by
    rw [ca_gbL Lv (by omega), ca_Lav, ca_F1 w hw i hi]
    rfl
  have g4 : ca_gb (av + 1) (ca_mt w i) (ca_mt w (i - 1)) i a16 a17 a18 4 = (w.testBit i && decide (ca_sn w i = 0)) := by
    rw [ca_gbL Lv (by omega), ca_Lav, ca_F4 w hw i hi]
    rfl
  have ct : ca_ct (ca_gb (av + 1) (ca_mt w i) (ca_mt w (i - 1)) i a16 a17 a18) 6 = ca_nn w (av + 1) i := by
    show 0 + (ca_gb (av + 1) (ca_mt w i) (ca_mt w (i - 1)) i a16 a17 a18 0).toNat + (ca_gb (av + 1) (ca_mt w i) (ca_mt w (i - 1)) i a16 a17 a18 1).toNat + 0 + 0 + (ca_gb (av + 1) (ca_mt w i) (ca_mt w (i - 1)) i a16 a17 a18 4).toNat + 0 = ca_nn w (av + 1) i
    rw [g0, g1, g4]
    unfold ca_nn
    omega
  have HJ := HH b14 _ b16 b17 b18 b19 L' (by rw [h4 (by omega), g4]) h5
  rw [ct]
  refine br_t rfl (nm_r (nI_add _ _) (ca_ho (p := 3) C (by omega) (show i < i + 1 by omega) (by omega) ?_))
  rw [v3]
  exact pk_le (ca_sn w (i + 1)) 0 (fun z => ca_418 hw hi C v2 (by rw [decide_eq_false (by omega)]; rfl) HJ) (fun z => ca_418 hw hi C v2 (by rw [decide_eq_true (by omega)]; rfl) HJ)
theorem ca_366 {post : Int32 → St0 → Prop} {mc ms kc ks : Nat} {J : ca_J8} {x2 : Int32} {w av i G : Nat} (hw : w < 64) (hav : av < 5) (hi : i < 6) (hG : G + 6 < 64) (C : ca_C (nI (av + 1)) 6 a2 a3 a4 a5 a9 a10 a11 a12 a13) (Lv : ca_Lev w (av + 1) i a15 a16 a17 a18) {x5 z y : Int32} (hz : y = z) (HH : ∀ (b14 b15 b16 b17 : Nat → Int32) (b18 : Nat → Int64) (b19 : Nat → Int32), ca_Lev w (av + 1) (i + 1) b15 b16 b17 b18 → b14 4 = a14 4 + ca_i (w.testBit i && decide (ca_sn w i = 0)) → b14 5 = a14 5 → J (nI (ca_sn w (i + 1))) (nI (G + ca_nn w (av + 1) i)) (nI (i + 1)) ft fh (nI 6) (nI (i + 1)) (nI (G + ca_nn w (av + 1) i)) a1 a2 a3 a4 a5 a6 a7 a8 a9 a10 a11 a12 a13 b14 b15 b16 b17 b18 b19) : wL_lawOf_366 post mc ms J x2 (nI w) x5 (nI G) (nI i) (ca_i (w.testBit i)) (nI (ca_sn w (i + 1))) (nI (ca_nn w (av + 1) i)) z y kc ks ft fh (nI 6) (nI i) (nI G) a1 a2 a3 a4 a5 a6 a7 a8 a9 a10 a11 a12 a13 a14 a15 a16 a17 a18 a19 := by
  have K := ca_380 (a19 := a19) (post := post) (mc := mc) (ms := ms) (kc := kc) (ks := ks) (x2 := x2) (x5 := x5) hw hav hi hG C Lv HH
  unfold wL_lawOf_366
  refine br_t hz (ca_br _ (fun e => ?_) (fun e => ?_))
  · rw [show ca_mt w i = 2 by unfold ca_mt; rw [e]; rfl] at K
    exact K
  · rw [show ca_mt w i = 1 by unfold ca_mt; rw [e]; rfl] at K
    exact K
theorem ca_345 {post : Int32 → St0 → Prop} {mc ms kc ks : Nat} {J : ca_J8} {x2 : Int32} {w av i G : Nat} (hw : w < 64) (hav : av < 5) (hi : i < 6) (hG : G + 6 < 64) (C : ca_C (nI (av + 1)) 6 a2 a3 a4 a5 a9 a10 a11 a12 a13) (Lv : ca_Lev w (av + 1) i a15 a16 a17 a18) {z y : Int32} (hz : y = z) (HH : ∀ (b14 b15 b16 b17 : Nat → Int32) (b18 : Nat → Int64) (b19 : Nat → Int32), ca_Lev w (av + 1) (i + 1) b15 b16 b17 b18 → b14 4 = a14 4 + ca_i (w.testBit i && decide (ca_sn w i = 0)) → b14 5 = a14 5 → J (nI (ca_sn w (i + 1))) (nI (G + ca_nn w (av + 1) i)) (nI (i + 1)) ft fh (nI 6) (nI (i + 1)) (nI (G + ca_nn w (av + 1) i)) a1 a2 a3 a4 a5 a6 a7 a8 a9 a10 a11 a12 a13 b14 b15 b16 b17 b18 b19) : wL_lawOf_345 post mc ms J x2 (nI w) (nI (av + 1)) (nI (ca_sn w i)) (nI G) (nI i) (ca_i (w.testBit i)) (nI (ca_sn w (i + 1))) (nI (ca_nn w (av + 1) i)) z y kc ks ft fh (nI 6) (nI i) (nI G) a1 a2 a3 a4 a5 a6 a7 a8 a9 a10 a11 a12 a13 a14 a15 a16 a17 a18 a19 := by
  have sle := ca_sn_le w i
  unfold wL_lawOf_345
  refine br_t hz (ca_woH (p := 0) (m := 2) (mp := ca_mt w (i - 1)) C (by omega) (by omega) (by omega) (ca_mt16 _ _) (fun j e => by subst e; exact (Lv j (by omega)).1) ?_)
  obtain ⟨p1, p2, p3⟩ := ca_Lpv Lv (show 0 < 6 by omega)
  rw [p1, p2, p3, ca_FW2 w hw av hav i hi]
  exact pk_lt (ca_sn w i) (av + 1) (fun z => ca_366 hw hav hi hG C (ca_Ltry Lv (by omega) (by omega)) (by rw [decide_eq_false (by omega)]; rfl) HH) (fun z => ca_366 hw hav hi hG C (ca_Ltry Lv (by omega) (by omega)) (by rw [decide_eq_true (by omega)]; rfl) HH)
theorem ca_322 {post : Int32 → St0 → Prop} {mc ms kc ks : Nat} {J : ca_J8} {x2 : Int32} {w av i G : Nat} (hw : w < 64) (hav : av < 5) (hi : i < 6) (hG : G + 6 < 64) (C : ca_C (nI (av + 1)) 6 a2 a3 a4 a5 a9 a10 a11 a12 a13) (Lv : ca_Lev w (av + 1) i a15 a16 a17 a18) {z y : Int32} (hz : y + z = nI (ca_nn w (av + 1) i)) (HH : ∀ (b14 b15 b16 b17 : Nat → Int32) (b18 : Nat → Int64) (b19 : Nat → Int32), ca_Lev w (av + 1) (i + 1) b15 b16 b17 b18 → b14 4 = a14 4 + ca_i (w.testBit i && decide (ca_sn w i = 0)) → b14 5 = a14 5 → J (nI (ca_sn w (i + 1))) (nI (G + ca_nn w (av + 1) i)) (nI (i + 1)) ft fh (nI 6) (nI (i + 1)) (nI (G + ca_nn w (av + 1) i)) a1 a2 a3 a4 a5 a6 a7 a8 a9 a10 a11 a12 a13 b14 b15 b16 b17 b18 b19) : wL_lawOf_322 post mc ms J x2 (nI w) (nI (av + 1)) (nI (ca_sn w i)) (nI G) (nI i) (ca_i (w.testBit i)) (nI (ca_sn w (i + 1))) z y kc ks ft fh (nI 6) (nI i) (nI G) a1 a2 a3 a4 a5 a6 a7 a8 a9 a10 a11 a12 a13 a14 a15 a16 a17 a18 a19 := by
  have sle := ca_sn_le w i
  unfold wL_lawOf_322
  refine nm_r hz (ca_woH (p := 0) (m := 1) (mp := ca_mt w (i - 1)) C (by omega) (by omega) (by omega) (ca_mt16 _ _) (fun j e => by subst e; exact (Lv j (by omega)).1) ?_)
  obtain ⟨p1, p2, p3⟩ := ca_Lpv Lv (show 0 < 6 by omega)
  rw [p1, p2, p3, ca_FW1 w hw av hav i hi]
  exact pk_lt (ca_sn w i + 1) (av + 1) (fun z => ca_345 hw hav hi hG C (ca_Ltry Lv (by omega) (by omega)) (by rw [decide_eq_false (by omega)]; rfl) HH) (fun z => ca_345 hw hav hi hG C (ca_Ltry Lv (by omega) (by omega)) (by rw [decide_eq_true (by omega)]; rfl) HH) (nI_1 _)
theorem ca_306 {post : Int32 → St0 → Prop} {mc ms kc ks : Nat} {J : ca_J8} {x2 : Int32} {w av i G : Nat} (hw : w < 64) (hav : av < 5) (hi : i < 6) (hG : G + 6 < 64) (C : ca_C (nI (av + 1)) 6 a2 a3 a4 a5 a9 a10 a11 a12 a13) (Lv : ca_Lev w (av + 1) i a15 a16 a17 a18) {z y : Int32} (hz : y + z = nI ((decide (av + 1 ≤ ca_sn w (i + 1))).toNat + (decide (0 < ca_sn w i)).toNat)) (HH : ∀ (b14 b15 b16 b17 : Nat → Int32) (b18 : Nat → Int64) (b19 : Nat → Int32), ca_Lev w (av + 1) (i + 1) b15 b16 b17 b18 → b14 4 = a14 4 + ca_i (w.testBit i && decide (ca_sn w i = 0)) → b14 5 = a14 5 → J (nI (ca_sn w (i + 1))) (nI (G + ca_nn w (av + 1) i)) (nI (i + 1)) ft fh (nI 6) (nI (i + 1)) (nI (G + ca_nn w (av + 1) i)) a1 a2 a3 a4 a5 a6 a7 a8 a9 a10 a11 a12 a13 b14 b15 b16 b17 b18 b19) : wL_lawOf_306 post mc ms J x2 (nI w) (nI (av + 1)) (nI (ca_sn w i)) (nI G) (nI i) (ca_i (w.testBit i)) (nI (ca_sn w (i + 1))) z y kc ks ft fh (nI 6) (nI i) (nI G) a1 a2 a3 a4 a5 a6 a7 a8 a9 a10 a11 a12 a13 a14 a15 a16 a17 a18 a19 := by
  have sle := ca_sn_le w i
  unfold wL_lawOf_306
  rw [hz]
  have n0 : ∀ b : Bool, (w.testBit i && decide (ca_sn w i = 0)) = b → nI ((decide (av + 1 ≤ ca_sn w (i + 1))).toNat + (decide (0 < ca_sn w i)).toNat) + ca_i b = nI (ca_nn w (av + 1) i) := by
    intro b hb
    unfold ca_nn
    rw [hb, ca_iN, nI_add]
  refine ca_br _ (fun e => ?_) (fun e => pk_eq (ca_sn w i) 0 (fun z => ?_) (fun z => ?_))
  · unfold wL_lawOf_321
    exact ca_322 hw hav hi hG C Lv (n0 false (by rw [e]; rfl)) HH
  · exact ca_322 hw hav hi hG C Lv (n0 true (by rw [e, decide_eq_true z]; rfl)) HH
  · unfold wL_lawOf_321
    exact ca_322 hw hav hi hG C Lv (n0 false (by rw [e, decide_eq_false z]; rfl)) HH
theorem ca_296 {post : Int32 → St0 → Prop} {mc ms kc ks : Nat} {J : ca_J8} {x2 : Int32} {w av i G : Nat} (hw : w < 64) (hav : av < 5) (hi : i < 6) (hG : G + 6 < 64) (C : ca_C (nI (av + 1)) 6 a2 a3 a4 a5 a9 a10 a11 a12 a13) (Lv : ca_Lev w (av + 1) i a15 a16 a17 a18) {z : Int32} (hz : z = ca_i (decide (av + 1 ≤ ca_sn w (i + 1)))) (HH : ∀ (b14 b15 b16 b17 : Nat → Int32) (b18 : Nat → Int64) (b19 : Nat → Int32), ca_Lev w (av + 1) (i + 1) b15 b16 b17 b18 → b14 4 = a14 4 + ca_i (w.testBit i && decide (ca_sn w i = 0)) → b14 5 = a14 5 → J (nI (ca_sn w (i + 1))) (nI (G + ca_nn w (av + 1) i)) (nI (i + 1)) ft fh (nI 6) (nI (i + 1)) (nI (G + ca_nn w (av + 1) i)) a1 a2 a3 a4 a5 a6 a7 a8 a9 a10 a11 a12 a13 b14 b15 b16 b17 b18 b19) : wL_lawOf_296 post mc ms J x2 (nI w) (nI (av + 1)) (nI (ca_sn w i)) (nI G) (nI i) (ca_i (w.testBit i)) (nI (ca_sn w (i + 1))) z kc ks ft fh (nI 6) (nI i) (nI G) a1 a2 a3 a4 a5 a6 a7 a8 a9 a10 a11 a12 a13 a14 a15 a16 a17 a18 a19 := by
  have sle := ca_sn_le w i
  unfold wL_lawOf_296
  have n0 : ∀ b : Bool, decide (0 < ca_sn w i) = b → z + ca_i b = nI ((decide (av + 1 ≤ ca_sn w (i + 1))).toNat + (decide (0 < ca_sn w i)).toNat) := by
    intro b hb
    rw [hz, hb, ca_iN, ca_iN, nI_add]
  exact pk_le (ca_sn w i) 0 (fun z => ca_306 hw hav hi hG C Lv (n0 false (decide_eq_false (by omega))) HH) (fun z => ca_306 hw hav hi hG C Lv (n0 true (decide_eq_true (by omega))) HH)
theorem ca_281 {post : Int32 → St0 → Prop} {mc ms kc ks : Nat} {J : ca_J8} {x2 : Int32} {w av i G : Nat} (hw : w < 64) (hav : av < 5) (hi : i < 6) (hG : G + 6 < 64) (C : ca_C (nI (av + 1)) 6 a2 a3 a4 a5 a9 a10 a11 a12 a13) (Lv : ca_Lev w (av + 1) i a15 a16 a17 a18) {z y : Int32} (hz : y + z = nI (ca_sn w (i + 1))) (HH : ∀ (b14 b15 b16 b17 : Nat → Int32) (b18 : Nat → Int64) (b19 : Nat → Int32), ca_Lev w (av + 1) (i + 1) b15 b16 b17 b18 → b14 4 = a14 4 + ca_i (w.testBit i && decide (ca_sn w i = 0)) → b14 5 = a14 5 → J (nI (ca_sn w (i + 1))) (nI (G + ca_nn w (av + 1) i)) (nI (i + 1)) ft fh (nI 6) (nI (i + 1)) (nI (G + ca_nn w (av + 1) i)) a1 a2 a3 a4 a5 a6 a7 a8 a9 a10 a11 a12 a13 b14 b15 b16 b17 b18 b19) : wL_lawOf_281 post mc ms J x2 (nI w) (nI (av + 1)) (nI (ca_sn w i)) (nI G) (nI i) (ca_i (w.testBit i)) z y kc ks ft fh (nI 6) (nI i) (nI G) a1 a2 a3 a4 a5 a6 a7 a8 a9 a10 a11 a12 a13 a14 a15 a16 a17 a18 a19 := by
  have sle := ca_sn_le w (i + 1)
  unfold wL_lawOf_281
  refine nm_r hz ?_
  exact pk_lt (ca_sn w (i + 1)) (av + 1) (fun z => ca_296 hw hav hi hG C Lv (by rw [decide_eq_false (by omega)]; rfl) HH) (fun z => ca_296 hw hav hi hG C Lv (by rw [decide_eq_true (by omega)]; rfl) HH)
theorem ca_267 {post : Int32 → St0 → Prop} {mc ms kc ks : Nat} {J : ca_J8} {x2 : Int32} {w av i G : Nat} (hw : w < 64) (hav : av < 5) (hi : i < 6) (hG : G + 6 < 64) (C : ca_C (nI (av + 1)) 6 a2 a3 a4 a5 a9 a10 a11 a12 a13) (Lv : ca_Lev w (av + 1) i a15 a16 a17 a18) (HH : ∀ (b14 b15 b16 b17 : Nat → Int32) (b18 : Nat → Int64) (b19 : Nat → Int32), ca_Lev w (av + 1) (i + 1) b15 b16 b17 b18 → b14 4 = a14 4 + ca_i (w.testBit i && decide (ca_sn w i = 0)) → b14 5 = a14 5 → J (nI (ca_sn w (i + 1))) (nI (G + ca_nn w (av + 1) i)) (nI (i + 1)) ft fh (nI 6) (nI (i + 1)) (nI (G + ca_nn w (av + 1) i)) a1 a2 a3 a4 a5 a6 a7 a8 a9 a10 a11 a12 a13 b14 b15 b16 b17 b18 b19) : wL_lawOf_267 post mc ms J x2 (nI w) (nI (av + 1)) (nI (ca_sn w i)) (nI G) (nI i) (ca_i (w.testBit i)) kc ks ft fh (nI 6) (nI i) (nI G) a1 a2 a3 a4 a5 a6 a7 a8 a9 a10 a11 a12 a13 a14 a15 a16 a17 a18 a19 := by
  have s1 : ca_sn w (i + 1) = ca_sn w i + (w.testBit i).toNat := rfl
  unfold wL_lawOf_267
  refine ca_br _ (fun e => ca_281 hw hav hi hG C Lv ?_ HH) (fun e => ca_281 hw hav hi hG C Lv ?_ HH)
  · rw [s1, e]
    exact nI_add _ 0
  · rw [s1, e]
    exact nI_add _ 1
end
end
section
section
variable {ft fh fp fd fg : Int32} {a1 a2 a3 a4 a5 a6 a7 a8 a9 a10 a11 a12 a13 a14 a15 a16 a17 a19 : Nat → Int32} {a18 : Nat → Int64}
abbrev ca_J7 : Type := Int32 → Int32 → Int32 → Int32 → Int32 → Int32 → Int32 → (Nat → Int32) → (Nat → Int32) → (Nat → Int32) → (Nat → Int32) → (Nat → Int32) → (Nat → Int32) → (Nat → Int32) → (Nat → Int32) → (Nat → Int32) → (Nat → Int32) → (Nat → Int32) → (Nat → Int32) → (Nat → Int32) → (Nat → Int32) → (Nat → Int32) → (Nat → Int32) → (Nat → Int32) → (Nat → Int64) → (Nat → Int32) → Prop
/-- the list's last entries after giveBack -/
def ca_l19 (b5 b3 b2 : Bool) (f : Nat → Int32) (G : Nat) : Nat → Int32 := ca_u19 b2 (ca_u19 b3 (ca_u19 b5 f G 5) (G + b5.toNat) 3) (G + b5.toNat + b3.toNat) 2
theorem ca_last0 (b5 b3 b2 : Bool) (f : Nat → Int32) (G : Nat) (h : 0 < b5.toNat + b3.toNat + b2.toNat) : ca_l19 b5 b3 b2 f G (G + b5.toNat + b3.toNat + b2.toNat - 1 - 0) = (cond b2 2 (cond b3 3 5) : Int32) := by
  cases b2
  · cases b3
    · cases b5
      · exact absurd h (by decide)
      · exact pk_us
    · exact pk_us
  · exact pk_us
theorem ca_last1 (f : Nat → Int32) (G : Nat) : ca_l19 true true true f G (G + 1 + 1 + 1 - 1 - 1) = 3 := by
  show upd (upd (upd f G 5) (G + 1) 3) (G + 1 + 1) 2 (G + 1 + 1 + 1 - 1 - 1) = 3
  rw [show G + 1 + 1 + 1 - 1 - 1 = G + 1 by omega, pk_un (by omega), pk_us]
theorem ca_last2 (f : Nat → Int32) (G : Nat) : ca_l19 true true true f G (G + 1 + 1 + 1 - 1 - 2) = 5 := by
  show upd (upd (upd f G 5) (G + 1) 3) (G + 1 + 1) 2 (G + 1 + 1 + 1 - 1 - 2) = 5
  rw [show G + 1 + 1 + 1 - 1 - 2 = G by omega, pk_un (by omega), pk_un (by omega), pk_us]
theorem ca_b1 {b : Bool} (h : b.toNat ≠ 0) : b = true := by
  cases b
  · exact absurd rfl h
  · rfl
theorem ca_bt {b : Bool} (h : ¬ b = false) : b = true := by
  cases b
  · exact absurd rfl h
  · rfl
theorem ca_697 {post : Int32 → St0 → Prop} {mc ms kc ks : Nat} {J : ca_J7} {x2 x4 x6 : Int32} {i G : Nat} (b5 b3 b2 : Bool) (hG : G + 3 < 64) (f : Nat → Int32)
    (H : J (nI (G + b5.toNat + b3.toNat + b2.toNat)) (nI i + (-1)) ft fh fp fd (nI (G + b5.toNat + b3.toNat + b2.toNat)) a1 a2 a3 a4 a5 a6 a7 a8 a9 a10 a11 a12 a13 a14 a15 a16 a17 a18 (ca_l19 b5 b3 b2 f G)) : wL_lawOf_697 post mc ms J x2 x4 x6 (nI (G + b5.toNat + b3.toNat + b2.toNat)) (nI i) (nI (0 + b5.toNat + b3.toNat + b2.toNat)) kc ks ft fh fp fd (nI (G + b5.toNat + b3.toNat + b2.toNat)) a1 a2 a3 a4 a5 a6 a7 a8 a9 a10 a11 a12 a13 a14 a15 a16 a17 a18 (ca_l19 b5 b3 b2 f G) := by
  have t5 := Bool.toNat_le b5
  have t3 := Bool.toNat_le b3
  have t2 := Bool.toNat_le b2
  unfold wL_lawOf_697
  refine pk_eq (0 + b5.toNat + b3.toNat + b2.toNat) 3 (fun z => ?_) (fun z => nm_e H)
  have e5 : b5 = true := ca_b1 (by omega)
  have e3 : b3 = true := ca_b1 (by omega)
  have e2 : b2 = true := ca_b1 (by omega)
  subst e5 e3 e2
  exact ca_la (k := 1) (G := G + 1 + 1 + 1) (by omega) (by omega) (br_t (ca_last1 f G) (ca_la (k := 2) (G := G + 1 + 1 + 1) (by omega) (by omega) (br_t (ca_last2 f G) (nm_e H))))
theorem ca_644 {post : Int32 → St0 → Prop} {mc ms kc ks : Nat} {J : ca_J7} {x2 x4 x6 x9 : Int32} {av i G : Nat} {b5 b3 b2 : Bool} (hi : i < 6) (hG : G + 3 < 64) (C : ca_C (nI av) 6 a2 a3 a4 a5 a9 a10 a11 a12 a13) (h5 : b5 = ca_hb (a16 (21 * 5 + i)) 5) (h3 : b3 = ca_hb (a16 (21 * 3 + i)) 3) (h2 : b2 = ca_hb (a16 (21 * 2 + i)) 2) (h9 : x9 ≤ 0 ↔ b3 = false) {z y : Int32} (hz : y + z = nI (0 + b5.toNat + b3.toNat + b2.toNat)) (HH : ∀ b14 b19 : Nat → Int32, b14 4 = a14 4 → b14 5 = a14 5 + ca_i b5 → J (nI (G + b5.toNat + b3.toNat + b2.toNat)) (nI i + (-1)) ft fh (nI 6) (nI i) (nI (G + b5.toNat + b3.toNat + b2.toNat)) a1 a2 a3 a4 a5 a6 a7 a8 a9 a10 a11 a12 a13 b14 a15 a16 a17 a18 b19) : wL_lawOf_644 post mc ms J x2 x4 x6 (nI G) (nI i) x9 (ca_i b2) z y kc ks ft fh (nI 6) (nI (i + 1)) (nI G) a1 a2 a3 a4 a5 a6 a7 a8 a9 a10 a11 a12 a13 a14 a15 a16 a17 a18 a19 := by
  have t5 := Bool.toNat_le b5
  have t3 := Bool.toNat_le b3
  have t2 := Bool.toNat_le b2
  have HJ := HH (ca_u14 b2 (ca_u14 b3 (ca_u14 b5 a14 5) 3) 2) (ca_l19 b5 b3 b2 a19 G) (by rw [ca_u14n (by omega), ca_u14n (by omega), ca_u14n (by omega)]) (by rw [ca_u14n (by omega), ca_u14n (by omega), ca_u14s])
  have K := ca_697 (post := post) (mc := mc) (ms := ms) (kc := kc) (ks := ks) (x2 := x2) (x4 := x4) (x6 := x6) b5 b3 b2 hG a19 HJ
  have l0 := ca_last0 b5 b3 b2 a19 G
  unfold wL_lawOf_644
  refine nm_r hz (ca_gbk C (by omega) hG b5 b3 b2 h5 h3 h2 (br_t rfl (nm_r (e' := nI (G + b5.toNat + b3.toNat + b2.toNat)) (by rw [nI_add]; congr 1; omega) ?_)))
  refine pk_le (0 + b5.toNat + b3.toNat + b2.toNat) 0 (fun z => K) (fun z => ca_la (k := 0) (by omega) (by omega) ?_)
  have l0' := l0 (by omega)
  refine ca_br _ (fun e => ?_) (fun e => ?_)
  · rw [e] at l0'
    refine ⟨fun e' => ?_, fun e' => ?_⟩
    · have e3 := h9.mp e'
      unfold wL_lawOf_694
      refine br_t ?_ K
      rw [e3] at l0'
      rw [e, e3]
      exact l0'
    · have e3 : b3 = true := ca_bt (fun hb => e' (h9.mpr hb))
      unfold wL_lawOf_694
      refine br_t ?_ K
      rw [e3] at l0'
      rw [e, e3]
      exact l0'
  · unfold wL_lawOf_694
    refine br_t ?_ K
    rw [e] at l0'
    rw [e]
    exact l0'
theorem ca_610 {post : Int32 → St0 → Prop} {mc ms kc ks : Nat} {J : ca_J7} {x2 x4 x6 x9 : Int32} {av i G : Nat} {b5 b3 b2 : Bool} (hi : i < 6) (hG : G + 3 < 64) (C : ca_C (nI av) 6 a2 a3 a4 a5 a9 a10 a11 a12 a13) (h5 : b5 = ca_hb (a16 (21 * 5 + i)) 5) (h3 : b3 = ca_hb (a16 (21 * 3 + i)) 3) (h2 : b2 = ca_hb (a16 (21 * 2 + i)) 2) (h9 : x9 ≤ 0 ↔ b3 = false) (hb5 : b5 = decide (3 ≤ i)) (HH : ∀ b14 b19 : Nat → Int32, b14 4 = a14 4 → b14 5 = a14 5 + ca_i b5 → J (nI (G + b5.toNat + b3.toNat + b2.toNat)) (nI i + (-1)) ft fh (nI 6) (nI i) (nI (G + b5.toNat + b3.toNat + b2.toNat)) a1 a2 a3 a4 a5 a6 a7 a8 a9 a10 a11 a12 a13 b14 a15 a16 a17 a18 b19) : wL_lawOf_610 post mc ms J x2 x4 x6 (nI G) (nI i) x9 (ca_i b2) kc ks ft fh (nI 6) (nI (i + 1)) (nI G) a1 a2 a3 a4 a5 a6 a7 a8 a9 a10 a11 a12 a13 a14 a15 a16 a17 a18 a19 := by
  have n2 : ∀ y : Int32, y = nI (0 + b5.toNat + b3.toNat) → wL_lawOf_644 post mc ms J x2 x4 x6 (nI G) (nI i) x9 (ca_i b2) (ca_i b2) y kc ks ft fh (nI 6) (nI (i + 1)) (nI G) a1 a2 a3 a4 a5 a6 a7 a8 a9 a10 a11 a12 a13 a14 a15 a16 a17 a18 a19 := by
    intro y hy
    exact ca_644 hi hG C h5 h3 h2 h9 (by rw [hy, ca_iN, nI_add]) HH
  have n3 : ∀ y : Int32, y = nI (0 + b5.toNat) → wL_lawOf_633 post mc ms J x2 x4 x6 (nI G) (nI i) x9 (ca_i b2) (ca_i b3) y kc ks ft fh (nI 6) (nI (i + 1)) (nI G) a1 a2 a3 a4 a5 a6 a7 a8 a9 a10 a11 a12 a13 a14 a15 a16 a17 a18 a19 := by
    intro y hy
    have M := n2 (y + ca_i b3) (by rw [hy, ca_iN, nI_add])
    unfold wL_lawOf_633
    refine ca_br _ (fun e => ?_) (fun e => ?_)
    · rw [e] at M ⊢
      exact M
    · rw [e] at M ⊢
      exact M
  have n5 : wL_lawOf_623 post mc ms J x2 x4 x6 (nI G) (nI i) x9 (ca_i b2) (ca_i b5) kc ks ft fh (nI 6) (nI (i + 1)) (nI G) a1 a2 a3 a4 a5 a6 a7 a8 a9 a10 a11 a12 a13 a14 a15 a16 a17 a18 a19 := by
    have M := n3 (ca_i b5) (by rw [ca_iN, Nat.zero_add])
    unfold wL_lawOf_623
    refine ⟨fun e => ?_, fun e => ?_⟩
    · rw [h9.mp e] at M
      exact M
    · rw [ca_bt (fun hb => e (h9.mpr hb))] at M
      exact M
  unfold wL_lawOf_610
  refine pk_lt i 3 (fun z => ?_) (fun z => ?_)
  · rw [show b5 = false by rw [hb5]; exact decide_eq_false (by omega)] at n5
    exact n5
  · rw [show b5 = true by rw [hb5]; exact decide_eq_true (by omega)] at n5
    exact n5
/-! the law's end -/
theorem ca_andm (x : Int32) : ∃ m : Nat, m < 16 ∧ 1 + (x &&& 1) = nI m := by
  obtain ⟨j, hj, e⟩ := pk_andE x (m := 1) 1 (by decide)
  refine ⟨1 + j, by omega, ?_⟩
  rw [e]
  exact nI_add 1 j
theorem ca_757 {post : Int32 → St0 → Prop} {mc ms kc ks : Nat} {x2 z y : Int32} {av G : Nat} (hG : G + 6 < 64) (C : ca_C (nI av) 6 a2 a3 a4 a5 a9 a10 a11 a12 a13) (hz : y = z) (h5 : a14 5 = 3) (H : post 1 ()) : wL_lawOf_757 post mc ms x2 z y kc ks ft fh (nI 6) (nI 0) (nI G) a1 a2 a3 a4 a5 a6 a7 a8 a9 a10 a11 a12 a13 a14 a15 a16 a17 a18 a19 := by
  obtain ⟨m, hm, e⟩ := ca_andm x2
  unfold wL_lawOf_757
  rw [e]
  refine br_t hz (ca_co (p := 5) (by omega) (br_t h5 (ca_gb0 (br_t rfl (ca_depth (br_t rfl ?_))))))
  unfold wpX_drop
  refine br_f (by decide) (br_t (by decide) (nm_r (e' := nI 5) (nI_pred 5) (br_t rfl ?_)))
  unfold wpX_count
  refine ca_isPn (p := 5) (k := 5) (by omega) (by omega) (br_t rfl (br_t rfl ?_))
  refine ca_call (K := 5) (i := 0) (mp := 0) C (by omega) (by omega) hm (by omega) (fun j z => absurd z (by omega)) hG (fun b14 b16 b17 b18 b19 Q _ _ => ?_)
  have hc := ca_ct_le (ca_gb av m 0 0 a16 a17 a18) 5
  refine br_f (nI_pos (by omega)) ?_
  unfold wpX_unwind
  refine br_t rfl ?_
  unfold wpX_last
  exact br_f (by decide) (br_c (fun _ => br_t rfl H) (fun _ => br_f (by decide) (br_t rfl H)))
theorem ca_fx9 : ∀ w, w < 64 → ∀ i, i < 6 → ((nI w &&& (((2 : Int32) <<< (nI i &&& 31)) - 1)) ≤ 0 ↔ decide (0 < ca_sn w (i + 1)) = false) := by decide +kernel
theorem ca_571 {post : Int32 → St0 → Prop} {mc ms kc ks : Nat} {x2 : Int32} {w av : Nat} (hw : w < 64) (C : ca_C (nI av) 6 a2 a3 a4 a5 a9 a10 a11 a12 a13) (Lv : ca_Lev w av 6 a15 a16 a17 a18) (H : post 1 ()) :
    ∀ (d G : Nat) (a14 a19 : Nat → Int32) (y : Int32), d ≤ 6 → y = nI d + (-1) → G + 3 * d ≤ 36 → a14 4 = ca_i (decide (0 < ca_sn w 6)) → a14 5 = nI (min 3 (6 - d)) →
      wL_lawOf_571 post mc ms x2 (nI w) (nI (ca_sn w 6)) kc ks (d + 1) (nI G) y ft fh (nI 6) (nI d) (nI G) a1 a2 a3 a4 a5 a6 a7 a8 a9 a10 a11 a12 a13 a14 a15 a16 a17 a18 a19 := by
  intro d
  induction d with
  | zero =>
    intro G a14 a19 y _ hy hG h4 h5
    have sle := ca_sn_le w 6
    subst hy
    refine br_t (by decide) (ca_given (br_t rfl (ca_co (p := 4) (by omega) ?_)))
    rw [h4]
    exact pk_le (ca_sn w 6) 0 (fun z => ca_757 (by omega) C (by rw [decide_eq_false (by omega)]; rfl) h5 H) (fun z => ca_757 (by omega) C (by rw [decide_eq_true (by omega)]; rfl) h5 H)
  | succ i ih =>
    intro G a14 a19 y hd hy hG h4 h5
    rw [pk_m1] at hy
    subst hy
    have hi : i < 6 := by omega
    have h9 := ca_fx9 w hw i hi
    have v2 : (decide (0 < i) && w.testBit (i - 1)) = ca_hb (a16 (21 * 2 + i)) 2 := by
      rw [((Lv i (by omega)).2 2 (by omega)).1, ca_Lav]
      exact (ca_F2 w hw i hi).symm
    have v3 : decide (0 < ca_sn w (i + 1)) = ca_hb (a16 (21 * 3 + i)) 3 := by
      rw [((Lv i (by omega)).2 3 (by omega)).1, ca_Lav]
      exact (ca_F3 w hw i hi).symm
    have v5 : decide (3 ≤ i) = ca_hb (a16 (21 * 5 + i)) 5 := by
      rw [((Lv i (by omega)).2 5 (by omega)).1, ca_Lav]
      exact (ca_F5 w hw i hi).symm
    have t5 := Bool.toNat_le (decide (3 ≤ i))
    have t3 := Bool.toNat_le (decide (0 < ca_sn w (i + 1)))
    have t2 := Bool.toNat_le (decide (0 < i) && w.testBit (i - 1))
    have K : wL_lawOf_610 post mc ms (wL_lawOf_571 post mc ms x2 (nI w) (nI (ca_sn w 6)) kc ks (i + 1)) x2 (nI w) (nI (ca_sn w 6)) (nI G) (nI i) (nI w &&& (((2 : Int32) <<< (nI i &&& 31)) - 1)) (ca_i (decide (0 < i) && w.testBit (i - 1))) kc ks ft fh (nI 6) (nI (i + 1)) (nI G) a1 a2 a3 a4 a5 a6 a7 a8 a9 a10 a11 a12 a13 a14 a15 a16 a17 a18 a19 := by
      refine ca_610 hi (by omega) C v5 v3 v2 h9 rfl (fun b14 b19 e4 e5 => ih _ b14 b19 _ (by omega) rfl (by omega) (e4.trans h4) ?_)
      rw [e5, h5, ca_iN, nI_add]
      congr 1
      by_cases z : 3 ≤ i
      · rw [decide_eq_true z]
        show min 3 (6 - (i + 1)) + 1 = min 3 (6 - i)
        omega
      · rw [decide_eq_false z]
        show min 3 (6 - (i + 1)) + 0 = min 3 (6 - i)
        omega
    refine br_f (nI_pos (by omega)) (nm_e ?_)
    cases i with
    | zero =>
      refine br_t (by decide) ?_
      unfold wL_lawOf_609
      exact K
    | succ j =>
      refine br_f (nI_nle (by omega) (by omega)) ?_
      rw [nI_pred]
      have hb := ca_bit w hw j (by omega)
      rw [show (decide (0 < j + 1) && w.testBit (j + 1 - 1)) = w.testBit j by rw [decide_eq_true (by omega)]; rfl] at K
      cases e : w.testBit j with
      | true =>
        rw [e] at K
        exact br_t (hb.mpr e) K
      | false =>
        rw [e] at K
        refine br_f (fun z => absurd (hb.mp z) (by rw [e]; decide)) ?_
        unfold wL_lawOf_609
        exact K
end
end
section
section
variable {ft fh fp fd fg : Int32} {a1 a2 a3 a4 a5 a6 a7 a8 a9 a10 a11 a12 a13 a14 a15 a16 a17 a19 : Nat → Int32} {a18 : Nat → Int64}
theorem ca_defN {post : Int32 → St2 → Prop} (H : post (-2) (ft, fh, fp, nI 6, fg, a1, a2, a3, a4, a5, a6, a7, a8, a9, a10, a11, a12, a13, a14, a15, a16, a17, a18, a19)) : wpX_define post (ft, fh, fp, nI 6, fg, a1, a2, a3, a4, a5, a6, a7, a8, a9, a10, a11, a12, a13, a14, a15, a16, a17, a18, a19) 0 0 0 0 := by
  unfold wpX_define
  exact ca_isM (m := 0) (by omega) (br_f (by decide) (br_f (by decide) (br_f (by decide) (br_f (by decide) (br_f (by decide) (br_f (by decide) (br_t (by decide) (br_f (by decide) H))))))))
theorem ca_dropN {post : Int32 → St2 → Prop} (H : post (-2) (ft, fh, nI 6, nI 6, fg, a1, a2, a3, a4, a5, a6, a7, a8, a9, a10, a11, a12, a13, a14, a15, a16, a17, a18, a19)) : wpX_drop post (ft, fh, nI 6, nI 6, fg, a1, a2, a3, a4, a5, a6, a7, a8, a9, a10, a11, a12, a13, a14, a15, a16, a17, a18, a19) := by
  unfold wpX_drop
  exact br_f (by decide) (br_f (by decide) H)
theorem ca_advN {post : Int32 → St2 → Prop} (H : post (-3) (ft, nI 1, nI 6, fd, fg, a1, a2, a3, a4, a5, a6, a7, a8, a9, a10, a11, a12, a13, a14, a15, a16, a17, a18, a19)) : wpX_advise post (ft, nI 1, nI 6, fd, fg, a1, a2, a3, a4, a5, a6, a7, a8, a9, a10, a11, a12, a13, a14, a15, a16, a17, a18, a19) 0 := by
  unfold wpX_advise
  exact br_f (by decide) (br_t (by decide) (br_t rfl (br_f (by decide) H)))
theorem ca_clr {post : Int32 → St2 → Prop} (H : post fh (0, 0, fp, fd, fg, a1, a2, a3, a4, a5, a6, a7, a8, a9, a10, a11, a12, a13, a14, a15, a16, a17, a18, a19)) : wpX_clear post (ft, fh, fp, fd, fg, a1, a2, a3, a4, a5, a6, a7, a8, a9, a10, a11, a12, a13, a14, a15, a16, a17, a18, a19) := H
theorem ca_derN {post : Int32 → St2 → Prop} (H : post (-2) (ft, fh, fp, nI 6, fg, a1, a2, a3, a4, a5, a6, a7, a8, a9, a10, a11, a12, a13, a14, a15, a16, a17, a18, a19)) : wpX_derive post (ft, fh, fp, nI 6, fg, a1, a2, a3, a4, a5, a6, a7, a8, a9, a10, a11, a12, a13, a14, a15, a16, a17, a18, a19) 1 0 := by
  unfold wpX_derive
  exact br_f (by decide) (br_f (by decide) (br_f (by decide) (br_t (by decide) (br_f (by decide) H))))
theorem ca_hoP {post : Int32 → Prop} (H : post (-1)) : wpX_holds post (ft, fh, nI 6, fd, fg, a1, a2, a3, a4, a5, a6, a7, a8, a9, a10, a11, a12, a13, a14, a15, a16, a17, a18, a19) 6 0 := by
  unfold wpX_holds
  exact ca_isPn (p := 6) (k := 6) (by omega) (by omega) (br_t rfl H)
theorem ca_hoI {post : Int32 → Prop} (H : post (-2)) : wpX_holds post (ft, fh, nI 6, nI 6, fg, a1, a2, a3, a4, a5, a6, a7, a8, a9, a10, a11, a12, a13, a14, a15, a16, a17, a18, a19) 0 6 := by
  unfold wpX_holds
  exact ca_isP (p := 0) (k := 6) (by omega) (by omega) (br_f (by decide) (br_f (by decide) (br_f (by decide) H)))
theorem ca_fit {post : Int32 → Prop} {k a : Int32} (h : ∃ P, P = post ∧ P 1) (hf : ∀ P : Int32 → Prop, P 1 → wpX_fits P () k a) : wpX_fits post () k a := by
  obtain ⟨P, e, h1⟩ := h
  subst e
  exact hf _ h1
theorem ca_f01 : ∀ P : Int32 → Prop, P 1 → wpX_fits P () 0 1 := by
  intro P h
  unfold wpX_fits
  exact br_f (by decide) (br_f (by decide) (br_t rfl (br_f (by decide) (br_f (by decide) h))))
/-- the law's first loop -/
theorem ca_244 {post : Int32 → St0 → Prop} {mc ms kc ks : Nat} {x2 : Int32} {w av : Nat} (hw : w < 64) (hav : av < 5) (C : ca_C (nI (av + 1)) 6 a2 a3 a4 a5 a9 a10 a11 a12 a13) (H : post 1 ()) :
    ∀ (k i G : Nat) (a14 a15 a16 a17 : Nat → Int32) (a18 : Nat → Int64) (a19 : Nat → Int32), i + k = 6 → ca_Lev w (av + 1) i a15 a16 a17 a18 → G ≤ 3 * i → a14 4 = ca_i (decide (0 < ca_sn w i)) → a14 5 = 0 →
      wL_lawOf_244 post mc ms x2 (nI w) (nI (av + 1)) kc ks (k + 1) (nI (ca_sn w i)) (nI G) (nI i) 0 0 (nI 6) (nI i) (nI G) a1 a2 a3 a4 a5 a6 a7 a8 a9 a10 a11 a12 a13 a14 a15 a16 a17 a18 a19 := by
  intro k
  induction k with
  | zero =>
    intro i G a14 a15 a16 a17 a18 a19 e Lv hG h4 h5
    have e' : i = 6 := by omega
    subst e'
    refine br_t (by decide) (ca_defN (br_t rfl (ca_dropN (br_t rfl (ca_tok0 (T := 0) (D := 0) (by omega) (by omega) (by decide) (by decide) ca_f01 (by decide) (br_t rfl (ca_advN (br_t rfl (ca_clr (br_t rfl (ca_derN (br_t rfl (ca_hoP (br_t rfl (ca_hoI (br_t rfl ?_))))))))))))))))
    exact ⟨7, ca_571 hw C Lv H 6 G a14 a19 5 (by omega) (by decide) (by omega) h4 h5⟩
  | succ k ih =>
    intro i G a14 a15 a16 a17 a18 a19 e Lv hG h4 h5
    have hi : i < 6 := by omega
    have n3 := ca_nn3 w (av + 1) i
    have hb := ca_bit w hw i hi
    have K : wL_lawOf_267 post mc ms (wL_lawOf_244 post mc ms x2 (nI w) (nI (av + 1)) kc ks (k + 1)) x2 (nI w) (nI (av + 1)) (nI (ca_sn w i)) (nI G) (nI i) (ca_i (w.testBit i)) kc ks 0 0 (nI 6) (nI i) (nI G) a1 a2 a3 a4 a5 a6 a7 a8 a9 a10 a11 a12 a13 a14 a15 a16 a17 a18 a19 := by
      refine ca_267 hw hav hi (by omega) C Lv (fun b14 b15 b16 b17 b18 b19 L' e4 e5 => ih (i + 1) _ b14 b15 b16 b17 b18 b19 (by omega) L' (by omega) ?_ (e5.trans h5))
      rw [e4, h4]
      show _ = ca_i (decide (0 < ca_sn w i + (w.testBit i).toNat))
      by_cases z : ca_sn w i = 0
      · rw [z]
        cases w.testBit i <;> rfl
      · rw [decide_eq_true (show 0 < ca_sn w i by omega), decide_eq_false z, decide_eq_true (show 0 < ca_sn w i + (w.testBit i).toNat by omega)]
        cases w.testBit i <;> rfl
    refine br_f (nI_ge (b := 6) hi (by omega)) ?_
    cases e1 : w.testBit i with
    | true =>
      rw [e1] at K
      exact br_t (hb.mpr e1) K
    | false =>
      rw [e1] at K
      exact br_f (fun z => absurd (hb.mp z) (by rw [e1]; decide)) K
end
end
section
section
variable {ft fh fp fd fg : Int32} {a1 a2 a3 a4 a5 a6 a7 a8 a9 a10 a11 a12 a13 a14 a15 a16 a17 a19 : Nat → Int32} {a18 : Nat → Int64}
/-! what the law's tokens fit -/
theorem ca_f32 : ∀ P : Int32 → Prop, P 1 → wpX_fits P () 3 2 := by
  intro P h
  unfold wpX_fits
  exact br_f (by decide) (br_f (by decide) (br_f (by decide) (br_f (by decide) (br_f (by decide) (br_t rfl (br_f (by decide) (br_f (by decide) h)))))))
theorem ca_f9a {av : Nat} (h1 : av < 5) : ∀ P : Int32 → Prop, P 1 → wpX_fits P () 9 (nI (av + 1)) := by
  intro P h
  unfold wpX_fits
  exact br_f (by decide) (br_f (by decide) (br_f (by decide) (br_f (by decide) (br_f (by decide) (br_f (by decide) (br_f (by decide) (br_f (by decide) (br_f (by decide) (br_f (by decide) (br_f (by decide) (br_t rfl (br_f (nI_nlt (b := 1) (by omega) (by omega)) (br_f (nI_nlt (a := 5) (by omega) (by omega)) h)))))))))))))
theorem ca_f70 : ∀ P : Int32 → Prop, P 1 → wpX_fits P () 7 0 := by
  intro P h
  unfold wpX_fits
  exact br_f (by decide) (br_f (by decide) (br_f (by decide) (br_f (by decide) (br_f (by decide) (br_f (by decide) (br_f (by decide) (br_f (by decide) (br_f (by decide) (br_t rfl h)))))))))
theorem ca_f42 : ∀ P : Int32 → Prop, P 1 → wpX_fits P () 4 2 := by
  intro P h
  unfold wpX_fits wX_fits_72
  exact br_f (by decide) (br_f (by decide) (br_f (by decide) (br_f (by decide) (br_f (by decide) (br_f (by decide) (br_t rfl (br_f (by decide) (br_f (by decide) h))))))))
theorem ca_f0a {a : Nat} (ha : a ≤ 9) : ∀ P : Int32 → Prop, P 1 → wpX_fits P () 0 (nI a) := by
  intro P h
  unfold wpX_fits
  exact br_f (by decide) (br_f (by decide) (br_t rfl (br_f (nI_pos (by omega)) (br_f (nI_nlt (a := 9) ha (by omega)) h))))
theorem ca_f13 : ∀ P : Int32 → Prop, P 1 → wpX_fits P () 1 3 := by
  intro P h
  unfold wpX_fits wX_fits_72
  exact br_f (by decide) (br_f (by decide) (br_f (by decide) (br_t rfl (br_f (by decide) (br_f (by decide) h)))))
theorem ca_f80 : ∀ P : Int32 → Prop, P 1 → wpX_fits P () 8 0 := by
  intro P h
  unfold wpX_fits
  exact br_f (by decide) (br_f (by decide) (br_f (by decide) (br_f (by decide) (br_f (by decide) (br_f (by decide) (br_f (by decide) (br_f (by decide) (br_f (by decide) (br_f (by decide) (br_t rfl h))))))))))
theorem ca_f130 : ∀ P : Int32 → Prop, P 1 → wpX_fits P () 13 0 := by
  intro P h
  unfold wpX_fits
  exact br_f (by decide) (br_t (by decide) h)
theorem ca_f53 : ∀ P : Int32 → Prop, P 1 → wpX_fits P () 5 3 := by
  intro P h
  unfold wpX_fits
  exact br_f (by decide) (br_f (by decide) (br_f (by decide) (br_f (by decide) (br_f (by decide) (br_f (by decide) (br_f (by decide) (br_t rfl (br_f (by decide) (br_f (by decide) h)))))))))
theorem ca_t9 : ∀ P : Int32 → Prop, P 1 → wpX_taken P () 9 := by
  intro P h
  unfold wpX_taken
  exact br_t (by decide) (br_f (by decide) (br_f (by decide) (br_f (by decide) h)))
theorem ca_t7 : ∀ P : Int32 → Prop, P 1 → wpX_taken P () 7 := by
  intro P h
  unfold wpX_taken
  exact br_t (by decide) (br_f (by decide) (br_f (by decide) (br_f (by decide) h)))
theorem ca_t13 : ∀ P : Int32 → Prop, P 1 → wpX_taken P () 13 := by
  intro P h
  unfold wpX_taken
  exact br_t (by decide) (br_f (by decide) (br_f (by decide) (br_f (by decide) h)))
theorem ca_t8 : ∀ P : Int32 → Prop, P 2 → wpX_taken P () 8 := by
  intro P h
  unfold wpX_taken
  exact br_t (by decide) (br_t rfl h)
theorem ca_adv2 {post : Int32 → St2 → Prop} (H : post (-2) (ft, 0, fp, fd, fg, a1, a2, a3, a4, a5, a6, a7, a8, a9, a10, a11, a12, a13, a14, a15, a16, a17, a18, a19)) : wpX_advise post (ft, 0, fp, fd, fg, a1, a2, a3, a4, a5, a6, a7, a8, a9, a10, a11, a12, a13, a14, a15, a16, a17, a18, a19) 0 := by
  unfold wpX_advise
  exact br_f (by decide) (br_t (by decide) (br_f (by decide) H))
theorem ca_C0 {av : Int32} (h2 : a2 0 = 1 ∧ a2 3 = 12 ∧ a2 5 = 32) : ca_C av 0 a2 (upd (upd (fun _ => 0) 1 (nI 3)) 2 (nI 5)) (upd (upd (fun _ => 0) 1 (nI 7)) 2 (nI 8)) (upd (upd (fun _ => 0) 1 (nI 4)) 2 (nI 0)) a9 a10 a11 a12 a13 := by
  refine ⟨⟨h2, fun m hm => ?_⟩, fun p hp => absurd hp (by omega)⟩
  unfold ca_cl ca_nm ca_mk upd
  by_cases e1 : m = 1
  · subst e1
    exact ⟨rfl, rfl, rfl⟩
  · by_cases e2 : m = 2
    · subst e2
      exact ⟨rfl, rfl, rfl⟩
    · refine ⟨?_, ?_, ?_⟩ <;> simp only [if_neg e1, if_neg e2]
theorem ca_d1 {P : Nat → Prop} (h0 : P 0) : ∀ t, t < 1 → P t := by
  intro t ht
  rw [show t = 0 by omega]
  exact h0
theorem ca_d2 {P : Nat → Prop} (h0 : P 0) (h1 : P 1) : ∀ t, t < 2 → P t := by
  intro t ht
  rcases (show t = 0 ∨ t = 1 by omega) with rfl | rfl
  · exact h0
  · exact h1
theorem ca_d3 {P : Nat → Prop} (h0 : P 0) (h1 : P 1) (h2 : P 2) : ∀ t, t < 3 → P t := by
  intro t ht
  rcases (show t = 0 ∨ t = 1 ∨ t = 2 by omega) with rfl | rfl | rfl
  · exact h0
  · exact h1
  · exact h2
theorem ca_lawOf {post : Int32 → St0 → Prop} {p0 p1 p2 : Int32} {w av : Nat} (hw : w < 64) (hav : av < 5) (e0 : p0 &&& 63 = nI w) (e1 : 1 + ((p1 &&& 7) - (p1 &&& 7) / 5 * 5) = nI (av + 1)) (H : post 1 ()) : wpL_lawOf post 20 905 () p0 p1 p2 := by
  unfold wpL_lawOf
  refine ⟨by decide, by decide, 19, 881, by decide, by decide, ca_init (fun b1 b2 hb1 => nm_r e0 ⟨by decide, nm_r e1 (ca_derive hb1 (fun r c1 c2 hc => ca_define (m := 1) (c := 3) (n := 7) (k := 4) (by omega) (by omega) (by omega) (by omega) (ca_define (m := 2) (c := 5) (n := 8) (k := 0) (by omega) (by omega) (by omega) (by omega) ?_)))⟩)⟩
  have C0 := ca_C0 (av := nI (av + 1)) (a9 := fun _ => 0) (a10 := fun _ => 0) (a11 := fun _ => 0) (a12 := fun _ => 0) (a13 := fun _ => 0) hc
  refine ca_tok0 (T := 0) (D := 0) (by omega) (by omega) (by decide) (by decide) ca_f32 (by decide) (ca_tok1 (T := 0) (D := 0) (s := 1) (by omega) (by omega) (by decide) (by decide) (ca_f9a hav) ca_t9 rfl (br_t rfl ?_))
  refine ca_adv (k := 0) (by omega) C0 (ca_d2 ⟨rfl, rfl, rfl⟩ ⟨rfl, rfl, rfl⟩) (fun q hq => absurd hq (by omega)) (fun b9 b10 b11 b12 b13 b14 C1 z1 => br_t rfl ?_)
  refine ca_tok0 (T := 0) (D := 0) (by omega) (by omega) (by decide) (by decide) ca_f32 (by decide) (br_t rfl (ca_tok1 (T := 0) (D := 0) (s := 1) (by omega) (by omega) (by decide) (by decide) ca_f70 ca_t7 rfl (br_t rfl ?_)))
  refine ca_adv (k := 1) (by omega) C1 (ca_d2 ⟨rfl, rfl, rfl⟩ ⟨rfl, rfl, rfl⟩) z1 (fun b9 b10 b11 b12 b13 b14 C2 z2 => br_t rfl ?_)
  refine ca_tok0 (T := 0) (D := 0) (by omega) (by omega) (by decide) (by decide) ca_f42 (by decide) (br_t rfl ?_)
  refine ca_adv (k := 2) (by omega) C2 (ca_d1 ⟨rfl, rfl, rfl⟩) z2 (fun b9 b10 b11 b12 b13 b14 C3 z3 => br_t rfl ?_)
  refine ca_tok0 (T := 0) (D := 0) (by omega) (by omega) (by decide) (by decide) (ca_f0a (a := 8) (by omega)) (by decide) (ca_tok0 (T := 1) (D := 1) (by omega) (by omega) (by decide) (by decide) ca_f13 (by decide) (ca_tok2 (T := 1) (D := 0) (s := 1) (r := 1) (by omega) (by omega) (by decide) (by decide) ca_f80 ca_t8 (by omega) rfl rfl (br_t rfl ?_)))
  refine ca_adv (k := 3) (by omega) C3 (ca_d3 ⟨rfl, rfl, rfl⟩ ⟨rfl, rfl, rfl⟩ ⟨rfl, rfl, rfl⟩) z3 (fun b9 b10 b11 b12 b13 b14 C4 z4 => br_t rfl ?_)
  refine ca_tok0 (T := 0) (D := 0) (by omega) (by omega) (by decide) (by decide) (ca_f0a (a := 7) (by omega)) (by decide) (br_t rfl (ca_tok1 (T := 0) (D := 0) (s := 1) (by omega) (by omega) (by decide) (by decide) ca_f130 ca_t13 rfl (br_t rfl ?_)))
  refine ca_adv (k := 4) (by omega) C4 (ca_d2 ⟨rfl, rfl, rfl⟩ ⟨rfl, rfl, rfl⟩) z4 (fun b9 b10 b11 b12 b13 b14 C5 z5 => br_t rfl ?_)
  refine ca_tok0 (T := 0) (D := 0) (by omega) (by omega) (by decide) (by decide) ca_f53 (by decide) (br_t rfl ?_)
  refine ca_adv (k := 5) (by omega) C5 (ca_d1 ⟨rfl, rfl, rfl⟩) z5 (fun b9 b10 b11 b12 b13 b14 C6 z6 => br_t rfl ?_)
  refine ca_adv2 (br_t rfl (ca_would C6 (fun b15 b16 b17 b18 => br_t rfl ⟨7, ?_⟩)))
  exact ca_244 hw hav C6 H 6 0 0 b14 b15 b16 b17 b18 _ (by omega) (fun j hj => absurd hj (by omega)) (by omega) (z6 4 (by omega)) (z6 5 (by omega))
theorem ca_par (x : Int32) : ∃ av : Nat, av < 5 ∧ 1 + ((x &&& 7) - (x &&& 7) / 5 * 5) = nI (av + 1) := by
  obtain ⟨j, hj, e⟩ := pk_andE x (m := 7) 3 (by decide)
  have hj8 : j < 8 := hj
  refine ⟨j % 5, by omega, ?_⟩
  rw [e, show (5 : Int32) = nI 5 from rfl, pk_rem (by omega) (by omega) (by omega), show (1 : Int32) = nI 1 from rfl, nI_add, Nat.add_comm]
theorem ca_cell {post : Int32 → Prop} {L : Nat} {xs : Nat → Int32} (hL : L ≤ 3) (k : Nat) (hk : k < 3) (H : ∀ x, post x) : wpL_cellAt post L xs () (nI k) := by
  unfold wpL_cellAt
  exact br_c (fun _ => H 0) (fun z => ⟨by
    have z' : ¬ nI L ≤ nI k := z
    rw [nI_leI (by omega) (by omega)] at z'
    exact pk_in k L (by omega), H _⟩)
end
theorem i_vc (xs : Nat → Int32) (L : Nat) (hL : L ≤ 3) : wpL_law (fun r => r = 1) L xs := by
  unfold wpL_law
  refine ca_cell hL 0 (by omega) (fun r1 => ca_cell hL 1 (by omega) (fun r2 => ca_cell hL 2 (by omega) (fun r3 => ⟨20, 905, by decide, by decide, ?_⟩)))
  obtain ⟨w, hw, e0⟩ := pk_andE r1 (m := 63) 6 (by decide)
  obtain ⟨av, hav, e1⟩ := ca_par r2
  exact ca_lawOf hw hav e0 e1 rfl
end
