section
/-! base: Int32 facts -/
theorem tj_xor (a b : Nat) : nI a ^^^ nI b = nI (a ^^^ b) := by
  apply Int32.toBitVec_inj.1
  show BitVec.ofNat 32 a ^^^ BitVec.ofNat 32 b = BitVec.ofNat 32 (a ^^^ b)
  apply BitVec.eq_of_getLsbD_eq
  intro i hi
  simp [hi]
theorem tj_tI {c : Int} (h1 : -1073741824 ≤ c) (h2 : c ≤ 1073741824) : (Int32.ofInt c).toInt = c :=
  Int32.toInt_ofInt_of_le (by omega) (by omega)
theorem tj_leO {a b : Int} (a1 : -1073741824 ≤ a) (a2 : a ≤ 1073741824) (b1 : -1073741824 ≤ b) (b2 : b ≤ 1073741824) : Int32.ofInt a ≤ Int32.ofInt b ↔ a ≤ b := by
  rw [Int32.le_iff_toInt_le, tj_tI a1 a2, tj_tI b1 b2]
theorem tj_ltO {a b : Int} (a1 : -1073741824 ≤ a) (a2 : a ≤ 1073741824) (b1 : -1073741824 ≤ b) (b2 : b ≤ 1073741824) : Int32.ofInt a < Int32.ofInt b ↔ a < b := by
  rw [Int32.lt_iff_toInt_lt, tj_tI a1 a2, tj_tI b1 b2]
theorem tj_ge0 {c : Int} (h1 : -1073741824 ≤ c) (h2 : c ≤ 1073741824) : 0 ≤ Int32.ofInt c ↔ 0 ≤ c :=
  tj_leO (a := 0) (by omega) (by omega) h1 h2
theorem tj_lt0 {c : Int} (h1 : -1073741824 ≤ c) (h2 : c ≤ 1073741824) : Int32.ofInt c < 0 ↔ c < 0 :=
  tj_ltO (b := 0) h1 h2 (by omega) (by omega)
theorem tj_pos {c : Int} (h : 0 ≤ c) : Int32.ofInt c = nI c.natAbs := by
  have e : ((c.natAbs : Nat) : Int) = c := by omega
  show Int32.ofInt c = Int32.ofNat c.natAbs
  rw [← Int32.ofInt_eq_ofNat, e]
theorem tj_neg {c : Int} (h : c < 0) : -(Int32.ofInt c) = nI c.natAbs := by
  have e : ((c.natAbs : Nat) : Int) = -c := by omega
  show -(Int32.ofInt c) = Int32.ofNat c.natAbs
  rw [← Int32.ofInt_eq_ofNat, e, Int32.ofInt_neg]
/-- the law's weights -/
theorem tj_w (x : Int32) : ∃ P : Int, -9 ≤ P ∧ P ≤ 20 ∧ ((x &&& 31) - (x &&& 31) / 30 * 30) - 9 = Int32.ofInt P := by
  obtain ⟨j, hj, e⟩ := pk_andE x (m := 31) 5 (by decide)
  have hj' : j < 32 := hj
  have e30 : (30 : Int32) = nI 30 := rfl
  rw [e, e30, pk_rem (by omega) (by omega) (by omega)]
  refine ⟨((j % 30 : Nat) : Int) - 9, by omega, by omega, ?_⟩
  rw [Int32.ofInt_sub, Int32.ofInt_eq_ofNat]
  rfl
/-- folds over the roads and places: what the small loops compute -/
def tj_bit (s : Int32) (e : Nat) : Int32 := (s >>> (nI e &&& 31)) &&& 1
def tj_one (e : Nat) : Int32 := (1 : Int32) <<< (nI e &&& 31)
def tj_part (j : Nat) : Int32 := if j = 3 then 3 else 0
def tj_pp : Nat → Nat → Int32
  | 0 => fun j => nI j
  | e + 1 => fun j => if tj_pp e j = tj_pp e ((e + 1) % 3) then tj_pp e e else tj_pp e j
def tj_pf (s x : Int32) (j : Nat) : Int32 := if tj_part j = x then tj_bit s j else 0
def tj_fx (f : Nat → Int32) : Nat → Int32
  | 0 => 0
  | i + 1 => tj_fx f i ^^^ f i
def tj_cf (p : Nat) : Nat → Int32
  | 0 => 1
  | j + 1 => if tj_cf p j = 0 then 0 else if tj_part j = tj_part p then 0 else 1
def tj_ct : Nat → Int32
  | 0 => 0
  | p + 1 => if tj_cf p p = 0 then tj_ct p + 0 else tj_ct p + 1
def tj_od (s : Int32) : Nat → Int32
  | 0 => 0
  | e + 1 => if tj_bit s e = 1 then (tj_od s e ^^^ tj_one e) ^^^ tj_one ((e + 1) % 3) else tj_od s e
def tj_wt (s : Int32) (f : Nat → Int32) : Nat → Int32
  | 0 => 0
  | e + 1 => if tj_bit s e = 1 then tj_wt s f e + f e else tj_wt s f e + 0
def tj_ng (f : Nat → Int32) : Nat → Int32
  | 0 => 0
  | e + 1 => if 0 ≤ f e then tj_ng f e ||| 0 else tj_ng f e ||| tj_one e
def tj_E (a1 a2 : Nat → Int32) : Prop := ∀ e, e < 3 → a1 e = nI e ∧ a2 e = nI ((e + 1) % 3)
theorem tj_pp3 : ∀ j, j < 4 → tj_pp 3 j = tj_part j := by decide
theorem tj_ct4 : tj_ct 4 = 2 := by decide
theorem tj_poss0 : ∀ x, x < 4 → ¬ tj_fx (tj_pf 0 (nI x)) 4 = 1 := by decide
theorem tj_poss3 : ∀ x, x < 4 → ¬ tj_fx (tj_pf 3 (nI x)) 4 = 1 := by decide
theorem tj_fill {f s : Nat → Int32} {i : Nat} {x : Int32} (h : ∀ j, j < i → s j = f j) (hx : x = f i) : ∀ j, j < i + 1 → upd s i x j = f j := by
  intro j hj
  by_cases e : j = i
  · rw [e, pk_us, hx]
  · rw [pk_un e]
    exact h j (by omega)
end
section
/-! the small methods -/
theorem tj_takeCosts {post : St2 → Prop} {w : Int32} {a1 a2 a3 a4 a5 a6 a7 a8 a9 : Nat → Int32}
    (H : ∀ b : Nat → Int32, (∀ j, j < 3 → b j = 4096 * a3 j + tj_one j) → post (4, 3, w, a1, a2, a3, b, a5, a6, a7, a8, a9)) :
    wpX_takeCosts post (4, 3, w, a1, a2, a3, a4, a5, a6, a7, a8, a9) := by
  show ∃ n, wX_takeCosts_2 post 4 3 w n (nI 0) a1 a2 a3 a4 a5 a6 a7 a8 a9
  refine pk_loop (fun n i s => wX_takeCosts_2 post 4 3 w n (nI i) a1 a2 a3 s a5 a6 a7 a8 a9) (fun i s => ∀ j, j < i → s j = 4096 * a3 j + tj_one j) 3 0 a4 (by omega) (fun j hj => absurd hj (by omega)) ?_ ?_
  · intro n s h
    exact pk_le 3 3 (fun _ => H s h) (fun z => absurd z (by omega))
  · intro n i s hi h hw
    refine pk_le 3 i (fun z => absurd z (by omega)) (fun _ => ⟨pk_in i 12 (by omega), pk_in i 12 (by omega), nm_r (e' := upd s i (4096 * a3 i + tj_one i)) (by rw [nI_clamp (by omega)]; rfl) (nm_r (nI_1 i) (hw _ (tj_fill (f := fun j => 4096 * a3 j + tj_one j) h rfl)))⟩)
theorem tj_fp60 {post : St2 → Prop} {J : Int32 → (Nat → Int32) → (Nat → Int32) → (Nat → Int32) → (Nat → Int32) → (Nat → Int32) → (Nat → Int32) → (Nat → Int32) → (Nat → Int32) → (Nat → Int32) → Prop} {x1 x1' x2 x3 w : Int32} {a1 a2 a3 a4 a5 a6 a7 a8 a9 : Nat → Int32} (hx : x1 + 1 = x1')
    (H : ∀ b : Nat → Int32, (∀ j, j < 4 → b j = if a9 j = x3 then x2 else a9 j) → J x1' a1 a2 a3 a4 a5 a6 a7 a8 b) :
    ∃ n, wX_findParts_60 post J x1 x2 x3 4 3 w n 0 a1 a2 a3 a4 a5 a6 a7 a8 a9 := by
  show ∃ n, wX_findParts_60 post J x1 x2 x3 4 3 w n (nI 0) a1 a2 a3 a4 a5 a6 a7 a8 a9
  refine pk_loop (fun n i s => wX_findParts_60 post J x1 x2 x3 4 3 w n (nI i) a1 a2 a3 a4 a5 a6 a7 a8 s) (fun i s => ∀ j, j < 4 → s j = if j < i ∧ a9 j = x3 then x2 else a9 j) 4 0 a9 (by omega) (fun j hj => by rw [if_neg (fun z => absurd z.1 (by omega))]) ?_ ?_
  · intro n s h
    refine pk_le 4 4 (fun _ => nm_r hx (H s (fun j hj => ?_))) (fun z => absurd z (by omega))
    rw [h j hj]
    by_cases g : a9 j = x3
    · rw [if_pos ⟨hj, g⟩, if_pos g]
    · rw [if_neg (fun z => g z.2), if_neg g]
  · intro n i s hi h hw
    have hsi : s i = a9 i := by
      rw [h i hi, if_neg (fun z => absurd z.1 (by omega))]
    have key : ∀ v, (v = if a9 i = x3 then x2 else a9 i) → ∀ j, j < 4 → upd s i v j = if j < i + 1 ∧ a9 j = x3 then x2 else a9 j := by
      intro v hv j hj
      by_cases e : j = i
      · rw [e, pk_us, hv]
        by_cases g : a9 i = x3
        · rw [if_pos g, if_pos ⟨by omega, g⟩]
        · rw [if_neg g, if_neg (fun z => g z.2)]
      · rw [pk_un e, h j hj]
        by_cases g : j < i ∧ a9 j = x3
        · rw [if_pos g, if_pos ⟨by omega, g.2⟩]
        · rw [if_neg g, if_neg (fun z => g ⟨by omega, z.2⟩)]
    refine pk_le 4 i (fun z => absurd z (by omega)) (fun _ => ⟨pk_in i 7 (by omega), br_c (fun g => ?_) (fun g => ?_)⟩)
    · rw [nI_clamp (show i < 2 ^ 31 by omega), hsi] at g
      exact ⟨pk_in i 7 (by omega), nm_r (e' := upd s i x2) (by rw [nI_clamp (by omega)]) (nm_r (nI_1 i) (hw _ (key _ (by rw [if_pos g]))))⟩
    · rw [nI_clamp (show i < 2 ^ 31 by omega), hsi] at g
      exact ⟨pk_in i 7 (by omega), pk_in i 7 (by omega), nm_r (e' := upd s i (s i)) (by rw [nI_clamp (by omega)]) (nm_r (nI_1 i) (hw _ (key _ (by rw [if_neg g, hsi]))))⟩
theorem tj_fp25 {post : St2 → Prop} {w : Int32} {a1 a2 a3 a4 a5 a6 a7 a8 a9 : Nat → Int32} (hE : tj_E a1 a2) (h9 : ∀ j, j < 4 → a9 j = nI j)
    (H : ∀ b : Nat → Int32, (∀ j, j < 4 → b j = tj_part j) → post (4, 3, w, a1, a2, a3, a4, a5, a6, a7, a8, b)) :
    ∃ n, wX_findParts_25 post 4 3 w n 0 a1 a2 a3 a4 a5 a6 a7 a8 a9 := by
  show ∃ n, wX_findParts_25 post 4 3 w n (nI 0) a1 a2 a3 a4 a5 a6 a7 a8 a9
  refine pk_loop (fun n i s => wX_findParts_25 post 4 3 w n (nI i) a1 a2 a3 a4 a5 a6 a7 a8 s) (fun i s => ∀ j, j < 4 → s j = tj_pp i j) 3 0 a9 (by omega) h9 ?_ ?_
  · intro n s h
    exact pk_le 3 3 (fun _ => H s (fun j hj => (h j hj).trans (tj_pp3 j hj))) (fun z => absurd z (by omega))
  · intro n i s hi h hw
    have e1 : a1 (nI i).toNatClampNeg = nI i := by rw [nI_clamp (by omega)]; exact (hE i hi).1
    have e2 : a2 (nI i).toNatClampNeg = nI ((i + 1) % 3) := by rw [nI_clamp (by omega)]; exact (hE i hi).2
    refine pk_le 3 i (fun z => absurd z (by omega)) (fun _ => ⟨pk_in i 12 (by omega), pk_in i 7 (by omega) e1, nm_r (e' := s i) (by rw [e1, nI_clamp (by omega)]) ⟨pk_in i 12 (by omega), pk_in ((i + 1) % 3) 7 (by omega) e2, nm_r (e' := s ((i + 1) % 3)) (by rw [e2, nI_clamp (by omega)]) (tj_fp60 (nI_1 i) (fun b hb => hw b (fun j hj => ?_)))⟩⟩)
    rw [hb j hj, h j hj, h i (by omega), h ((i + 1) % 3) (by omega)]
    rfl
theorem tj_findParts {post : St2 → Prop} {w : Int32} {a1 a2 a3 a4 a5 a6 a7 a8 a9 : Nat → Int32} (hE : tj_E a1 a2)
    (H : ∀ b : Nat → Int32, (∀ j, j < 4 → b j = tj_part j) → post (4, 3, w, a1, a2, a3, a4, a5, a6, a7, a8, b)) :
    wpX_findParts post (4, 3, w, a1, a2, a3, a4, a5, a6, a7, a8, a9) := by
  show ∃ n, wX_findParts_2 post 4 3 w n (nI 0) a1 a2 a3 a4 a5 a6 a7 a8 a9
  refine pk_loop (fun n i s => wX_findParts_2 post 4 3 w n (nI i) a1 a2 a3 a4 a5 a6 a7 a8 s) (fun i s => ∀ j, j < i → s j = nI j) 4 0 a9 (by omega) (fun j hj => absurd hj (by omega)) ?_ ?_
  · intro n s h
    exact pk_le 4 4 (fun _ => tj_fp25 hE h H) (fun z => absurd z (by omega))
  · intro n i s hi h hw
    exact pk_le 4 i (fun z => absurd z (by omega)) (fun _ => ⟨pk_in i 7 (by omega), nm_r (e' := upd s i (nI i)) (by rw [nI_clamp (by omega)]) (nm_r (nI_1 i) (hw _ (tj_fill (f := nI) h rfl)))⟩)
theorem tj_ip19 {post : Int32 → St2 → Prop} {J : Int32 → Prop} {s x2 x2' w : Int32} {a1 a2 a3 a4 a5 a6 a7 a8 a9 : Nat → Int32} (hx : x2 + 1 = x2') (h9 : ∀ j, j < 4 → a9 j = tj_part j) (hs : ¬ tj_fx (tj_pf s x2) 4 = 1) (H : J x2') :
    ∃ n, wX_isPossible_19 post J s x2 4 3 w a1 a2 a3 a4 a5 a6 a7 a8 a9 n 0 0 := by
  show ∃ n, wX_isPossible_19 post J s x2 4 3 w a1 a2 a3 a4 a5 a6 a7 a8 a9 n 0 (nI 0)
  refine pk_loop (fun n i t => wX_isPossible_19 post J s x2 4 3 w a1 a2 a3 a4 a5 a6 a7 a8 a9 n t (nI i)) (fun i t => t = tj_fx (tj_pf s x2) i) 4 0 0 (by omega) rfl ?_ ?_
  · intro n t h
    exact pk_le 4 4 (fun _ => br_f (by rw [h]; exact hs) (nm_r hx H)) (fun z => absurd z (by omega))
  · intro n i t hi h hw
    have e9 : a9 (nI i).toNatClampNeg = tj_part i := by rw [nI_clamp (by omega)]; exact h9 i hi
    refine pk_le 4 i (fun z => absurd z (by omega)) (fun _ => ⟨pk_in i 7 (by omega), br_c (fun g => ?_) (fun g => ?_)⟩)
    · rw [e9] at g
      refine nm_e (nm_r (nI_1 i) (hw _ ?_))
      show t ^^^ tj_bit s i = tj_fx (tj_pf s x2) i ^^^ tj_pf s x2 i
      rw [h, tj_pf, if_pos g]
    · rw [e9] at g
      refine nm_e (nm_r (nI_1 i) (hw _ ?_))
      show t ^^^ 0 = tj_fx (tj_pf s x2) i ^^^ tj_pf s x2 i
      rw [h, tj_pf, if_neg g]
theorem tj_isPossible {post : Int32 → St2 → Prop} {s w : Int32} {a1 a2 a3 a4 a5 a6 a7 a8 a9 : Nat → Int32} (hE : tj_E a1 a2) (hs : ∀ x, x < 4 → ¬ tj_fx (tj_pf s (nI x)) 4 = 1)
    (H : ∀ b : Nat → Int32, (∀ j, j < 4 → b j = tj_part j) → post 1 (4, 3, w, a1, a2, a3, a4, a5, a6, a7, a8, b)) :
    wpX_isPossible post (4, 3, w, a1, a2, a3, a4, a5, a6, a7, a8, a9) s := by
  unfold wpX_isPossible
  refine tj_findParts hE (fun b hb => ?_)
  show ∃ n, wX_isPossible_6 post s 4 3 w a1 a2 a3 a4 a5 a6 a7 a8 b n (nI 0)
  refine pk_loop (σ := Unit) (fun n i _ => wX_isPossible_6 post s 4 3 w a1 a2 a3 a4 a5 a6 a7 a8 b n (nI i)) (fun _ _ => True) 4 0 () (by omega) trivial ?_ ?_
  · intro n _ _
    exact pk_le 4 4 (fun _ => H b hb) (fun z => absurd z (by omega))
  · intro n i _ hi _ hw
    exact pk_le 4 i (fun z => absurd z (by omega)) (fun _ => tj_ip19 (nI_1 i) hb (hs i hi) (hw () trivial))
theorem tj_cp21 {post : Int32 → St2 → Prop} {J : Int32 → Int32 → Prop} {x1 w : Int32} {p : Nat} {a1 a2 a3 a4 a5 a6 a7 a8 a9 : Nat → Int32} (hp : p < 4) (h9 : ∀ j, j < 4 → a9 j = tj_part j) (H : J (if tj_cf p p = 0 then x1 + 0 else x1 + 1) (nI (p + 1))) :
    ∃ n, wX_countParts_21 post J x1 (nI p) 4 3 w a1 a2 a3 a4 a5 a6 a7 a8 a9 n 1 0 := by
  show ∃ n, wX_countParts_21 post J x1 (nI p) 4 3 w a1 a2 a3 a4 a5 a6 a7 a8 a9 n 1 (nI 0)
  refine pk_loop (fun n i t => wX_countParts_21 post J x1 (nI p) 4 3 w a1 a2 a3 a4 a5 a6 a7 a8 a9 n t (nI i)) (fun i t => t = tj_cf p i) p 0 1 (by omega) rfl ?_ ?_
  · intro n t h
    refine pk_le p p (fun _ => br_c (fun g => ?_) (fun g => ?_)) (fun z => absurd z (by omega))
    · rw [h] at g
      rw [if_pos g] at H
      exact nm_e (nm_r (nI_1 p) H)
    · rw [h] at g
      rw [if_neg g] at H
      exact nm_e (nm_r (nI_1 p) H)
  · intro n i t hi h hw
    refine pk_le p i (fun z => absurd z (by omega)) (fun _ => br_c (fun g => nm_r (nI_1 i) (hw _ ?_)) (fun g => ⟨pk_in i 7 (by omega), pk_in p 7 (by omega), br_c (fun g2 => nm_r (nI_1 i) (hw _ ?_)) (fun g2 => nm_r (nI_1 i) (hw _ ?_))⟩))
    · rw [h] at g
      show 0 = if tj_cf p i = 0 then 0 else if tj_part i = tj_part p then 0 else 1
      rw [if_pos g]
    · rw [h] at g
      rw [nI_clamp (show i < 2 ^ 31 by omega), nI_clamp (show p < 2 ^ 31 by omega), h9 i (by omega), h9 p hp] at g2
      show 0 = if tj_cf p i = 0 then 0 else if tj_part i = tj_part p then 0 else 1
      rw [if_neg g, if_pos g2]
    · rw [h] at g
      rw [nI_clamp (show i < 2 ^ 31 by omega), nI_clamp (show p < 2 ^ 31 by omega), h9 i (by omega), h9 p hp] at g2
      show 1 = if tj_cf p i = 0 then 0 else if tj_part i = tj_part p then 0 else 1
      rw [if_neg g, if_neg g2]
theorem tj_countParts {post : Int32 → St2 → Prop} {w : Int32} {a1 a2 a3 a4 a5 a6 a7 a8 a9 : Nat → Int32} (hE : tj_E a1 a2)
    (H : ∀ b : Nat → Int32, post 2 (4, 3, w, a1, a2, a3, a4, a5, a6, a7, a8, b)) :
    wpX_countParts post (4, 3, w, a1, a2, a3, a4, a5, a6, a7, a8, a9) := by
  unfold wpX_countParts
  refine tj_findParts hE (fun b hb => ?_)
  show ∃ n, wX_countParts_8 post 4 3 w a1 a2 a3 a4 a5 a6 a7 a8 b n 0 (nI 0)
  refine pk_loop (fun n i t => wX_countParts_8 post 4 3 w a1 a2 a3 a4 a5 a6 a7 a8 b n t (nI i)) (fun i t => t = tj_ct i) 4 0 0 (by omega) rfl ?_ ?_
  · intro n t h
    refine pk_le 4 4 (fun _ => ?_) (fun z => absurd z (by omega))
    rw [h, tj_ct4]
    exact H b
  · intro n i t hi h hw
    refine pk_le 4 i (fun z => absurd z (by omega)) (fun _ => tj_cp21 hi hb (hw _ ?_))
    rw [h]
    rfl
theorem tj_oddOf {post : Int32 → Prop} {s w : Int32} {a1 a2 a3 a4 a5 a6 a7 a8 a9 : Nat → Int32} (hE : tj_E a1 a2) (H : post (tj_od s 3)) :
    wpX_oddOf post (4, 3, w, a1, a2, a3, a4, a5, a6, a7, a8, a9) s := by
  show ∃ n, wX_oddOf_4 post s 4 3 w a1 a2 a3 a4 a5 a6 a7 a8 a9 n 0 (nI 0)
  refine pk_loop (fun n i t => wX_oddOf_4 post s 4 3 w a1 a2 a3 a4 a5 a6 a7 a8 a9 n t (nI i)) (fun i t => t = tj_od s i) 3 0 0 (by omega) rfl ?_ ?_
  · intro n t h
    exact pk_le 3 3 (fun _ => by rw [h]; exact H) (fun z => absurd z (by omega))
  · intro n i t hi h hw
    have e1 : a1 (nI i).toNatClampNeg = nI i := by rw [nI_clamp (by omega)]; exact (hE i hi).1
    have e2 : a2 (nI i).toNatClampNeg = nI ((i + 1) % 3) := by rw [nI_clamp (by omega)]; exact (hE i hi).2
    refine pk_le 3 i (fun z => absurd z (by omega)) (fun _ => br_c (fun g => ⟨pk_in i 12 (by omega), pk_in i 12 (by omega), nm_e (nm_r (nI_1 i) (hw _ ?_))⟩) (fun g => nm_r (nI_1 i) (hw _ ?_)))
    · have g' : tj_bit s i = 1 := g
      rw [e1, e2, h]
      show (tj_od s i ^^^ tj_one i) ^^^ tj_one ((i + 1) % 3) = if tj_bit s i = 1 then (tj_od s i ^^^ tj_one i) ^^^ tj_one ((i + 1) % 3) else tj_od s i
      rw [if_pos g']
    · have g' : ¬ tj_bit s i = 1 := g
      show t = if tj_bit s i = 1 then (tj_od s i ^^^ tj_one i) ^^^ tj_one ((i + 1) % 3) else tj_od s i
      rw [if_neg g', h]
theorem tj_weightOf {post : Int32 → Prop} {s w : Int32} {a1 a2 a3 a4 a5 a6 a7 a8 a9 : Nat → Int32} (H : post (tj_wt s a3 3)) :
    wpX_weightOf post (4, 3, w, a1, a2, a3, a4, a5, a6, a7, a8, a9) s := by
  show ∃ n, wX_weightOf_4 post s 4 3 w a1 a2 a3 a4 a5 a6 a7 a8 a9 n 0 (nI 0)
  refine pk_loop (fun n i t => wX_weightOf_4 post s 4 3 w a1 a2 a3 a4 a5 a6 a7 a8 a9 n t (nI i)) (fun i t => t = tj_wt s a3 i) 3 0 0 (by omega) rfl ?_ ?_
  · intro n t h
    exact pk_le 3 3 (fun _ => by rw [h]; exact H) (fun z => absurd z (by omega))
  · intro n i t hi h hw
    refine pk_le 3 i (fun z => absurd z (by omega)) (fun _ => br_c (fun g => ⟨pk_in i 12 (by omega), nm_e (nm_r (nI_1 i) (hw _ ?_))⟩) (fun g => nm_e (nm_r (nI_1 i) (hw _ ?_))))
    · have g' : tj_bit s i = 1 := g
      rw [nI_clamp (show i < 2 ^ 31 by omega), h]
      show tj_wt s a3 i + a3 i = if tj_bit s i = 1 then tj_wt s a3 i + a3 i else tj_wt s a3 i + 0
      rw [if_pos g']
    · have g' : ¬ tj_bit s i = 1 := g
      show t + 0 = if tj_bit s i = 1 then tj_wt s a3 i + a3 i else tj_wt s a3 i + 0
      rw [if_neg g', h]
end
section
/-! findWays: tables -/
def tj_T (x y z k : Nat) : Nat := if k = 14 ∨ k = 2 then z else if k = 9 ∨ k = 15 then y else if k = 1 ∨ k = 7 then x else if k / 7 = k % 7 then 0 else 268435456
def tj_V (u v w k : Nat) : Nat := if k = 14 ∨ k = 2 then w else if k = 9 ∨ k = 15 then v else if k = 1 ∨ k = 7 then u else 0
def tj_T0 (k : Nat) : Nat := if k / 7 = k % 7 then 0 else 268435456
def tj_V0 (_ : Nat) : Nat := 0
def tj_put (k X : Nat) (T : Nat → Nat) (j : Nat) : Nat := if j = k then X else T j
def tj_mix (i : Nat) (A B : Nat → Nat) (j : Nat) : Nat := if j < i then A j else B j
def tj_M (a5 a6 : Nat → Int32) (T V : Nat → Nat) : Prop := ∀ k, k < 49 → a5 k = nI (T k) ∧ a6 k = nI (V k)
theorem tj_mix_lt {i j : Nat} {A B : Nat → Nat} (h : j < i) : tj_mix i A B j = A j := if_pos h
theorem tj_mix_ge {i j : Nat} {A B : Nat → Nat} (h : ¬ j < i) : tj_mix i A B j = B j := if_neg h
theorem tj_put_s {k X : Nat} {T : Nat → Nat} : tj_put k X T k = X := if_pos rfl
theorem tj_put_n {k X j : Nat} {T : Nat → Nat} (h : ¬ j = k) : tj_put k X T j = T j := if_neg h
theorem tj_M_conv {a5 a6 : Nat → Int32} {T V T' V' : Nat → Nat} (h : ∀ k, k < 49 → T k = T' k ∧ V k = V' k) (hM : tj_M a5 a6 T V) : tj_M a5 a6 T' V' := by
  intro k hk
  rw [← (h k hk).1, ← (h k hk).2]
  exact hM k hk
theorem tj_T_le {x y z : Nat} (hx : x ≤ 268435456) (hy : y ≤ 268435456) (hz : z ≤ 268435456) (k : Nat) : tj_T x y z k ≤ 268435456 := by
  unfold tj_T
  repeat' split
  all_goals omega
theorem tj_49 {P : Nat → Prop} (h0 : P 0) (h1 : P 1) (h2 : P 2) (h3 : P 3) (h4 : P 4) (h5 : P 5) (h6 : P 6) (h7 : P 7) (h8 : P 8) (h9 : P 9) (h10 : P 10) (h11 : P 11) (h12 : P 12) (h13 : P 13) (h14 : P 14) (h15 : P 15) (h16 : P 16) (h17 : P 17) (h18 : P 18) (h19 : P 19) (h20 : P 20) (h21 : P 21) (h22 : P 22) (h23 : P 23) (h24 : P 24) (h25 : P 25) (h26 : P 26) (h27 : P 27) (h28 : P 28) (h29 : P 29) (h30 : P 30) (h31 : P 31) (h32 : P 32) (h33 : P 33) (h34 : P 34) (h35 : P 35) (h36 : P 36) (h37 : P 37) (h38 : P 38) (h39 : P 39) (h40 : P 40) (h41 : P 41) (h42 : P 42) (h43 : P 43) (h44 : P 44) (h45 : P 45) (h46 : P 46) (h47 : P 47) (h48 : P 48) : ∀ k, k < 49 → P k := by
  intro k hk
  have h : k = 0 ∨ k = 1 ∨ k = 2 ∨ k = 3 ∨ k = 4 ∨ k = 5 ∨ k = 6 ∨ k = 7 ∨ k = 8 ∨ k = 9 ∨ k = 10 ∨ k = 11 ∨ k = 12 ∨ k = 13 ∨ k = 14 ∨ k = 15 ∨ k = 16 ∨ k = 17 ∨ k = 18 ∨ k = 19 ∨ k = 20 ∨ k = 21 ∨ k = 22 ∨ k = 23 ∨ k = 24 ∨ k = 25 ∨ k = 26 ∨ k = 27 ∨ k = 28 ∨ k = 29 ∨ k = 30 ∨ k = 31 ∨ k = 32 ∨ k = 33 ∨ k = 34 ∨ k = 35 ∨ k = 36 ∨ k = 37 ∨ k = 38 ∨ k = 39 ∨ k = 40 ∨ k = 41 ∨ k = 42 ∨ k = 43 ∨ k = 44 ∨ k = 45 ∨ k = 46 ∨ k = 47 ∨ k = 48 := by omega
  rcases h with rfl | rfl | rfl | rfl | rfl | rfl | rfl | rfl | rfl | rfl | rfl | rfl | rfl | rfl | rfl | rfl | rfl | rfl | rfl | rfl | rfl | rfl | rfl | rfl | rfl | rfl | rfl | rfl | rfl | rfl | rfl | rfl | rfl | rfl | rfl | rfl | rfl | rfl | rfl | rfl | rfl | rfl | rfl | rfl | rfl | rfl | rfl | rfl | rfl
  · exact h0
  · exact h1
  · exact h2
  · exact h3
  · exact h4
  · exact h5
  · exact h6
  · exact h7
  · exact h8
  · exact h9
  · exact h10
  · exact h11
  · exact h12
  · exact h13
  · exact h14
  · exact h15
  · exact h16
  · exact h17
  · exact h18
  · exact h19
  · exact h20
  · exact h21
  · exact h22
  · exact h23
  · exact h24
  · exact h25
  · exact h26
  · exact h27
  · exact h28
  · exact h29
  · exact h30
  · exact h31
  · exact h32
  · exact h33
  · exact h34
  · exact h35
  · exact h36
  · exact h37
  · exact h38
  · exact h39
  · exact h40
  · exact h41
  · exact h42
  · exact h43
  · exact h44
  · exact h45
  · exact h46
  · exact h47
  · exact h48
theorem tj_7 {P : Nat → Prop} (h0 : P 0) (h1 : P 1) (h2 : P 2) (h3 : P 3) (h4 : P 4) (h5 : P 5) (h6 : P 6) : ∀ k, k < 7 → P k := by
  intro k hk
  have h : k = 0 ∨ k = 1 ∨ k = 2 ∨ k = 3 ∨ k = 4 ∨ k = 5 ∨ k = 6 := by omega
  rcases h with rfl | rfl | rfl | rfl | rfl | rfl | rfl
  · exact h0
  · exact h1
  · exact h2
  · exact h3
  · exact h4
  · exact h5
  · exact h6
theorem tj_ph0 {x y z u v w m n r : Nat} (hx : 0 < x) (hy : 0 < y) (hz : 0 < z) (bx : x ≤ 268435456) (by_ : y ≤ 268435456) (bz : z ≤ 268435456) (r1 : u ^^^ w = r) (r2 : w ^^^ u = r) (h1 : x + z < y → m = x + z ∧ n = r) (h2 : y ≤ x + z → m = y ∧ n = v) :
    ∀ k, k < 49 → (tj_T x y z (7 * (k / 7) + 0) + tj_T x y z (7 * 0 + k % 7) < tj_T x y z k → tj_T x m z k = tj_T x y z (7 * (k / 7) + 0) + tj_T x y z (7 * 0 + k % 7) ∧ tj_V u n w k = tj_V u v w (7 * (k / 7) + 0) ^^^ tj_V u v w (7 * 0 + k % 7)) ∧ (tj_T x y z k ≤ tj_T x y z (7 * (k / 7) + 0) + tj_T x y z (7 * 0 + k % 7) → tj_T x m z k = tj_T x y z k ∧ tj_V u n w k = tj_V u v w k) := by
  apply tj_49
  all_goals (simp [tj_T, tj_V, r1, r2]; try omega)
theorem tj_st0 {x y z u v w m n r : Nat} :
    ∀ k, k < 7 → tj_T x m z (7 * k + 0) = tj_T x y z (7 * k + 0) ∧ tj_V u n w (7 * k + 0) = tj_V u v w (7 * k + 0) ∧ tj_T x m z (7 * 0 + k) = tj_T x y z (7 * 0 + k) ∧ tj_V u n w (7 * 0 + k) = tj_V u v w (7 * 0 + k) := by
  apply tj_7
  all_goals simp [tj_T, tj_V]
theorem tj_ph1 {x y z u v w m n r : Nat} (hx : 0 < x) (hy : 0 < y) (hz : 0 < z) (bx : x ≤ 268435456) (by_ : y ≤ 268435456) (bz : z ≤ 268435456) (r1 : u ^^^ v = r) (r2 : v ^^^ u = r) (h1 : x + y < z → m = x + y ∧ n = r) (h2 : z ≤ x + y → m = z ∧ n = w) :
    ∀ k, k < 49 → (tj_T x y z (7 * (k / 7) + 1) + tj_T x y z (7 * 1 + k % 7) < tj_T x y z k → tj_T x y m k = tj_T x y z (7 * (k / 7) + 1) + tj_T x y z (7 * 1 + k % 7) ∧ tj_V u v n k = tj_V u v w (7 * (k / 7) + 1) ^^^ tj_V u v w (7 * 1 + k % 7)) ∧ (tj_T x y z k ≤ tj_T x y z (7 * (k / 7) + 1) + tj_T x y z (7 * 1 + k % 7) → tj_T x y m k = tj_T x y z k ∧ tj_V u v n k = tj_V u v w k) := by
  apply tj_49
  all_goals (simp [tj_T, tj_V, r1, r2]; try omega)
theorem tj_st1 {x y z u v w m n r : Nat} :
    ∀ k, k < 7 → tj_T x y m (7 * k + 1) = tj_T x y z (7 * k + 1) ∧ tj_V u v n (7 * k + 1) = tj_V u v w (7 * k + 1) ∧ tj_T x y m (7 * 1 + k) = tj_T x y z (7 * 1 + k) ∧ tj_V u v n (7 * 1 + k) = tj_V u v w (7 * 1 + k) := by
  apply tj_7
  all_goals simp [tj_T, tj_V]
theorem tj_ph2 {x y z u v w m n r : Nat} (hx : 0 < x) (hy : 0 < y) (hz : 0 < z) (bx : x ≤ 268435456) (by_ : y ≤ 268435456) (bz : z ≤ 268435456) (r1 : w ^^^ v = r) (r2 : v ^^^ w = r) (h1 : y + z < x → m = y + z ∧ n = r) (h2 : x ≤ y + z → m = x ∧ n = u) :
    ∀ k, k < 49 → (tj_T x y z (7 * (k / 7) + 2) + tj_T x y z (7 * 2 + k % 7) < tj_T x y z k → tj_T m y z k = tj_T x y z (7 * (k / 7) + 2) + tj_T x y z (7 * 2 + k % 7) ∧ tj_V n v w k = tj_V u v w (7 * (k / 7) + 2) ^^^ tj_V u v w (7 * 2 + k % 7)) ∧ (tj_T x y z k ≤ tj_T x y z (7 * (k / 7) + 2) + tj_T x y z (7 * 2 + k % 7) → tj_T m y z k = tj_T x y z k ∧ tj_V n v w k = tj_V u v w k) := by
  apply tj_49
  all_goals (simp [tj_T, tj_V, r1, r2]; try omega)
theorem tj_st2 {x y z u v w m n r : Nat} :
    ∀ k, k < 7 → tj_T m y z (7 * k + 2) = tj_T x y z (7 * k + 2) ∧ tj_V n v w (7 * k + 2) = tj_V u v w (7 * k + 2) ∧ tj_T m y z (7 * 2 + k) = tj_T x y z (7 * 2 + k) ∧ tj_V n v w (7 * 2 + k) = tj_V u v w (7 * 2 + k) := by
  apply tj_7
  all_goals simp [tj_T, tj_V]
theorem tj_ph3 {x y z u v w m n r : Nat} (hx : 0 < x) (hy : 0 < y) (hz : 0 < z) (bx : x ≤ 268435456) (by_ : y ≤ 268435456) (bz : z ≤ 268435456) :
    ∀ k, k < 49 → (tj_T x y z (7 * (k / 7) + 3) + tj_T x y z (7 * 3 + k % 7) < tj_T x y z k → tj_T x y z k = tj_T x y z (7 * (k / 7) + 3) + tj_T x y z (7 * 3 + k % 7) ∧ tj_V u v w k = tj_V u v w (7 * (k / 7) + 3) ^^^ tj_V u v w (7 * 3 + k % 7)) ∧ (tj_T x y z k ≤ tj_T x y z (7 * (k / 7) + 3) + tj_T x y z (7 * 3 + k % 7) → tj_T x y z k = tj_T x y z k ∧ tj_V u v w k = tj_V u v w k) := by
  apply tj_49
  all_goals (simp [tj_T, tj_V]; try omega)
theorem tj_st3 {x y z u v w m n r : Nat} :
    ∀ k, k < 7 → tj_T x y z (7 * k + 3) = tj_T x y z (7 * k + 3) ∧ tj_V u v w (7 * k + 3) = tj_V u v w (7 * k + 3) ∧ tj_T x y z (7 * 3 + k) = tj_T x y z (7 * 3 + k) ∧ tj_V u v w (7 * 3 + k) = tj_V u v w (7 * 3 + k) := by
  apply tj_7
  all_goals simp [tj_T, tj_V]
theorem tj_edges {x y z : Nat} : ∀ k, k < 49 → tj_put 2 z (tj_put 14 z (tj_put 15 y (tj_put 9 y (tj_put 7 x (tj_put 1 x tj_T0))))) k = tj_T x y z k ∧ tj_put 2 4 (tj_put 14 4 (tj_put 15 2 (tj_put 9 2 (tj_put 7 1 (tj_put 1 1 tj_V0))))) k = tj_V 1 2 4 k := by
  apply tj_49
  all_goals simp [tj_T, tj_V, tj_put, tj_T0, tj_V0]
end
section
/-! findWays: the walk -/
theorem tj_take {post : St2 → Prop} {w x y z : Int32} {a1 a2 a3 a4 a5 a6 a7 a8 a9 : Nat → Int32} {k S B : Nat} {T V T2 V2 : Nat → Nat} (hk : k < 49) (hx : x = nI k) (hy : y = nI S) (hz : z = nI B) (hM : tj_M a5 a6 T V) (hT : T k < 2 ^ 31) (hS : S < 2 ^ 31)
    (h2 : ∀ j, j < 49 → ¬ j = k → T2 j = T j ∧ V2 j = V j) (h3 : S < T k → T2 k = S ∧ V2 k = B) (h4 : T k ≤ S → T2 k = T k ∧ V2 k = V k)
    (H : ∀ b5 b6 : Nat → Int32, tj_M b5 b6 T2 V2 → post (4, 3, w, a1, a2, a3, a4, b5, b6, a7, a8, a9)) :
    wpX_take post (4, 3, w, a1, a2, a3, a4, a5, a6, a7, a8, a9) x y z := by
  subst hx hy hz
  have e5 : a5 (nI k).toNatClampNeg = nI (T k) := by rw [nI_clamp (by omega)]; exact (hM k hk).1
  refine ⟨pk_in k 49 hk, pk_le (T k) S (fun z => H a5 a6 ?_) (fun z => ⟨pk_in k 49 hk, nm_r (e' := upd a5 k (nI S)) (by rw [nI_clamp (by omega)]) ⟨pk_in k 49 hk, nm_r (e' := upd a6 k (nI B)) (by rw [nI_clamp (by omega)]) (H _ _ ?_)⟩⟩) e5 rfl hT hS⟩
  · intro j hj
    by_cases e : j = k
    · subst e
      rw [(h4 z).1, (h4 z).2]
      exact hM j hj
    · rw [(h2 j hj e).1, (h2 j hj e).2]
      exact hM j hj
  · intro j hj
    by_cases e : j = k
    · subst e
      rw [(h3 z).1, (h3 z).2, pk_us, pk_us]
      exact ⟨rfl, rfl⟩
    · rw [(h2 j hj e).1, (h2 j hj e).2, pk_un e, pk_un e]
      exact hM j hj
theorem tj_phase {post : St2 → Prop} {J : Int32 → Int32 → Int32 → Int32 → (Nat → Int32) → (Nat → Int32) → (Nat → Int32) → (Nat → Int32) → (Nat → Int32) → (Nat → Int32) → (Nat → Int32) → (Nat → Int32) → (Nat → Int32) → Prop} {w : Int32} {a1 a2 a3 a4 a5 a6 a7 a8 a9 : Nat → Int32} {o : Nat} {T V T' V' : Nat → Nat} (ho : o < 7) (hb : ∀ k, T k ≤ 268435456)
    (hs : ∀ k, k < 49 → (T (7 * (k / 7) + o) + T (7 * o + k % 7) < T k → T' k = T (7 * (k / 7) + o) + T (7 * o + k % 7) ∧ V' k = V (7 * (k / 7) + o) ^^^ V (7 * o + k % 7)) ∧ (T k ≤ T (7 * (k / 7) + o) + T (7 * o + k % 7) → T' k = T k ∧ V' k = V k))
    (hr : ∀ k, k < 7 → T' (7 * k + o) = T (7 * k + o) ∧ V' (7 * k + o) = V (7 * k + o) ∧ T' (7 * o + k) = T (7 * o + k) ∧ V' (7 * o + k) = V (7 * o + k))
    (hM : tj_M a5 a6 T V) (H : ∀ b5 b6 : Nat → Int32, tj_M b5 b6 T' V' → J (nI (o + 1)) 4 3 w a1 a2 a3 a4 b5 b6 a7 a8 a9) :
    ∃ n, wX_findWays_146 post J (nI o) n 0 4 3 w a1 a2 a3 a4 a5 a6 a7 a8 a9 := by
  show ∃ n, wX_findWays_146 post J (nI o) n (nI 0) 4 3 w a1 a2 a3 a4 a5 a6 a7 a8 a9
  refine pk_loop (fun n i s => wX_findWays_146 post J (nI o) n (nI i) 4 3 w a1 a2 a3 a4 s.1 s.2 a7 a8 a9) (fun i (s : (Nat → Int32) × (Nat → Int32)) => tj_M s.1 s.2 (tj_mix i T' T) (tj_mix i V' V)) 49 0 (a5, a6) (by omega) ?_ ?_ ?_
  · intro k hk
    rw [tj_mix_ge (by omega), tj_mix_ge (by omega)]
    exact hM k hk
  · intro n s h
    refine pk_le 49 49 (fun _ => nm_r (nI_1 o) (H s.1 s.2 (fun k hk => ?_))) (fun z => absurd z (by omega))
    have hh := h k hk
    rw [tj_mix_lt hk, tj_mix_lt hk] at hh
    exact hh
  · intro n i s hi h hw
    obtain ⟨s1, s2⟩ := s
    have h' : tj_M s1 s2 (tj_mix i T' T) (tj_mix i V' V) := h
    have hf : 7 * (i / 7) + o < 49 := by omega
    have hg : 7 * o + i % 7 < 49 := by omega
    have stf : tj_mix i T' T (7 * (i / 7) + o) = T (7 * (i / 7) + o) ∧ tj_mix i V' V (7 * (i / 7) + o) = V (7 * (i / 7) + o) := by
      have hq := hr (i / 7) (by omega)
      by_cases e : 7 * (i / 7) + o < i
      · rw [tj_mix_lt e, tj_mix_lt e]; exact ⟨hq.1, hq.2.1⟩
      · rw [tj_mix_ge e, tj_mix_ge e]; exact ⟨rfl, rfl⟩
    have stg : tj_mix i T' T (7 * o + i % 7) = T (7 * o + i % 7) ∧ tj_mix i V' V (7 * o + i % 7) = V (7 * o + i % 7) := by
      have hq := hr (i % 7) (by omega)
      by_cases e : 7 * o + i % 7 < i
      · rw [tj_mix_lt e, tj_mix_lt e]; exact ⟨hq.2.2.1, hq.2.2.2⟩
      · rw [tj_mix_ge e, tj_mix_ge e]; exact ⟨rfl, rfl⟩
    have ef : 7 * (nI i / 7) + nI o = nI (7 * (i / 7) + o) := by
      rw [show (7 : Int32) = nI 7 from rfl, pk_div (by omega) (by omega) (by omega), pk_mul, nI_add]
    have eg : 7 * nI o + (nI i - nI i / 7 * 7) = nI (7 * o + i % 7) := by
      rw [show (7 : Int32) = nI 7 from rfl, pk_rem (by omega) (by omega) (by omega), pk_mul, nI_add]
    have vf := h' _ hf
    have vg := h' _ hg
    rw [stf.1, stf.2] at vf
    rw [stg.1, stg.2] at vg
    have bf := hb (7 * (i / 7) + o)
    have bg := hb (7 * o + i % 7)
    have bi := hb i
    have mi : tj_mix i T' T i = T i := tj_mix_ge (by omega)
    have mv : tj_mix i V' V i = V i := tj_mix_ge (by omega)
    refine pk_le 49 i (fun z => absurd z (by omega)) (fun _ => ⟨by decide, nm_r ef ⟨by decide, nm_r eg ⟨pk_in _ 49 hf, pk_in _ 49 hg, pk_in _ 49 hf, pk_in _ 49 hg, ?_⟩⟩⟩)
    refine tj_take (k := i) (S := T (7 * (i / 7) + o) + T (7 * o + i % 7)) (B := V (7 * (i / 7) + o) ^^^ V (7 * o + i % 7)) (T := tj_mix i T' T) (V := tj_mix i V' V) (T2 := tj_mix (i + 1) T' T) (V2 := tj_mix (i + 1) V' V) hi rfl ?_ ?_ h' (by rw [mi]; omega) (by omega) ?_ ?_ ?_ (fun b5 b6 hB => ?_)
    · rw [nI_clamp (by omega), nI_clamp (by omega)]
      show s1 (7 * (i / 7) + o) + s1 (7 * o + i % 7) = nI (T (7 * (i / 7) + o) + T (7 * o + i % 7))
      rw [vf.1, vg.1, nI_add]
    · rw [nI_clamp (by omega), nI_clamp (by omega)]
      show s2 (7 * (i / 7) + o) ^^^ s2 (7 * o + i % 7) = nI (V (7 * (i / 7) + o) ^^^ V (7 * o + i % 7))
      rw [vf.2, vg.2, tj_xor]
    · intro j hj hne
      by_cases e : j < i
      · rw [tj_mix_lt e, tj_mix_lt e, tj_mix_lt (by omega), tj_mix_lt (by omega)]
        exact ⟨rfl, rfl⟩
      · rw [tj_mix_ge e, tj_mix_ge e, tj_mix_ge (by omega), tj_mix_ge (by omega)]
        exact ⟨rfl, rfl⟩
    · intro hlt
      rw [mi] at hlt
      rw [tj_mix_lt (by omega), tj_mix_lt (by omega)]
      exact (hs i hi).1 hlt
    · intro hle
      rw [mi] at hle
      rw [mi, mv, tj_mix_lt (by omega), tj_mix_lt (by omega)]
      exact (hs i hi).2 hle
    · show ∀ x : Int32, x = nI i + 1 → wX_findWays_146 post J (nI o) n x 4 3 w a1 a2 a3 a4 b5 b6 a7 a8 a9
      exact nm_r (nI_1 i) (hw (b5, b6) hB)
theorem tj_fw79 {post : St2 → Prop} {J : Int32 → Int32 → Int32 → Int32 → (Nat → Int32) → (Nat → Int32) → (Nat → Int32) → (Nat → Int32) → (Nat → Int32) → (Nat → Int32) → (Nat → Int32) → (Nat → Int32) → (Nat → Int32) → Prop} {w z0 : Int32} {a1 a2 a3 a4 a5 a6 a7 a8 a9 : Nat → Int32} {e X B : Nat} {T V : Nat → Nat} (he : e < 3) (hE : tj_E a1 a2) (hz : z0 = nI X) (hX : X < 268435456) (hB : tj_one e = nI B)
    (hT1 : T (7 * e + (e + 1) % 3) = 268435456) (hT2 : T (7 * ((e + 1) % 3) + e) = 268435456) (hM : tj_M a5 a6 T V)
    (H : ∀ b5 b6 : Nat → Int32, tj_M b5 b6 (tj_put (7 * ((e + 1) % 3) + e) X (tj_put (7 * e + (e + 1) % 3) X T)) (tj_put (7 * ((e + 1) % 3) + e) B (tj_put (7 * e + (e + 1) % 3) B V)) → J (nI (e + 1)) 4 3 w a1 a2 a3 a4 b5 b6 a7 a8 a9) :
    wX_findWays_79 post J (nI e) z0 4 3 w a1 a2 a3 a4 a5 a6 a7 a8 a9 := by
  have e1 : a1 (nI e).toNatClampNeg = nI e := by rw [nI_clamp (by omega)]; exact (hE e he).1
  have e2 : a2 (nI e).toNatClampNeg = nI ((e + 1) % 3) := by rw [nI_clamp (by omega)]; exact (hE e he).2
  have k12 : ¬ 7 * ((e + 1) % 3) + e = 7 * e + (e + 1) % 3 := by omega
  have k1 : 7 * e + (e + 1) % 3 < 49 := by omega
  have k2 : 7 * ((e + 1) % 3) + e < 49 := by omega
  refine ⟨pk_in e 12 (by omega), pk_in e 12 (by omega), ?_⟩
  refine tj_take (k := 7 * e + (e + 1) % 3) (S := X) (B := B) (T := T) (V := V) (T2 := tj_put (7 * e + (e + 1) % 3) X T) (V2 := tj_put (7 * e + (e + 1) % 3) B V) k1 ?_ hz hB hM (by omega) (by omega) ?_ ?_ ?_ (fun b5 b6 hb => ?_)
  · rw [e1, e2, show (7 : Int32) = nI 7 from rfl, pk_mul, nI_add]
  · intro j _ hj
    exact ⟨tj_put_n hj, tj_put_n hj⟩
  · intro _
    exact ⟨tj_put_s, tj_put_s⟩
  · intro z
    exact absurd z (by omega)
  · show vp_in (nI e) 12 ∧ (vp_in (nI e) 12 ∧ wpX_take _ (4, 3, w, a1, a2, a3, a4, b5, b6, a7, a8, a9) (7 * a2 (nI e).toNatClampNeg + a1 (nI e).toNatClampNeg) z0 (tj_one e))
    refine ⟨pk_in e 12 (by omega), pk_in e 12 (by omega), ?_⟩
    refine tj_take (k := 7 * ((e + 1) % 3) + e) (S := X) (B := B) (T := tj_put (7 * e + (e + 1) % 3) X T) (V := tj_put (7 * e + (e + 1) % 3) B V) (T2 := tj_put (7 * ((e + 1) % 3) + e) X (tj_put (7 * e + (e + 1) % 3) X T)) (V2 := tj_put (7 * ((e + 1) % 3) + e) B (tj_put (7 * e + (e + 1) % 3) B V)) k2 ?_ hz hB hb ?_ (by omega) ?_ ?_ ?_ (fun c5 c6 hc => ?_)
    · rw [e1, e2, show (7 : Int32) = nI 7 from rfl, pk_mul, nI_add]
    · rw [tj_put_n k12]; omega
    · intro j _ hj
      exact ⟨tj_put_n hj, tj_put_n hj⟩
    · intro _
      exact ⟨tj_put_s, tj_put_s⟩
    · intro z
      rw [tj_put_n k12] at z
      exact absurd z (by omega)
    · show ∀ x : Int32, x = nI e + 1 → J x 4 3 w a1 a2 a3 a4 c5 c6 a7 a8 a9
      exact nm_r (nI_1 e) (H c5 c6 hc)
theorem tj_fw46s {post : St2 → Prop} {n : Nat} {w : Int32} {a1 a2 a3 a4 a5 a6 a7 a8 a9 : Nat → Int32} {e X B : Nat} {T V : Nat → Nat} (he : e < 3) (hE : tj_E a1 a2) (hp : 0 ≤ a4 e → a4 e = nI X) (hn : ¬ 0 ≤ a4 e → -(a4 e) = nI X) (hX : X < 268435456) (hB : tj_one e = nI B)
    (hT1 : T (7 * e + (e + 1) % 3) = 268435456) (hT2 : T (7 * ((e + 1) % 3) + e) = 268435456) (hM : tj_M a5 a6 T V)
    (H : ∀ b5 b6 : Nat → Int32, tj_M b5 b6 (tj_put (7 * ((e + 1) % 3) + e) X (tj_put (7 * e + (e + 1) % 3) X T)) (tj_put (7 * ((e + 1) % 3) + e) B (tj_put (7 * e + (e + 1) % 3) B V)) → wX_findWays_46 post n (nI (e + 1)) 4 3 w a1 a2 a3 a4 b5 b6 a7 a8 a9) :
    wX_findWays_46 post (n + 1) (nI e) 4 3 w a1 a2 a3 a4 a5 a6 a7 a8 a9 := by
  have e4 : a4 (nI e).toNatClampNeg = a4 e := by rw [nI_clamp (by omega)]
  refine pk_le 3 e (fun z => absurd z (by omega)) (fun _ => ⟨pk_in e 12 (by omega), br_c (fun g => ⟨pk_in e 12 (by omega), ?_⟩) (fun g => ⟨pk_in e 12 (by omega), ?_⟩)⟩)
  · rw [e4] at g
    exact tj_fw79 he hE (by rw [e4]; exact hp g) hX hB hT1 hT2 hM H
  · rw [e4] at g
    exact tj_fw79 he hE (by rw [e4]; exact hn g) hX hB hT1 hT2 hM H
/-- what is asked of a cost: its size, as a natural number -/
def tj_C (a4 : Nat → Int32) (x y z : Nat) : Prop := ((0 ≤ a4 0 → a4 0 = nI x) ∧ (¬ 0 ≤ a4 0 → -(a4 0) = nI x)) ∧ ((0 ≤ a4 1 → a4 1 = nI y) ∧ (¬ 0 ≤ a4 1 → -(a4 1) = nI y)) ∧ ((0 ≤ a4 2 → a4 2 = nI z) ∧ (¬ 0 ≤ a4 2 → -(a4 2) = nI z))
theorem tj_fw46 {post : St2 → Prop} {w : Int32} {a1 a2 a3 a4 a5 a6 a7 a8 a9 : Nat → Int32} {x y z : Nat} (hE : tj_E a1 a2) (hC : tj_C a4 x y z) (hx : x < 268435456) (hy : y < 268435456) (hz : z < 268435456) (hM : tj_M a5 a6 tj_T0 tj_V0)
    (H : ∀ b5 b6 : Nat → Int32, tj_M b5 b6 (tj_T x y z) (tj_V 1 2 4) → ∃ n, wX_findWays_136 post n 0 4 3 w a1 a2 a3 a4 b5 b6 a7 a8 a9) :
    ∃ n, wX_findWays_46 post n 0 4 3 w a1 a2 a3 a4 a5 a6 a7 a8 a9 := by
  obtain ⟨⟨c0, d0⟩, ⟨c1, d1⟩, ⟨c2, d2⟩⟩ := hC
  refine ⟨4, ?_⟩
  refine tj_fw46s (e := 0) (X := x) (B := 1) (T := tj_T0) (V := tj_V0) (n := 3) (by omega) hE c0 d0 hx (by decide) (by decide) (by decide) hM (fun b5 b6 h1 => ?_)
  refine tj_fw46s (e := 1) (X := y) (B := 2) (n := 2) (by omega) hE c1 d1 hy (by decide) rfl rfl h1 (fun c5 c6 h2 => ?_)
  refine tj_fw46s (e := 2) (X := z) (B := 4) (n := 1) (by omega) hE c2 d2 hz (by decide) rfl rfl h2 (fun d5 d6 h3 => ?_)
  exact pk_le 3 3 (fun _ => H d5 d6 (tj_M_conv tj_edges h3)) (fun z => absurd z (by omega))
theorem tj_fw136 {post : St2 → Prop} {w : Int32} {a1 a2 a3 a4 a5 a6 a7 a8 a9 : Nat → Int32} {x y z : Nat} (hx : 0 < x) (hy : 0 < y) (hz : 0 < z) (bx : x < 268435456) (bY : y < 268435456) (bz : z < 268435456) (hM : tj_M a5 a6 (tj_T x y z) (tj_V 1 2 4))
    (H : ∀ (b5 b6 : Nat → Int32) (p q r : Nat), p < 268435456 → q < 268435456 → r < 268435456 → tj_M b5 b6 (tj_T p q r) (tj_V (if y + z < x then 6 else 1) (if x + z < y then 5 else 2) (if x + y < z then 3 else 4)) → post (4, 3, w, a1, a2, a3, a4, b5, b6, a7, a8, a9)) :
    ∃ n, wX_findWays_136 post n 0 4 3 w a1 a2 a3 a4 a5 a6 a7 a8 a9 := by
  -- the values behind the phases
  have p0 : ∃ m n : Nat, (x + z < y → m = x + z ∧ n = 5) ∧ (y ≤ x + z → m = y ∧ n = 2) ∧ 0 < m ∧ m < 268435456 := by
    by_cases c : x + z < y
    · exact ⟨x + z, 5, fun _ => ⟨rfl, rfl⟩, fun d => absurd d (by omega), by omega, by omega⟩
    · exact ⟨y, 2, fun d => absurd d c, fun _ => ⟨rfl, rfl⟩, hy, bY⟩
  obtain ⟨m, v, m1, m2, m3, m4⟩ := p0
  have p1 : ∃ q n : Nat, (x + m < z → q = x + m ∧ n = 1 ^^^ v) ∧ (z ≤ x + m → q = z ∧ n = 4) ∧ 0 < q ∧ q < 268435456 := by
    by_cases c : x + m < z
    · exact ⟨x + m, 1 ^^^ v, fun _ => ⟨rfl, rfl⟩, fun d => absurd d (by omega), by omega, by omega⟩
    · exact ⟨z, 4, fun d => absurd d c, fun _ => ⟨rfl, rfl⟩, hz, bz⟩
  obtain ⟨q, u, q1, q2, q3, q4⟩ := p1
  have p2 : ∃ p n : Nat, (m + q < x → p = m + q ∧ n = v ^^^ u) ∧ (x ≤ m + q → p = x ∧ n = 1) ∧ 0 < p ∧ p < 268435456 := by
    by_cases c : m + q < x
    · exact ⟨m + q, v ^^^ u, fun _ => ⟨rfl, rfl⟩, fun d => absurd d (by omega), by omega, by omega⟩
    · exact ⟨x, 1, fun d => absurd d c, fun _ => ⟨rfl, rfl⟩, hx, bx⟩
  obtain ⟨p, t, t1, t2, t3, t4⟩ := p2
  have ev : v = if x + z < y then 5 else 2 := by
    by_cases c : x + z < y
    · rw [if_pos c]; exact (m1 c).2
    · rw [if_neg c]; exact (m2 (by omega)).2
  have eu : u = if x + y < z then 3 else 4 := by
    by_cases c : x + y < z
    · have hm := m2 (by omega)
      rw [if_pos c, (q1 (by omega)).2, hm.2]
      rfl
    · have hc : z ≤ x + m := by
        by_cases d : x + z < y
        · have := (m1 d).1; omega
        · have := (m2 (by omega)).1; omega
      rw [if_neg c]; exact (q2 hc).2
  have et : t = if y + z < x then 6 else 1 := by
    by_cases c : y + z < x
    · have hm := m2 (by omega)
      have hq := q2 (by omega)
      rw [if_pos c, (t1 (by omega)).2, hm.2, hq.2]
      rfl
    · have hc : x ≤ m + q := by
        by_cases d : x + z < y
        · have := (m1 d).1; omega
        · have hm := (m2 (by omega)).1
          by_cases d' : x + m < z
          · have := (q1 d').1; omega
          · have := (q2 (by omega)).1; omega
      rw [if_neg c]; exact (t2 hc).2
  have r1 : ∀ a b : Nat, a ^^^ b = b ^^^ a := fun a b => Nat.xor_comm a b
  refine ⟨5, pk_le 4 0 (fun z => absurd z (by omega)) (fun _ => ?_)⟩
  refine tj_phase (o := 0) (T' := tj_T x m z) (V' := tj_V 1 v 4) (by omega) (tj_T_le (by omega) (by omega) (by omega)) (tj_ph0 (r := 5) hx hy hz (by omega) (by omega) (by omega) rfl rfl m1 m2) (tj_st0 (y := y) (v := 2) (m := m) (n := v) (r := 0)) hM (fun b5 b6 h1 => ?_)
  refine pk_le 4 1 (fun z => absurd z (by omega)) (fun _ => ?_)
  refine tj_phase (o := 1) (T' := tj_T x m q) (V' := tj_V 1 v u) (by omega) (tj_T_le (by omega) (by omega) (by omega)) (tj_ph1 (r := 1 ^^^ v) hx m3 hz (by omega) (by omega) (by omega) rfl (r1 _ _) q1 q2) (tj_st1 (z := z) (w := 4) (m := q) (n := u) (r := 0)) h1 (fun c5 c6 h2 => ?_)
  refine pk_le 4 2 (fun z => absurd z (by omega)) (fun _ => ?_)
  refine tj_phase (o := 2) (T' := tj_T p m q) (V' := tj_V t v u) (by omega) (tj_T_le (by omega) (by omega) (by omega)) (tj_ph2 (r := v ^^^ u) hx m3 q3 (by omega) (by omega) (by omega) (r1 _ _) rfl t1 t2) (tj_st2 (x := x) (u := 1) (m := p) (n := t) (r := 0)) h2 (fun d5 d6 h3 => ?_)
  refine pk_le 4 3 (fun z => absurd z (by omega)) (fun _ => ?_)
  refine tj_phase (o := 3) (T' := tj_T p m q) (V' := tj_V t v u) (by omega) (tj_T_le (by omega) (by omega) (by omega)) (tj_ph3 (m := 0) (n := 0) (r := 0) t3 m3 q3 (by omega) (by omega) (by omega)) (tj_st3 (m := 0) (n := 0) (r := 0)) h3 (fun e5 e6 h4 => ?_)
  refine pk_le 4 4 (fun _ => H e5 e6 p m q t4 m4 q4 ?_) (fun z => absurd z (by omega))
  rw [← ev, ← eu, ← et]
  exact h4
theorem tj_findWays {post : St2 → Prop} {w : Int32} {a1 a2 a3 a4 a5 a6 a7 a8 a9 : Nat → Int32} {x y z : Nat} (hE : tj_E a1 a2) (hC : tj_C a4 x y z) (hx : 0 < x) (hy : 0 < y) (hz : 0 < z) (bx : x < 268435456) (bY : y < 268435456) (bz : z < 268435456)
    (H : ∀ (b5 b6 : Nat → Int32) (p q r : Nat), p < 268435456 → q < 268435456 → r < 268435456 → tj_M b5 b6 (tj_T p q r) (tj_V (if y + z < x then 6 else 1) (if x + z < y then 5 else 2) (if x + y < z then 3 else 4)) → post (4, 3, w, a1, a2, a3, a4, b5, b6, a7, a8, a9)) :
    wpX_findWays post (4, 3, w, a1, a2, a3, a4, a5, a6, a7, a8, a9) := by
  show ∃ n, wX_findWays_2 post 4 3 w n (nI 0) a1 a2 a3 a4 a5 a6 a7 a8 a9
  refine pk_loop (fun n i s => wX_findWays_2 post 4 3 w n (nI i) a1 a2 a3 a4 s.1 s.2 a7 a8 a9) (fun i (s : (Nat → Int32) × (Nat → Int32)) => (∀ j, j < i → s.1 j = nI (tj_T0 j)) ∧ (∀ j, j < i → s.2 j = nI 0)) 49 0 (a5, a6) (by omega) ⟨fun j hj => absurd hj (by omega), fun j hj => absurd hj (by omega)⟩ ?_ ?_
  · intro n s h
    refine pk_le 49 49 (fun _ => ?_) (fun z => absurd z (by omega))
    exact tj_fw46 hE hC bx bY bz (fun k hk => ⟨h.1 k hk, h.2 k hk⟩) (fun b5 b6 hM => tj_fw136 hx hy hz bx bY bz hM H)
  · intro n i s hi h hw
    obtain ⟨s1, s2⟩ := s
    have h1 : ∀ j, j < i → s1 j = nI (tj_T0 j) := h.1
    have h2 : ∀ j, j < i → s2 j = nI 0 := h.2
    have ed : nI i / 7 = nI (i / 7) := by
      rw [show (7 : Int32) = nI 7 from rfl, pk_div (by omega) (by omega) (by omega)]
    have er : nI i - nI i / 7 * 7 = nI (i % 7) := by
      rw [show (7 : Int32) = nI 7 from rfl, pk_rem (by omega) (by omega) (by omega)]
    refine pk_le 49 i (fun z => absurd z (by omega)) (fun _ => ⟨by decide, by decide, pk_eq (i / 7) (i % 7) (fun g => ?_) (fun g => ?_) ed er (by omega) (by omega)⟩)
    · refine ⟨pk_in i 49 hi, nm_r (e' := upd s1 i (nI 0)) (by rw [nI_clamp (by omega)]; rfl) ⟨pk_in i 49 hi, nm_r (e' := upd s2 i (nI 0)) (by rw [nI_clamp (by omega)]; rfl) (nm_r (nI_1 i) (hw (upd s1 i (nI 0), upd s2 i (nI 0)) ⟨?_, ?_⟩))⟩⟩
      · exact tj_fill (f := fun j => nI (tj_T0 j)) h1 (by show nI 0 = nI (tj_T0 i); rw [tj_T0, if_pos g])
      · exact tj_fill (f := fun _ => nI 0) h2 rfl
    · refine ⟨pk_in i 49 hi, nm_r (e' := upd s1 i (nI 268435456)) (by rw [nI_clamp (by omega)]; rfl) ⟨pk_in i 49 hi, nm_r (e' := upd s2 i (nI 0)) (by rw [nI_clamp (by omega)]; rfl) (nm_r (nI_1 i) (hw (upd s1 i (nI 268435456), upd s2 i (nI 0)) ⟨?_, ?_⟩))⟩⟩
      · exact tj_fill (f := fun j => nI (tj_T0 j)) h1 (by show nI 268435456 = nI (tj_T0 i); rw [tj_T0, if_neg g])
      · exact tj_fill (f := fun _ => nI 0) h2 rfl
end
section
/-! pairUp -/
theorem tj_top {post : St2 → Prop} {J : Int32 → Int32 → Int32 → Int32 → (Nat → Int32) → (Nat → Int32) → (Nat → Int32) → (Nat → Int32) → (Nat → Int32) → (Nat → Int32) → (Nat → Int32) → (Nat → Int32) → (Nat → Int32) → Prop} {x1 x2 w : Int32} {a1 a2 a3 a4 a5 a6 a7 a8 a9 : Nat → Int32} {t : Nat} (ht : t ≤ 6) (hz : ∀ j, j < 7 → t < j → tj_bit x2 j = 0) (h1 : ¬ tj_bit x2 t = 0)
    (H : ∃ n, wX_pairUp_64 post J x1 x2 (nI t) n 0 4 3 w a1 a2 a3 a4 a5 a6 a7 a8 a9) :
    ∃ n, wX_pairUp_47 post J x1 x2 4 3 w a1 a2 a3 a4 a5 a6 a7 a8 a9 n 6 := by
  have key : ∀ d, t + d ≤ 6 → wX_pairUp_47 post J x1 x2 4 3 w a1 a2 a3 a4 a5 a6 a7 a8 a9 (d + 1) (nI (t + d)) := by
    intro d
    induction d with
    | zero => intro _; exact br_f h1 H
    | succ d ih => intro hd; exact br_t (hz (t + d + 1) (by omega) (by omega)) (nm_r (pk_m1 (t + d)) (ih (by omega)))
  have k := key (6 - t) (by omega)
  rw [show t + (6 - t) = 6 by omega] at k
  exact ⟨_, k⟩
theorem tj_none {post : St2 → Prop} {J : Int32 → Int32 → Int32 → Int32 → (Nat → Int32) → (Nat → Int32) → (Nat → Int32) → (Nat → Int32) → (Nat → Int32) → (Nat → Int32) → (Nat → Int32) → (Nat → Int32) → (Nat → Int32) → Prop} {x1 x2 x2' w : Int32} {a1 a2 a3 a4 a5 a6 a7 a8 a9 : Nat → Int32} {t : Nat} (ht : t ≤ 6) (hz : ∀ j, j < t → ¬ tj_bit x2 j = 1) (hx : x2 + 1 = x2')
    (H : J x2' 4 3 w a1 a2 a3 a4 a5 a6 a7 a8 a9) :
    ∃ n, wX_pairUp_64 post J x1 x2 (nI t) n 0 4 3 w a1 a2 a3 a4 a5 a6 a7 a8 a9 := by
  show ∃ n, wX_pairUp_64 post J x1 x2 (nI t) n (nI 0) 4 3 w a1 a2 a3 a4 a5 a6 a7 a8 a9
  refine pk_loop (σ := Unit) (fun n i _ => wX_pairUp_64 post J x1 x2 (nI t) n (nI i) 4 3 w a1 a2 a3 a4 a5 a6 a7 a8 a9) (fun _ _ => True) t 0 () (by omega) trivial ?_ ?_
  · intro n _ _
    exact pk_le t t (fun _ => nm_r hx H) (fun z => absurd z (by omega))
  · intro n i _ hi _ hw
    exact pk_le t i (fun z => absurd z (by omega)) (fun _ => br_f (hz i hi) (nm_r (nI_1 i) (hw () trivial)))
theorem tj_pair {post : St2 → Prop} {w : Int32} {a1 a2 a3 a4 a5 a6 a7 a8 a9 : Nat → Int32} {g t b F : Nat} (hr : (nI g &&& (tj_one t ^^^ (-1))) &&& (tj_one b ^^^ (-1)) = 0) (hg : g < 128) (hk : 7 * t + b < 49) (h5 : a5 (7 * t + b) = nI F) (hF : F < 268435456) (h7 : a7 0 = nI 0) (h8 : a8 0 = 0) (hs : a7 g = nI 268435456)
    (H : post (4, 3, w, a1, a2, a3, a4, a5, a6, upd a7 g (nI F), upd a8 g (a6 (7 * t + b)), a9)) :
    wpX_pair post (4, 3, w, a1, a2, a3, a4, a5, a6, a7, a8, a9) (nI g) (nI t) (nI b) := by
  have ek : 7 * nI t + nI b = nI (7 * t + b) := by
    rw [show (7 : Int32) = nI 7 from rfl, pk_mul, nI_add]
  have c5 : a5 (nI (7 * t + b)).toNatClampNeg = nI F := by rw [nI_clamp (by omega)]; exact h5
  have c7 : a7 (nI 0).toNatClampNeg = nI 0 := by rw [nI_clamp (by omega)]; exact h7
  have c8 : a8 (nI 0).toNatClampNeg = 0 := by rw [nI_clamp (by omega)]; exact h8
  have cs : a7 (nI g).toNatClampNeg = nI 268435456 := by rw [nI_clamp (by omega)]; exact hs
  have sm : a7 (nI 0).toNatClampNeg + a5 (nI (7 * t + b)).toNatClampNeg = nI F := by
    rw [c7, c5, nI_add, Nat.zero_add]
  have i5 : vp_in (nI (7 * t + b)) 49 := pk_in _ 49 hk
  have i0 : vp_in (nI 0) 128 := pk_in 0 128 (by omega)
  have ig : vp_in (nI g) 128 := pk_in g 128 hg
  refine nm_r (e' := nI 0) hr (nm_r (e' := nI (7 * t + b)) ek ⟨i5, ?_⟩)
  refine pk_le 268435456 F (fun z => absurd z (by omega)) (fun _ => ⟨i0, ?_⟩) rfl c5 (by omega) (by omega)
  refine pk_le 268435456 0 (fun z => absurd z (by omega)) (fun _ => ⟨i0, i5, ig, ?_⟩) rfl c7 (by omega) (by omega)
  refine pk_le 268435456 F (fun z => absurd z (by omega)) (fun _ => ⟨i0, i5, ig, ?_⟩) cs sm (by omega) (by omega)
  refine nm_r (e' := upd a7 g (nI F)) (by rw [sm, nI_clamp (show g < 2 ^ 31 by omega)]) ⟨i0, i5, ig, nm_r (e' := upd a8 g (a6 (7 * t + b))) ?_ H⟩
  rw [c8, nI_clamp (show g < 2 ^ 31 by omega), nI_clamp (show 7 * t + b < 2 ^ 31 by omega), Int32.zero_xor]
theorem tj_onep {post : St2 → Prop} {J : Int32 → Int32 → Int32 → Int32 → (Nat → Int32) → (Nat → Int32) → (Nat → Int32) → (Nat → Int32) → (Nat → Int32) → (Nat → Int32) → (Nat → Int32) → (Nat → Int32) → (Nat → Int32) → Prop} {x1 w : Int32} {a1 a2 a3 a4 a5 a6 a7 a8 a9 : Nat → Int32} {g t b F : Nat} (ht : t ≤ 6) (hb : b < t) (h1 : tj_bit (nI g) b = 1) (hz : ∀ j, j < t → ¬ j = b → ¬ tj_bit (nI g) j = 1)
    (hr : (nI g &&& (tj_one t ^^^ (-1))) &&& (tj_one b ^^^ (-1)) = 0) (hg : g < 128) (h5 : a5 (7 * t + b) = nI F) (hF : F < 268435456) (h7 : a7 0 = nI 0) (h8 : a8 0 = 0) (hs : a7 g = nI 268435456)
    (H : J (nI (g + 1)) 4 3 w a1 a2 a3 a4 a5 a6 (upd a7 g (nI F)) (upd a8 g (a6 (7 * t + b))) a9) :
    ∃ n, wX_pairUp_64 post J x1 (nI g) (nI t) n 0 4 3 w a1 a2 a3 a4 a5 a6 a7 a8 a9 := by
  show ∃ n, wX_pairUp_64 post J x1 (nI g) (nI t) n (nI 0) 4 3 w a1 a2 a3 a4 a5 a6 a7 a8 a9
  refine pk_loop (fun n i s => wX_pairUp_64 post J x1 (nI g) (nI t) n (nI i) 4 3 w a1 a2 a3 a4 a5 a6 s.1 s.2 a9) (fun i (s : (Nat → Int32) × (Nat → Int32)) => (i ≤ b → s = (a7, a8)) ∧ (b < i → s = (upd a7 g (nI F), upd a8 g (a6 (7 * t + b))))) t 0 (a7, a8) (by omega) ⟨fun _ => rfl, fun z => absurd z (by omega)⟩ ?_ ?_
  · intro n s h
    have e := h.2 hb
    subst e
    exact pk_le t t (fun _ => nm_r (nI_1 g) H) (fun z => absurd z (by omega))
  · intro n i s hi h hw
    refine pk_le t i (fun z => absurd z (by omega)) (fun _ => ?_)
    by_cases e : i = b
    · subst e
      have es := h.1 (by omega)
      subst es
      refine br_t h1 (tj_pair hr hg (by omega) h5 hF h7 h8 hs ?_)
      show ∀ x : Int32, x = nI i + 1 → wX_pairUp_64 post J x1 (nI g) (nI t) n x 4 3 w a1 a2 a3 a4 a5 a6 (upd a7 g (nI F)) (upd a8 g (a6 (7 * t + i))) a9
      exact nm_r (nI_1 i) (hw (upd a7 g (nI F), upd a8 g (a6 (7 * t + i))) ⟨fun z => absurd z (by omega), fun _ => rfl⟩)
    · refine br_f (hz i hi e) (nm_r (nI_1 i) (hw s ⟨fun z => h.1 (by omega), fun z => h.2 (by omega)⟩))
def tj_tp (i : Nat) : Nat := if i = 4 then 2 else if i = 2 then 1 else 0
def tj_G (g t b : Nat) : Prop := (∀ j, j < 7 → t < j → tj_bit (nI g) j = 0) ∧ ¬ tj_bit (nI g) t = 0 ∧ tj_bit (nI g) b = 1 ∧ (∀ j, j < t → ¬ j = b → ¬ tj_bit (nI g) j = 1) ∧ (nI g &&& (tj_one t ^^^ (-1))) &&& (tj_one b ^^^ (-1)) = 0 ∧ (nI g &&& (nI g ^^^ (-1))) = 0 ∧ (∀ i, i < g → 0 < i → (nI i &&& (nI g ^^^ (-1))) = 0 → (∀ j, j < 7 → tj_tp i < j → tj_bit (nI i) j = 0) ∧ ¬ tj_bit (nI i) (tj_tp i) = 0 ∧ (∀ j, j < tj_tp i → ¬ tj_bit (nI i) j = 1))
theorem tj_G3 : tj_G 3 1 0 := by
  refine ⟨by decide +kernel, by decide +kernel, by decide +kernel, by decide +kernel, by decide +kernel, by decide +kernel, (lt_s (lt_s (lt_s lt_0 ?_) ?_) ?_)⟩
  all_goals (intro h0 hc; first | exact absurd h0 (by decide) | exact absurd hc (by decide +kernel) | exact ⟨by decide +kernel, by decide +kernel, by decide +kernel⟩)
theorem tj_G5 : tj_G 5 2 0 := by
  refine ⟨by decide +kernel, by decide +kernel, by decide +kernel, by decide +kernel, by decide +kernel, by decide +kernel, (lt_s (lt_s (lt_s (lt_s (lt_s lt_0 ?_) ?_) ?_) ?_) ?_)⟩
  all_goals (intro h0 hc; first | exact absurd h0 (by decide) | exact absurd hc (by decide +kernel) | exact ⟨by decide +kernel, by decide +kernel, by decide +kernel⟩)
theorem tj_G6 : tj_G 6 2 1 := by
  refine ⟨by decide +kernel, by decide +kernel, by decide +kernel, by decide +kernel, by decide +kernel, by decide +kernel, (lt_s (lt_s (lt_s (lt_s (lt_s (lt_s lt_0 ?_) ?_) ?_) ?_) ?_) ?_)⟩
  all_goals (intro h0 hc; first | exact absurd h0 (by decide) | exact absurd hc (by decide +kernel) | exact ⟨by decide +kernel, by decide +kernel, by decide +kernel⟩)
theorem tj_tp_le (i : Nat) : tj_tp i ≤ 6 := by
  unfold tj_tp
  repeat' split
  all_goals omega
theorem tj_pairUp0 {post : St2 → Prop} {w : Int32} {a1 a2 a3 a4 a5 a6 a7 a8 a9 : Nat → Int32}
    (H : ∀ b7 b8 : Nat → Int32, b8 0 = 0 → post (4, 3, w, a1, a2, a3, a4, a5, a6, b7, b8, a9)) :
    wpX_pairUp post (4, 3, w, a1, a2, a3, a4, a5, a6, a7, a8, a9) 0 := by
  refine nm_e (nm_e ⟨1, br_t (by decide) (H _ _ ?_)⟩)
  exact pk_us
theorem tj_pairUp {post : St2 → Prop} {w : Int32} {a1 a2 a3 a4 a5 a6 a7 a8 a9 : Nat → Int32} {g t b F : Nat} (hG : tj_G g t b) (hg0 : 0 < g) (hg : g < 128) (ht : t ≤ 6) (hb : b < t) (h5 : a5 (7 * t + b) = nI F) (hF : F < 268435456)
    (H : ∀ b7 b8 : Nat → Int32, b8 g = a6 (7 * t + b) → post (4, 3, w, a1, a2, a3, a4, a5, a6, b7, b8, a9)) :
    wpX_pairUp post (4, 3, w, a1, a2, a3, a4, a5, a6, a7, a8, a9) (nI g) := by
  obtain ⟨g1, g2, g3, g4, g5, g6, g7⟩ := hG
  refine nm_e (nm_e ?_)
  show ∃ n, wX_pairUp_16 post (nI g) n (nI 1) 4 3 w a1 a2 a3 a4 a5 a6 (upd a7 0 0) (upd a8 0 0) a9
  refine pk_loop (fun n i s => wX_pairUp_16 post (nI g) n (nI i) 4 3 w a1 a2 a3 a4 a5 a6 s.1 s.2 a9) (fun i (s : (Nat → Int32) × (Nat → Int32)) => 0 < i ∧ s.1 0 = nI 0 ∧ s.2 0 = 0 ∧ (g < i → s.2 g = a6 (7 * t + b))) (g + 1) 1 (upd a7 0 0, upd a8 0 0) (by omega) ⟨by omega, (show upd a7 0 0 0 = nI 0 from pk_us), (show upd a8 0 0 0 = 0 from pk_us), fun z => absurd z (by omega)⟩ ?_ ?_
  · intro n s h
    exact pk_lt g (g + 1) (fun _ => H s.1 s.2 (h.2.2.2 (by omega))) (fun z => absurd z (by omega))
  · intro n i s hi h hw
    obtain ⟨s1, s2⟩ := s
    obtain ⟨i0, k7, k8, _⟩ := h
    have k7' : upd s1 i (nI 268435456) 0 = nI 0 := by rw [pk_un (by omega)]; exact k7
    have k8' : upd s2 i 0 0 = 0 := by rw [pk_un (by omega)]; exact k8
    refine pk_lt g i (fun z => absurd z (by omega)) (fun _ => ⟨pk_in i 128 (by omega), nm_r (e' := upd s1 i (nI 268435456)) (by rw [nI_clamp (by omega)]; rfl) ⟨pk_in i 128 (by omega), nm_r (e' := upd s2 i 0) (by rw [nI_clamp (by omega)]) ?_⟩⟩)
    by_cases e : i = g
    · subst e
      refine br_t g6 (tj_top ht g1 g2 (tj_onep ht hb g3 g4 g5 hg h5 hF k7' k8' pk_us ?_))
      refine hw (upd (upd s1 i (nI 268435456)) i (nI F), upd (upd s2 i 0) i (a6 (7 * t + b))) ⟨by omega, ?_, ?_, fun _ => pk_us⟩
      · show upd (upd s1 i (nI 268435456)) i (nI F) 0 = nI 0
        rw [pk_un (by omega)]; exact k7'
      · show upd (upd s2 i 0) i (a6 (7 * t + b)) 0 = 0
        rw [pk_un (by omega)]; exact k8'
    · refine br_c (fun c => ?_) (fun c => nm_r (nI_1 i) (hw (upd s1 i (nI 268435456), upd s2 i 0) ⟨by omega, k7', k8', fun z => absurd z (by omega)⟩))
      have q := g7 i (by omega) i0 c
      exact tj_top (tj_tp_le i) q.1 q.2.1 (tj_none (tj_tp_le i) q.2.2 (nI_1 i) (hw (upd s1 i (nI 268435456), upd s2 i 0) ⟨by omega, k7', k8', fun z => absurd z (by omega)⟩))
end
section
/-! solve -/
theorem tj_sv14 {post : Int32 → St2 → Prop} {s w : Int32} {a1 a2 a3 a4 a5 a6 a7 a8 a9 : Nat → Int32}
    (H : wpX_findWays (fun u => match u with | (n, c, w', b1, b2, b3, b4, b5, b6, b7, b8, b9) => (wpX_oddOf (fun r => (∀ x : Int32, x = s ^^^ r → (wpX_pairUp (fun u => match u with | (n', c', w'', d1, d2, d3, d4, d5, d6, d7, d8, d9) => (vp_in x 128 ∧ (post ((d8 x.toNatClampNeg) ^^^ tj_ng a4 3) (n', c', w'', d1, d2, d3, d4, d5, d6, d7, d8, d9)))) (n, c, w', b1, b2, b3, b4, b5, b6, b7, b8, b9) x))) (n, c, w', b1, b2, b3, b4, b5, b6, b7, b8, b9) (tj_ng a4 3))) (4, 3, w, a1, a2, a3, a4, a5, a6, a7, a8, a9)) :
    ∃ n, wX_solve_14 post s 4 3 w a1 a2 a3 a4 a5 a6 a7 a8 a9 n 0 0 := by
  show ∃ n, wX_solve_14 post s 4 3 w a1 a2 a3 a4 a5 a6 a7 a8 a9 n 0 (nI 0)
  refine pk_loop (fun n i t => wX_solve_14 post s 4 3 w a1 a2 a3 a4 a5 a6 a7 a8 a9 n t (nI i)) (fun i t => t = tj_ng a4 i) 3 0 0 (by omega) rfl ?_ ?_
  · intro n t h
    subst h
    exact pk_le 3 3 (fun _ => H) (fun z => absurd z (by omega))
  · intro n i t hi h hw
    refine pk_le 3 i (fun z => absurd z (by omega)) (fun _ => ⟨pk_in i 12 (by omega), br_c (fun g => nm_e (nm_r (nI_1 i) (hw _ ?_))) (fun g => nm_e (nm_r (nI_1 i) (hw _ ?_)))⟩)
    · rw [nI_clamp (show i < 2 ^ 31 by omega)] at g
      show t ||| 0 = if 0 ≤ a4 i then tj_ng a4 i ||| 0 else tj_ng a4 i ||| tj_one i
      rw [if_pos g, h]
    · rw [nI_clamp (show i < 2 ^ 31 by omega)] at g
      show t ||| tj_one i = if 0 ≤ a4 i then tj_ng a4 i ||| 0 else tj_ng a4 i ||| tj_one i
      rw [if_neg g, h]
/-- where the pairing of a goal stands among the ways: the roads of the way -/
def tj_way (x y z g : Nat) : Nat := if g = 3 then (if y + z < x then 6 else 1) else if g = 5 then (if x + y < z then 3 else 4) else if g = 6 then (if x + z < y then 5 else 2) else 0
theorem tj_solveN {post : Int32 → St2 → Prop} {s w : Int32} {a1 a2 a3 a4 a5 a6 a7 a8 a9 : Nat → Int32} {x y z N g : Nat} (hE : tj_E a1 a2) (hs : ∀ x, x < 4 → ¬ tj_fx (tj_pf s (nI x)) 4 = 1) (hC : tj_C a4 x y z) (hx : 0 < x) (hy : 0 < y) (hz : 0 < z) (bx : x < 268435456) (bY : y < 268435456) (bz : z < 268435456)
    (hN : tj_ng a4 3 = nI N) (hg : s ^^^ tj_od (nI N) 3 = nI g) (hg4 : g = 0 ∨ g = 3 ∨ g = 5 ∨ g = 6)
    (H : ∀ b5 b6 b7 b8 b9 : Nat → Int32, post (nI (tj_way x y z g ^^^ N)) (4, 3, w, a1, a2, a3, a4, b5, b6, b7, b8, b9)) :
    wpX_solve post (4, 3, w, a1, a2, a3, a4, a5, a6, a7, a8, a9) s := by
  unfold wpX_solve
  refine tj_isPossible hE hs (fun b hb => ?_)
  refine br_f (by decide) (tj_sv14 ?_)
  refine tj_findWays hE hC hx hy hz bx bY bz (fun b5 b6 p q r hp hq hr hM => ?_)
  refine tj_oddOf hE ?_
  rw [hN]
  refine nm_r hg ?_
  rcases hg4 with e | e | e | e
  · subst e
    refine tj_pairUp0 (fun b7 b8 h => ⟨pk_in 0 128 (by omega), ?_⟩)
    have e8 : b8 (nI 0).toNatClampNeg ^^^ nI N = nI (tj_way x y z 0 ^^^ N) := by
      rw [nI_clamp (by omega), h, ← nI_0, tj_xor]; rfl
    rw [e8]
    exact H b5 b6 b7 b8 b
  · subst e
    have m := hM 7 (by omega)
    refine tj_pairUp (g := 3) (t := 1) (b := 0) tj_G3 (by omega) (by omega) (by omega) (by omega) m.1 hp (fun b7 b8 h => ⟨pk_in 3 128 (by omega), ?_⟩)
    have e8 : b8 (nI 3).toNatClampNeg ^^^ nI N = nI (tj_way x y z 3 ^^^ N) := by
      rw [nI_clamp (by omega), h, m.2, tj_xor]; rfl
    rw [e8]
    exact H b5 b6 b7 b8 b
  · subst e
    have m := hM 14 (by omega)
    refine tj_pairUp (g := 5) (t := 2) (b := 0) tj_G5 (by omega) (by omega) (by omega) (by omega) m.1 hr (fun b7 b8 h => ⟨pk_in 5 128 (by omega), ?_⟩)
    have e8 : b8 (nI 5).toNatClampNeg ^^^ nI N = nI (tj_way x y z 5 ^^^ N) := by
      rw [nI_clamp (by omega), h, m.2, tj_xor]; rfl
    rw [e8]
    exact H b5 b6 b7 b8 b
  · subst e
    have m := hM 15 (by omega)
    refine tj_pairUp (g := 6) (t := 2) (b := 1) tj_G6 (by omega) (by omega) (by omega) (by omega) m.1 hq (fun b7 b8 h => ⟨pk_in 6 128 (by omega), ?_⟩)
    have e8 : b8 (nI 6).toNatClampNeg ^^^ nI N = nI (tj_way x y z 6 ^^^ N) := by
      rw [nI_clamp (by omega), h, m.2, tj_xor]; rfl
    rw [e8]
    exact H b5 b6 b7 b8 b
/-- the costs as ints -/
def tj_K (a4 : Nat → Int32) (c0 c1 c2 : Int) : Prop := (a4 0 = Int32.ofInt c0 ∧ ¬ c0 = 0 ∧ -16777216 ≤ c0 ∧ c0 ≤ 16777216) ∧ (a4 1 = Int32.ofInt c1 ∧ ¬ c1 = 0 ∧ -16777216 ≤ c1 ∧ c1 ≤ 16777216) ∧ (a4 2 = Int32.ofInt c2 ∧ ¬ c2 = 0 ∧ -16777216 ≤ c2 ∧ c2 ≤ 16777216)
theorem tj_Ca {x : Int32} {c : Int} (h : x = Int32.ofInt c) (h1 : -16777216 ≤ c) (h2 : c ≤ 16777216) : (0 ≤ x → x = nI c.natAbs) ∧ (¬ 0 ≤ x → -x = nI c.natAbs) := by
  subst h
  constructor
  · intro g
    exact tj_pos ((tj_ge0 (by omega) (by omega)).mp g)
  · intro g
    refine tj_neg ?_
    rcases Int.lt_or_le c 0 with d | d
    · exact d
    · exact absurd ((tj_ge0 (by omega) (by omega)).mpr d) g
/-- the negative roads -/
def tj_neg3 (c0 c1 c2 : Int) : Nat := (if 0 ≤ c0 then 0 else 1) + (if 0 ≤ c1 then 0 else 2) + (if 0 ≤ c2 then 0 else 4)
theorem tj_ng3 {a4 : Nat → Int32} {c0 c1 c2 : Int} (hK : tj_K a4 c0 c1 c2) : tj_ng a4 3 = nI (tj_neg3 c0 c1 c2) := by
  obtain ⟨⟨e0, _, p0, q0⟩, ⟨e1, _, p1, q1⟩, ⟨e2, _, p2, q2⟩⟩ := hK
  have i0 : 0 ≤ a4 0 ↔ 0 ≤ c0 := by rw [e0]; exact tj_ge0 (by omega) (by omega)
  have i1 : 0 ≤ a4 1 ↔ 0 ≤ c1 := by rw [e1]; exact tj_ge0 (by omega) (by omega)
  have i2 : 0 ≤ a4 2 ↔ 0 ≤ c2 := by rw [e2]; exact tj_ge0 (by omega) (by omega)
  unfold tj_neg3
  rw [tj_ng, tj_ng, tj_ng, tj_ng]
  by_cases d0 : 0 ≤ c0 <;> by_cases d1 : 0 ≤ c1 <;> by_cases d2 : 0 ≤ c2 <;> simp only [i0, i1, i2, d0, d1, d2, if_true, if_false] <;> decide
def tj_goal (s N : Nat) : Nat := s ^^^ (if N = 1 ∨ N = 6 then 3 else if N = 2 ∨ N = 5 then 6 else if N = 4 ∨ N = 3 then 5 else 0)
theorem tj_goalOk : ∀ s, s < 4 → ∀ N, N < 8 → s = 0 ∨ s = 3 → nI s ^^^ tj_od (nI N) 3 = nI (tj_goal s N) ∧ (tj_goal s N = 0 ∨ tj_goal s N = 3 ∨ tj_goal s N = 5 ∨ tj_goal s N = 6) := by
  decide +kernel
theorem tj_neg3_lt (c0 c1 c2 : Int) : tj_neg3 c0 c1 c2 < 8 := by
  unfold tj_neg3
  repeat' split
  all_goals omega
theorem tj_ans3 {c0 c1 c2 : Int} (h0 : ¬ c0 = 0) (h1 : ¬ c1 = 0) (h2 : ¬ c2 = 0) (ht : ¬ c0 = c1 + c2) : tj_way c0.natAbs c1.natAbs c2.natAbs (tj_goal 3 (tj_neg3 c0 c1 c2)) ^^^ tj_neg3 c0 c1 c2 = if c0 < c1 + c2 then 1 else 6 := by
  unfold tj_neg3
  by_cases d0 : 0 ≤ c0 <;> by_cases d1 : 0 ≤ c1 <;> by_cases d2 : 0 ≤ c2 <;> simp only [d0, d1, d2, if_true, if_false] <;> simp [tj_goal, tj_way] <;> by_cases c : c0 < c1 + c2
  all_goals (repeat' split)
  all_goals first | rfl | omega
theorem tj_ans0 {c0 c1 c2 : Int} (h0 : ¬ c0 = 0) (h1 : ¬ c1 = 0) (h2 : ¬ c2 = 0) (ht : ¬ c0 + c1 + c2 = 0) : tj_way c0.natAbs c1.natAbs c2.natAbs (tj_goal 0 (tj_neg3 c0 c1 c2)) ^^^ tj_neg3 c0 c1 c2 = if c0 + c1 + c2 < 0 then 7 else 0 := by
  unfold tj_neg3
  by_cases d0 : 0 ≤ c0 <;> by_cases d1 : 0 ≤ c1 <;> by_cases d2 : 0 ≤ c2 <;> simp only [d0, d1, d2, if_true, if_false] <;> simp [tj_goal, tj_way] <;> by_cases c : c0 + c1 + c2 < 0
  all_goals (repeat' split)
  all_goals first | rfl | omega
theorem tj_solve3 {post : Int32 → St2 → Prop} {w : Int32} {a1 a2 a3 a4 a5 a6 a7 a8 a9 : Nat → Int32} {c0 c1 c2 : Int} (hE : tj_E a1 a2) (hK : tj_K a4 c0 c1 c2) (ht : ¬ c0 = c1 + c2)
    (H : ∀ b5 b6 b7 b8 b9 : Nat → Int32, post (nI (if c0 < c1 + c2 then 1 else 6)) (4, 3, w, a1, a2, a3, a4, b5, b6, b7, b8, b9)) :
    wpX_solve post (4, 3, w, a1, a2, a3, a4, a5, a6, a7, a8, a9) 3 := by
  have hN := tj_ng3 hK
  obtain ⟨⟨e0, n0, p0, q0⟩, ⟨e1, n1, p1, q1⟩, ⟨e2, n2, p2, q2⟩⟩ := hK
  have G := tj_goalOk 3 (by omega) _ (tj_neg3_lt c0 c1 c2) (Or.inr rfl)
  refine tj_solveN (x := c0.natAbs) (y := c1.natAbs) (z := c2.natAbs) hE tj_poss3 ⟨tj_Ca e0 p0 q0, tj_Ca e1 p1 q1, tj_Ca e2 p2 q2⟩ (by omega) (by omega) (by omega) (by omega) (by omega) (by omega) hN G.1 G.2 (fun b5 b6 b7 b8 b9 => ?_)
  rw [tj_ans3 n0 n1 n2 ht]
  exact H b5 b6 b7 b8 b9
theorem tj_solve0 {post : Int32 → St2 → Prop} {w : Int32} {a1 a2 a3 a4 a5 a6 a7 a8 a9 : Nat → Int32} {c0 c1 c2 : Int} (hE : tj_E a1 a2) (hK : tj_K a4 c0 c1 c2) (ht : ¬ c0 + c1 + c2 = 0)
    (H : ∀ b5 b6 b7 b8 b9 : Nat → Int32, post (nI (if c0 + c1 + c2 < 0 then 7 else 0)) (4, 3, w, a1, a2, a3, a4, b5, b6, b7, b8, b9)) :
    wpX_solve post (4, 3, w, a1, a2, a3, a4, a5, a6, a7, a8, a9) 0 := by
  have hN := tj_ng3 hK
  obtain ⟨⟨e0, n0, p0, q0⟩, ⟨e1, n1, p1, q1⟩, ⟨e2, n2, p2, q2⟩⟩ := hK
  have G := tj_goalOk 0 (by omega) _ (tj_neg3_lt c0 c1 c2) (Or.inl rfl)
  refine tj_solveN (x := c0.natAbs) (y := c1.natAbs) (z := c2.natAbs) hE tj_poss0 ⟨tj_Ca e0 p0 q0, tj_Ca e1 p1 q1, tj_Ca e2 p2 q2⟩ (by omega) (by omega) (by omega) (by omega) (by omega) (by omega) hN G.1 G.2 (fun b5 b6 b7 b8 b9 => ?_)
  rw [tj_ans0 n0 n1 n2 ht]
  exact H b5 b6 b7 b8 b9
end
section
/-! the public methods, on the law's triangle -/
def tj_S (a1 a2 a3 : Nat → Int32) (P Q R : Int) : Prop := tj_E a1 a2 ∧ (a3 0 = Int32.ofInt P ∧ -9 ≤ P ∧ P ≤ 20) ∧ (a3 1 = Int32.ofInt Q ∧ -9 ≤ Q ∧ Q ≤ 20) ∧ (a3 2 = Int32.ofInt R ∧ -9 ≤ R ∧ R ≤ 20)
theorem tj_wt0 (f : Nat → Int32) : tj_wt (nI 0) f 3 = 0 := by
  rw [tj_wt, tj_wt, tj_wt, tj_wt, if_neg (by decide), if_neg (by decide), if_neg (by decide)]
  rfl
theorem tj_wt1 (f : Nat → Int32) : tj_wt (nI 1) f 3 = f 0 := by
  rw [tj_wt, tj_wt, tj_wt, tj_wt, if_neg (by decide), if_neg (by decide), if_pos (by decide)]
  simp
theorem tj_wt6 (f : Nat → Int32) : tj_wt (nI 6) f 3 = f 1 + f 2 := by
  rw [tj_wt, tj_wt, tj_wt, tj_wt, if_pos (by decide), if_pos (by decide), if_neg (by decide)]
  simp
theorem tj_wt7 (f : Nat → Int32) : tj_wt (nI 7) f 3 = f 0 + f 1 + f 2 := by
  rw [tj_wt, tj_wt, tj_wt, tj_wt, if_pos (by decide), if_pos (by decide), if_pos (by decide)]
  simp
theorem tj_cost {x : Int32} {P : Int} {e : Nat} {k : Int} (h : x = Int32.ofInt P) (hk : tj_one e = Int32.ofInt k) : 4096 * x + tj_one e = Int32.ofInt (4096 * P + k) := by
  rw [h, hk, Int32.ofInt_add, Int32.ofInt_mul]
  rfl
theorem tj_K0 {a1 a2 a3 b : Nat → Int32} {P Q R : Int} (hS : tj_S a1 a2 a3 P Q R) (h : ∀ j, j < 3 → b j = 4096 * a3 j + tj_one j) : tj_K b (4096 * P + 1) (4096 * Q + 2) (4096 * R + 4) := by
  obtain ⟨_, ⟨e0, p0, q0⟩, ⟨e1, p1, q1⟩, ⟨e2, p2, q2⟩⟩ := hS
  refine ⟨⟨?_, by omega, by omega, by omega⟩, ⟨?_, by omega, by omega, by omega⟩, ⟨?_, by omega, by omega, by omega⟩⟩
  · rw [h 0 (by omega)]; exact tj_cost e0 (by decide)
  · rw [h 1 (by omega)]; exact tj_cost e1 (by decide)
  · rw [h 2 (by omega)]; exact tj_cost e2 (by decide)
theorem tj_K1 {b : Nat → Int32} {c0 c1 c2 : Int} (h : tj_K b c0 c1 c2) (h1 : ¬ c1 - 4194304 = 0) (h2 : -12582912 ≤ c1) : tj_K (upd b 1 (b 1 - 4194304)) c0 (c1 - 4194304) c2 := by
  obtain ⟨⟨e0, n0, p0, q0⟩, ⟨e1, n1, p1, q1⟩, ⟨e2, n2, p2, q2⟩⟩ := h
  refine ⟨⟨?_, n0, p0, q0⟩, ⟨?_, h1, by omega, by omega⟩, ⟨?_, n2, p2, q2⟩⟩
  · rw [pk_un (by omega)]; exact e0
  · rw [pk_us, e1, Int32.ofInt_sub]; rfl
  · rw [pk_un (by omega)]; exact e2
theorem tj_best {post : Int32 → St2 → Prop} {a1 a2 a3 a4 a5 a6 a7 a8 a9 : Nat → Int32} {P Q R : Int} (hS : tj_S a1 a2 a3 P Q R)
    (H : ∀ b4 b5 b6 b7 b8 b9 : Nat → Int32, post (if Q + R < P then Int32.ofInt Q + Int32.ofInt R else Int32.ofInt P) (4, 3, 3, a1, a2, a3, b4, b5, b6, b7, b8, b9)) :
    wpX_best post (4, 3, 3, a1, a2, a3, a4, a5, a6, a7, a8, a9) := by
  unfold wpX_best
  refine tj_takeCosts (fun b hb => ?_)
  refine tj_solve3 hS.1 (tj_K0 hS hb) (by omega) (fun b5 b6 b7 b8 b9 => ?_)
  obtain ⟨_, ⟨e0, p0, q0⟩, ⟨e1, p1, q1⟩, ⟨e2, p2, q2⟩⟩ := hS
  have HH := H b b5 b6 b7 b8 b9
  by_cases c : Q + R < P
  · rw [if_pos c, ← e1, ← e2] at HH
    rw [if_neg (show ¬ 4096 * P + 1 < 4096 * Q + 2 + (4096 * R + 4) by omega)]
    refine br_t (by decide) (tj_weightOf ?_)
    rw [tj_wt6]
    exact HH
  · rw [if_neg c, ← e0] at HH
    rw [if_pos (show 4096 * P + 1 < 4096 * Q + 2 + (4096 * R + 4) by omega)]
    refine br_t (by decide) (tj_weightOf ?_)
    rw [tj_wt1]
    exact HH
theorem tj_bestSet {post : Int32 → St2 → Prop} {a1 a2 a3 a4 a5 a6 a7 a8 a9 : Nat → Int32} {P Q R : Int} (hS : tj_S a1 a2 a3 P Q R)
    (H : ∀ b4 b5 b6 b7 b8 b9 : Nat → Int32, post (if Q + R < P then 6 else 1) (4, 3, 3, a1, a2, a3, b4, b5, b6, b7, b8, b9)) :
    wpX_bestSet post (4, 3, 3, a1, a2, a3, a4, a5, a6, a7, a8, a9) := by
  unfold wpX_bestSet
  refine tj_takeCosts (fun b hb => ?_)
  refine tj_solve3 hS.1 (tj_K0 hS hb) (by omega) (fun b5 b6 b7 b8 b9 => ?_)
  have HH := H b b5 b6 b7 b8 b9
  by_cases c : Q + R < P
  · rw [if_pos c] at HH
    rw [if_neg (show ¬ 4096 * P + 1 < 4096 * Q + 2 + (4096 * R + 4) by omega)]
    exact HH
  · rw [if_neg c] at HH
    rw [if_pos (show 4096 * P + 1 < 4096 * Q + 2 + (4096 * R + 4) by omega)]
    exact HH
theorem tj_bestWith {post : Int32 → St2 → Prop} {a1 a2 a3 a4 a5 a6 a7 a8 a9 : Nat → Int32} {P Q R : Int} (hS : tj_S a1 a2 a3 P Q R)
    (H : ∀ b4 b5 b6 b7 b8 b9 : Nat → Int32, post (Int32.ofInt Q + Int32.ofInt R) (4, 3, 3, a1, a2, a3, b4, b5, b6, b7, b8, b9)) :
    wpX_bestWith post (4, 3, 3, a1, a2, a3, a4, a5, a6, a7, a8, a9) 1 := by
  unfold wpX_bestWith
  refine br_f (by decide) (br_f (by decide) (br_f (by decide) ?_))
  refine tj_takeCosts (fun b hb => ⟨pk_in 1 12 (by omega), pk_in 1 12 (by omega), nm_r (e' := upd b 1 (b 1 - 4194304)) rfl ?_⟩)
  have hE := hS.1
  have K := tj_K0 hS hb
  obtain ⟨_, ⟨e0, p0, q0⟩, ⟨e1, p1, q1⟩, ⟨e2, p2, q2⟩⟩ := hS
  refine tj_solve3 hE (tj_K1 K (by omega) (by omega)) (by omega) (fun b5 b6 b7 b8 b9 => ?_)
  rw [if_neg (show ¬ 4096 * P + 1 < 4096 * Q + 2 - 4194304 + (4096 * R + 4) by omega)]
  refine br_f (by decide) (br_f (by decide) (tj_weightOf ?_))
  rw [tj_wt6, e1, e2]
  exact H _ b5 b6 b7 b8 b9
theorem tj_joins {post : Int32 → St2 → Prop} {a1 a2 a3 a4 a5 a6 a7 a8 a9 : Nat → Int32} (hE : tj_E a1 a2)
    (H : ∀ b9 : Nat → Int32, post 2 (4, 3, 3, a1, a2, a3, a4, a5, a6, a7, a8, b9)) :
    wpX_joins post (4, 3, 3, a1, a2, a3, a4, a5, a6, a7, a8, a9) := by
  unfold wpX_joins
  refine tj_isPossible hE tj_poss3 (fun b _ => ?_)
  refine br_f (by decide) (tj_countParts hE (fun c => ?_))
  exact H c
theorem tj_between {post : Int32 → St2 → Prop} {a1 a2 a3 a4 a5 a6 a7 a8 a9 : Nat → Int32} {P Q R : Int} (hS : tj_S a1 a2 a3 P Q R)
    (H : ∀ b4 b5 b6 b7 b8 b9 : Nat → Int32, post (if P + Q + R < 0 then Int32.ofInt P + Int32.ofInt Q + Int32.ofInt R else 0) (4, 3, 3, a1, a2, a3, b4, b5, b6, b7, b8, b9)) :
    wpX_between post (4, 3, 3, a1, a2, a3, a4, a5, a6, a7, a8, a9) 3 3 := by
  unfold wpX_between
  refine br_f (by decide) (br_f (by decide) (br_f (by decide) ?_))
  refine br_f (by decide) (br_f (by decide) (br_f (by decide) ?_))
  refine tj_takeCosts (fun b hb => ?_)
  refine tj_solve0 hS.1 (tj_K0 hS hb) (by omega) (fun b5 b6 b7 b8 b9 => ?_)
  obtain ⟨_, ⟨e0, p0, q0⟩, ⟨e1, p1, q1⟩, ⟨e2, p2, q2⟩⟩ := hS
  have HH := H b b5 b6 b7 b8 b9
  by_cases c : P + Q + R < 0
  · rw [if_pos c, ← e0, ← e1, ← e2] at HH
    rw [if_pos (show 4096 * P + 1 + (4096 * Q + 2) + (4096 * R + 4) < 0 by omega)]
    refine br_t (by decide) (tj_weightOf ?_)
    rw [tj_wt7]
    exact HH
  · rw [if_neg c] at HH
    rw [if_neg (show ¬ 4096 * P + 1 + (4096 * Q + 2) + (4096 * R + 4) < 0 by omega)]
    refine br_t (by decide) (tj_weightOf ?_)
    rw [tj_wt0]
    exact HH
theorem tj_pm42 {post : Int32 → St2 → Prop} {a1 a2 a3 a4 a5 a6 a7 a8 a9 : Nat → Int32} {P Q R : Int} (hS : tj_S a1 a2 a3 P Q R) (h9 : ∀ j, j < 4 → a9 j = tj_part j) (hp : 0 ≤ P ∧ 0 ≤ Q ∧ 0 ≤ R)
    (H : ∀ b4 b5 b6 b7 b8 b9 : Nat → Int32, post 0 (4, 3, 3, a1, a2, a3, b4, b5, b6, b7, b8, b9)) :
    ∃ n, wX_postman_42 post 4 3 3 a1 a2 a3 a4 a5 a6 a7 a8 a9 n 1 := by
  have hE := hS.1
  show ∃ n, wX_postman_42 post 4 3 3 a1 a2 a3 a4 a5 a6 a7 a8 a9 n (nI 1)
  refine pk_loop (σ := Unit) (fun n i _ => wX_postman_42 post 4 3 3 a1 a2 a3 a4 a5 a6 a7 a8 a9 n (nI i)) (fun _ _ => True) 3 1 () (by omega) trivial ?_ ?_
  · intro n _ _
    refine pk_le 3 3 (fun _ => ?_) (fun z => absurd z (by omega))
    refine tj_takeCosts (fun b hb => ?_)
    refine tj_oddOf (s := 7) hE ?_
    show wpX_solve _ (4, 3, 3, a1, a2, a3, b, a5, a6, a7, a8, a9) 0
    refine tj_solve0 hE (tj_K0 hS hb) (by omega) (fun b5 b6 b7 b8 b9 => ?_)
    rw [if_neg (show ¬ 4096 * P + 1 + (4096 * Q + 2) + (4096 * R + 4) < 0 by omega)]
    refine tj_weightOf ?_
    rw [tj_wt0]
    exact H b b5 b6 b7 b8 b9
  · intro n i _ hi _ hw
    have e1 : a1 (nI i).toNatClampNeg = nI i := by rw [nI_clamp (by omega)]; exact (hE i hi).1
    have e0 : a1 0 = nI 0 := (hE 0 (by omega)).1
    refine pk_le 3 i (fun z => absurd z (by omega)) (fun _ => ⟨pk_in i 12 (by omega), pk_in i 7 (by omega) e1, pk_in 0 7 (by omega) e0, br_t ?_ (nm_r (nI_1 i) (hw () trivial))⟩)
    rw [e1, e0, nI_clamp (by omega), nI_clamp (by omega), h9 i (by omega), h9 0 (by omega), tj_part, tj_part, if_neg (by omega), if_neg (by omega)]
theorem tj_postman {post : Int32 → St2 → Prop} {a1 a2 a3 a4 a5 a6 a7 a8 a9 : Nat → Int32} {P Q R : Int} (hS : tj_S a1 a2 a3 P Q R)
    (H1 : P < 0 ∨ Q < 0 ∨ R < 0 → post (-1) (4, 3, 3, a1, a2, a3, a4, a5, a6, a7, a8, a9))
    (H2 : 0 ≤ P ∧ 0 ≤ Q ∧ 0 ≤ R → ∀ b4 b5 b6 b7 b8 b9 : Nat → Int32, post 0 (4, 3, 3, a1, a2, a3, b4, b5, b6, b7, b8, b9)) :
    wpX_postman post (4, 3, 3, a1, a2, a3, a4, a5, a6, a7, a8, a9) := by
  have hS' := hS
  obtain ⟨hE, ⟨e0, p0, q0⟩, ⟨e1, p1, q1⟩, ⟨e2, p2, q2⟩⟩ := hS'
  have i0 : 0 ≤ a3 0 ↔ 0 ≤ P := by rw [e0]; exact tj_ge0 (by omega) (by omega)
  have i1 : 0 ≤ a3 1 ↔ 0 ≤ Q := by rw [e1]; exact tj_ge0 (by omega) (by omega)
  have i2 : 0 ≤ a3 2 ↔ 0 ≤ R := by rw [e2]; exact tj_ge0 (by omega) (by omega)
  show ∃ n, wX_postman_2 post 4 3 3 a1 a2 a3 a4 a5 a6 a7 a8 a9 n (nI 0)
  refine pk_loop (σ := Unit) (fun n i _ => wX_postman_2 post 4 3 3 a1 a2 a3 a4 a5 a6 a7 a8 a9 n (nI i)) (fun i _ => ∀ j, j < i → 0 ≤ a3 j) 3 0 () (by omega) (fun j hj => absurd hj (by omega)) ?_ ?_
  · intro n _ h
    refine pk_le 3 3 (fun _ => br_f (by decide) ?_) (fun z => absurd z (by omega))
    have hp : 0 ≤ P ∧ 0 ≤ Q ∧ 0 ≤ R := ⟨i0.mp (h 0 (by omega)), i1.mp (h 1 (by omega)), i2.mp (h 2 (by omega))⟩
    exact tj_findParts hE (fun b hb => tj_pm42 hS hb hp (H2 hp))
  · intro n i _ hi h hw
    refine pk_le 3 i (fun z => absurd z (by omega)) (fun _ => ⟨pk_in i 12 (by omega), br_c (fun g => nm_r (nI_1 i) (hw () ?_)) (fun g => H1 ?_)⟩)
    · rw [nI_clamp (show i < 2 ^ 31 by omega)] at g
      intro j hj
      by_cases e : j = i
      · rw [e]; exact g
      · exact h j (by omega)
    · rw [nI_clamp (show i < 2 ^ 31 by omega)] at g
      have hi3 : i = 0 ∨ i = 1 ∨ i = 2 := by omega
      rcases hi3 with e | e | e
      · subst e; rw [i0] at g; exact Or.inl (by omega)
      · subst e; rw [i1] at g; exact Or.inr (Or.inl (by omega))
      · subst e; rw [i2] at g; exact Or.inr (Or.inr (by omega))
theorem tj_turn {post : Int32 → St2 → Prop} {x : Int32} {a1 a2 a3 a4 a5 a6 a7 a8 a9 : Nat → Int32}
    (H1 : x < 0 ∨ 4 ≤ x → post (-1) (4, 3, 3, a1, a2, a3, a4, a5, a6, a7, a8, a9))
    (H2 : ¬ x < 0 → ¬ 4 ≤ x → post (3 ^^^ ((1 : Int32) <<< (x &&& 31))) (4, 3, 3 ^^^ ((1 : Int32) <<< (x &&& 31)), a1, a2, a3, a4, a5, a6, a7, a8, a9)) :
    wpX_turn post (4, 3, 3, a1, a2, a3, a4, a5, a6, a7, a8, a9) x := by
  unfold wpX_turn
  exact br_c (fun g => br_t rfl (H1 (Or.inl g))) (fun g => br_c (fun g2 => br_t rfl (H1 (Or.inr g2))) (fun g2 => br_f (by decide) (nm_e (H2 g g2))))
end
section
/-! the law -/
theorem tj_265a {post : Int32 → St0 → Prop} {mc ms kc ks : Nat} {x : Int32} {a1 a2 a3 a4 a5 a6 a7 a8 a9 : Nat → Int32} (hp : post 1 ()) (hx : x < 0 ∨ 4 ≤ x) : wL_lawOf_265 post mc ms x 0 kc ks 4 3 3 a1 a2 a3 a4 a5 a6 a7 a8 a9 := by
  unfold wL_lawOf_265
  refine tj_turn (fun _ => br_t rfl (br_t rfl hp)) (fun g g2 => ?_)
  rcases hx with h | h
  · exact absurd h g
  · exact absurd h g2
theorem tj_265b {post : Int32 → St0 → Prop} {mc ms kc ks : Nat} {x : Int32} {a1 a2 a3 a4 a5 a6 a7 a8 a9 : Nat → Int32} (hp : post 1 ()) (h1 : ¬ x < 0) (h2 : ¬ 4 ≤ x) : wL_lawOf_265 post mc ms x 1 kc ks 4 3 3 a1 a2 a3 a4 a5 a6 a7 a8 a9 := by
  unfold wL_lawOf_265
  refine tj_turn (fun g => ?_) (fun _ _ => br_f (by decide) (br_t rfl hp))
  rcases g with h | h
  · exact absurd h h1
  · exact absurd h h2
theorem tj_246 {post : Int32 → St0 → Prop} {mc ms kc ks : Nat} {x z0 z1 : Int32} {a1 a2 a3 a4 a5 a6 a7 a8 a9 : Nat → Int32} (hp : post 1 ()) (hz : z1 = z0) : wL_lawOf_246 post mc ms x z0 z1 kc ks 4 3 3 a1 a2 a3 a4 a5 a6 a7 a8 a9 :=
  br_t hz (br_c (fun g => tj_265a hp (Or.inl g)) (fun g => br_c (fun g2 => tj_265a hp (Or.inr g2)) (fun g2 => tj_265b hp g g2)))
theorem tj_213 {post : Int32 → St0 → Prop} {mc ms kc ks : Nat} {x z0 z1 : Int32} {a1 a2 a3 a4 a5 a6 a7 a8 a9 : Nat → Int32} {P Q R : Int} (hp : post 1 ()) (hS : tj_S a1 a2 a3 P Q R) (hz : z1 = z0) : wL_lawOf_213 post mc ms x (Int32.ofInt P) (Int32.ofInt Q) (Int32.ofInt R) z0 z1 kc ks 4 3 3 a1 a2 a3 a4 a5 a6 a7 a8 a9 := by
  have hs : 0 ≤ Int32.ofInt P + Int32.ofInt Q + Int32.ofInt R ↔ 0 ≤ P + Q + R := by
    obtain ⟨_, ⟨_, p0, q0⟩, ⟨_, p1, q1⟩, ⟨_, p2, q2⟩⟩ := hS
    rw [← Int32.ofInt_add, ← Int32.ofInt_add]
    exact tj_ge0 (by omega) (by omega)
  refine br_t hz (nm_e (tj_between hS (fun b4 b5 b6 b7 b8 b9 => br_c (fun g => tj_246 hp ?_) (fun g => tj_246 hp ?_))))
  · rw [if_neg (by have := hs.mp g; omega)]
  · rw [if_pos (by
      rcases Int.lt_or_le (P + Q + R) 0 with d | d
      · exact d
      · exact absurd (hs.mpr d) g)]
theorem tj_191 {post : Int32 → St0 → Prop} {mc ms kc ks : Nat} {x : Int32} {a1 a2 a3 a4 a5 a6 a7 a8 a9 : Nat → Int32} {P Q R : Int} (hp : post 1 ()) (hS : tj_S a1 a2 a3 P Q R) (hl : P < 0 ∨ Q < 0 ∨ R < 0) : wL_lawOf_191 post mc ms x (Int32.ofInt P) (Int32.ofInt Q) (Int32.ofInt R) kc ks 4 3 3 a1 a2 a3 a4 a5 a6 a7 a8 a9 := by
  unfold wL_lawOf_191 wL_lawOf_196
  exact tj_postman hS (fun _ => br_f (by decide) (tj_213 hp hS rfl)) (fun h => absurd hl (by omega))
theorem tj_196 {post : Int32 → St0 → Prop} {mc ms kc ks : Nat} {x : Int32} {a1 a2 a3 a4 a5 a6 a7 a8 a9 : Nat → Int32} {P Q R : Int} (hp : post 1 ()) (hS : tj_S a1 a2 a3 P Q R) (hl : ¬ (P < 0 ∨ Q < 0 ∨ R < 0)) : wL_lawOf_196 post mc ms x (Int32.ofInt P) (Int32.ofInt Q) (Int32.ofInt R) 0 kc ks 4 3 3 a1 a2 a3 a4 a5 a6 a7 a8 a9 := by
  unfold wL_lawOf_196
  exact tj_postman hS (fun h => absurd h hl) (fun _ b4 b5 b6 b7 b8 b9 => br_t rfl (tj_213 hp hS rfl))
theorem tj_146 {post : Int32 → St0 → Prop} {mc ms kc ks : Nat} {x z0 z1 : Int32} {a1 a2 a3 a4 a5 a6 a7 a8 a9 : Nat → Int32} {P Q R : Int} (hp : post 1 ()) (hS : tj_S a1 a2 a3 P Q R) (hz : z1 = z0) : wL_lawOf_146 post mc ms x (Int32.ofInt P) (Int32.ofInt Q) (Int32.ofInt R) z0 z1 kc ks 4 3 3 a1 a2 a3 a4 a5 a6 a7 a8 a9 := by
  have hs : (Int32.ofInt P < 0 ↔ P < 0) ∧ (Int32.ofInt Q < 0 ↔ Q < 0) ∧ (0 ≤ Int32.ofInt R ↔ 0 ≤ R) := by
    obtain ⟨_, ⟨_, p0, q0⟩, ⟨_, p1, q1⟩, ⟨_, p2, q2⟩⟩ := hS
    exact ⟨tj_lt0 (by omega) (by omega), tj_lt0 (by omega) (by omega), tj_ge0 (by omega) (by omega)⟩
  obtain ⟨s0, s1, s2⟩ := hs
  refine br_t hz (tj_bestWith hS (fun b4 b5 b6 b7 b8 b9 => br_t rfl (tj_joins hS.1 (fun c9 => br_t rfl ?_))))
  refine br_c (fun g => tj_191 hp hS (Or.inl (s0.mp g))) (fun g => br_c (fun g1 => tj_191 hp hS (Or.inr (Or.inl (s1.mp g1)))) (fun g1 => br_c (fun g2 => tj_196 hp hS ?_) (fun g2 => tj_191 hp hS (Or.inr (Or.inr ?_)))))
  · rw [s0] at g
    rw [s1] at g1
    rw [s2] at g2
    omega
  · rw [s2] at g2
    omega
theorem tj_127 {post : Int32 → St0 → Prop} {mc ms kc ks : Nat} {x z z0 z1 : Int32} {a1 a2 a3 a4 a5 a6 a7 a8 a9 : Nat → Int32} {P Q R : Int} (hp : post 1 ()) (hS : tj_S a1 a2 a3 P Q R) (hd : z = if Q + R < P then 0 else 1) (hz : z1 = z0) : wL_lawOf_127 post mc ms x (Int32.ofInt P) (Int32.ofInt Q) (Int32.ofInt R) z z0 z1 kc ks 4 3 3 a1 a2 a3 a4 a5 a6 a7 a8 a9 := by
  refine br_t hz (tj_bestSet hS (fun b4 b5 b6 b7 b8 b9 => ?_))
  by_cases c : Q + R < P
  · rw [if_pos c] at hd ⊢
    exact br_t hd (tj_146 hp hS rfl)
  · rw [if_neg c] at hd ⊢
    exact br_f (by rw [hd]; decide) (tj_146 hp hS rfl)
theorem tj_105 {post : Int32 → St0 → Prop} {mc ms kc ks : Nat} {x z : Int32} {a1 a2 a3 a4 a5 a6 a7 a8 a9 : Nat → Int32} {P Q R : Int} (hp : post 1 ()) (hS : tj_S a1 a2 a3 P Q R) (hd : z = if Q + R < P then 0 else 1) : wL_lawOf_105 post mc ms x (Int32.ofInt P) (Int32.ofInt Q) (Int32.ofInt R) z kc ks 4 3 3 a1 a2 a3 a4 a5 a6 a7 a8 a9 := by
  unfold wL_lawOf_105
  refine tj_best hS (fun b4 b5 b6 b7 b8 b9 => ?_)
  by_cases c : Q + R < P
  · have hd' := hd
    rw [if_pos c] at hd' ⊢
    exact br_t hd' (tj_127 hp hS hd rfl)
  · have hd' := hd
    rw [if_neg c] at hd' ⊢
    exact br_f (by rw [hd']; decide) (tj_127 hp hS hd rfl)
theorem tj_road {post : Int32 → St2 → Prop} {w : Int32} {a1 a2 a3 a4 a5 a6 a7 a8 a9 : Nat → Int32} {c p q : Nat} {P : Int} (hc : c < 12) (hp : p < 4) (hq : q < 4) (h1 : -9 ≤ P) (h2 : P ≤ 20)
    (H : post (nI c) (4, nI (c + 1), w, upd a1 c (nI p), upd a2 c (nI q), upd a3 c (Int32.ofInt P), a4, a5, a6, a7, a8, a9)) :
    wpX_road post (4, nI c, w, a1, a2, a3, a4, a5, a6, a7, a8, a9) (nI p) (nI q) (Int32.ofInt P) := by
  have n4 : ∀ k, k < 4 → ¬ (4 : Int32) ≤ nI k := fun k hk => nI_ge (b := 4) hk (by decide)
  have l9 : ¬ Int32.ofInt P < (-9) := by
    rw [show (-9 : Int32) = Int32.ofInt (-9) by decide, tj_ltO (by omega) (by omega) (by omega) (by omega)]
    omega
  have l20 : Int32.ofInt P ≤ 20 := by
    rw [show (20 : Int32) = Int32.ofInt 20 by decide, tj_leO (by omega) (by omega) (by omega) (by omega)]
    omega
  have n12 : ¬ nI c = 12 := by
    rw [show (12 : Int32) = nI 12 from rfl, nI_eq (by omega) (by omega)]
    omega
  unfold wpX_road
  refine br_f (nI_pos (by omega)) (br_f (n4 p hp) (br_f (by decide) ?_))
  refine br_f (nI_pos (by omega)) (br_f (n4 q hq) (br_f (by decide) ?_))
  refine br_f l9 (br_t l20 (br_f n12 ⟨pk_in c 12 hc, nm_r (e' := upd a1 c (nI p)) (by rw [nI_clamp (by omega)]) ⟨pk_in c 12 hc, nm_r (e' := upd a2 c (nI q)) (by rw [nI_clamp (by omega)]) ⟨pk_in c 12 hc, nm_r (e' := upd a3 c (Int32.ofInt P)) (by rw [nI_clamp (by omega)]) (nm_r (nI_1 c) ?_)⟩⟩⟩))
  rw [nI_pred]
  exact H
theorem tj_want {post : Int32 → St2 → Prop} {a1 a2 a3 a4 a5 a6 a7 a8 a9 : Nat → Int32} (H : post 0 (4, 3, 3, a1, a2, a3, a4, a5, a6, a7, a8, a9)) : wpX_want post (4, 3, 0, a1, a2, a3, a4, a5, a6, a7, a8, a9) 3 :=
  br_f (by decide) (br_t (by decide) H)
theorem tj_init {post : St2 → Prop} (H : post (4, 0, 0, (fun _ => 0), (fun _ => 0), (fun _ => 0), (fun _ => 0), (fun _ => 0), (fun _ => 0), (fun _ => 0), (fun _ => 0), (fun _ => 0))) : wpX_init post 9 409 (0, 0, 0) 4 :=
  ⟨by omega, by omega, by omega, by omega, by omega, by omega, by omega, by omega, by omega, by omega, by omega, by omega, by omega, by omega, by omega, by omega, by omega, by omega, br_t (by decide) (br_t (by decide) H)⟩
theorem tj_S0 {a1 a2 a3 : Nat → Int32} {P Q R : Int} (p0 : -9 ≤ P) (q0 : P ≤ 20) (p1 : -9 ≤ Q) (q1 : Q ≤ 20) (p2 : -9 ≤ R) (q2 : R ≤ 20) : tj_S (upd (upd (upd a1 0 (nI 0)) 1 (nI 1)) 2 (nI 2)) (upd (upd (upd a2 0 (nI 1)) 1 (nI 2)) 2 (nI 0)) (upd (upd (upd a3 0 (Int32.ofInt P)) 1 (Int32.ofInt Q)) 2 (Int32.ofInt R)) P Q R := by
  refine ⟨?_, ⟨rfl, p0, q0⟩, ⟨rfl, p1, q1⟩, ⟨rfl, p2, q2⟩⟩
  intro e he
  have h : e = 0 ∨ e = 1 ∨ e = 2 := by omega
  rcases h with rfl | rfl | rfl
  · exact ⟨rfl, rfl⟩
  · exact ⟨rfl, rfl⟩
  · exact ⟨rfl, rfl⟩
theorem tj_lawOf {post : Int32 → St0 → Prop} (hp : post 1 ()) (x y z v : Int32) : wpL_lawOf post 10 421 () x y z v := by
  obtain ⟨P, p0, q0, eP⟩ := tj_w x
  obtain ⟨Q, p1, q1, eQ⟩ := tj_w y
  obtain ⟨R, p2, q2, eR⟩ := tj_w z
  have hS := tj_S0 (a1 := fun _ => 0) (a2 := fun _ => 0) (a3 := fun _ => 0) p0 q0 p1 q1 p2 q2
  have hl : Int32.ofInt Q + Int32.ofInt R < Int32.ofInt P ↔ Q + R < P := by
    rw [← Int32.ofInt_add]
    exact tj_ltO (by omega) (by omega) (by omega) (by omega)
  refine ⟨by omega, by omega, 9, 409, by omega, by omega, tj_init ?_⟩
  refine ⟨by decide, nm_r eP ⟨by decide, nm_r eQ ⟨by decide, nm_r eR ?_⟩⟩⟩
  refine tj_road (c := 0) (p := 0) (q := 1) (by omega) (by omega) (by omega) p0 q0 ?_
  refine tj_road (c := 1) (p := 1) (q := 2) (by omega) (by omega) (by omega) p1 q1 ?_
  refine tj_road (c := 2) (p := 2) (q := 0) (by omega) (by omega) (by omega) p2 q2 ?_
  refine br_t rfl (tj_want (br_t rfl ?_))
  refine br_c (fun g => tj_105 hp hS ?_) (fun g => tj_105 hp hS ?_)
  · rw [if_pos (hl.mp g)]
  · rw [if_neg (fun h => g (hl.mpr h))]
theorem tj_cell {post : Int32 → Prop} {L : Nat} {xs : Nat → Int32} {k : Nat} (hL : L ≤ 4) (hk : k < 4) (H : ∀ v, post v) : wpL_cellAt post L xs () (nI k) :=
  pk_le L k (fun _ => H 0) (fun h => ⟨pk_in k L h, H _⟩)
theorem i_vc (xs : Nat → Int32) (L : Nat) (hL : L ≤ 4) : wpL_law (fun r => r = 1) L xs := by
  unfold wpL_law
  refine tj_cell (k := 0) hL (by omega) (fun v0 => ?_)
  refine tj_cell (k := 1) hL (by omega) (fun v1 => ?_)
  refine tj_cell (k := 2) hL (by omega) (fun v2 => ?_)
  refine tj_cell (k := 3) hL (by omega) (fun v3 => ?_)
  exact ⟨10, 421, by omega, by omega, tj_lawOf rfl v0 v1 v2 v3⟩
end
