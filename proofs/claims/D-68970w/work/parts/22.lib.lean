section BridgeLib
theorem b_tt (c : Prop) {_ : Decidable c} : if c then True else True := by split <;> trivial
theorem b_itq {c : Prop} {_ : Decidable c} {A B P1 P2 : Prop} {v1 v2 : Int} {w1 w2 : bW} {Q : Int → bW → Prop} (ok : if c then A else B) (k : Q (if c then v1 else v2) (if c then w1 else w2)) (f : c → A → Q v1 w1 → P1) (g : ¬ c → B → Q v2 w2 → P2) : if c then P1 else P2 := by
  by_cases hc : c
  · rw [if_pos hc] at ok ⊢; rw [if_pos hc, if_pos hc] at k; exact f hc ok k
  · rw [if_neg hc] at ok ⊢; rw [if_neg hc, if_neg hc] at k; exact g hc ok k
theorem b_itqv {c : Prop} {_ : Decidable c} {A B P1 P2 : Prop} {v1 v2 : Int} {w1 : bW} {Q : Int → bW → Prop} (ok : if c then A else B) (k : Q (if c then v1 else v2) w1) (f : c → A → Q v1 w1 → P1) (g : ¬ c → B → Q v2 w1 → P2) : if c then P1 else P2 := by
  by_cases hc : c
  · rw [if_pos hc] at ok ⊢; rw [if_pos hc] at k; exact f hc ok k
  · rw [if_neg hc] at ok ⊢; rw [if_neg hc] at k; exact g hc ok k
theorem b_itqw {c : Prop} {_ : Decidable c} {A B P1 P2 : Prop} {v1 : Int} {w1 w2 : bW} {Q : Int → bW → Prop} (ok : if c then A else B) (k : Q v1 (if c then w1 else w2)) (f : c → A → Q v1 w1 → P1) (g : ¬ c → B → Q v1 w2 → P2) : if c then P1 else P2 := by
  by_cases hc : c
  · rw [if_pos hc] at ok ⊢; rw [if_pos hc] at k; exact f hc ok k
  · rw [if_neg hc] at ok ⊢; rw [if_neg hc] at k; exact g hc ok k
theorem b_itq0 {c : Prop} {_ : Decidable c} {A B P1 P2 K : Prop} (ok : if c then A else B) (k : K) (f : c → A → K → P1) (g : ¬ c → B → K → P2) : if c then P1 else P2 := by
  by_cases hc : c
  · rw [if_pos hc] at ok ⊢; exact f hc ok k
  · rw [if_neg hc] at ok ⊢; exact g hc ok k
theorem b_icq {c : Prop} {_ : Decidable c} {A B P : Prop} {v1 v2 : Int} {w1 w2 : bW} {Q : Int → bW → Prop} (ok : if c then A else B) (k : Q (if c then v1 else v2) (if c then w1 else w2)) (f : c → A → Q v1 w1 → P) (g : ¬ c → B → Q v2 w2 → P) : P := by
  by_cases hc : c
  · rw [if_pos hc] at ok; rw [if_pos hc, if_pos hc] at k; exact f hc ok k
  · rw [if_neg hc] at ok; rw [if_neg hc, if_neg hc] at k; exact g hc ok k
theorem b_icqv {c : Prop} {_ : Decidable c} {A B P : Prop} {v1 v2 : Int} {w1 : bW} {Q : Int → bW → Prop} (ok : if c then A else B) (k : Q (if c then v1 else v2) w1) (f : c → A → Q v1 w1 → P) (g : ¬ c → B → Q v2 w1 → P) : P := by
  by_cases hc : c
  · rw [if_pos hc] at ok; rw [if_pos hc] at k; exact f hc ok k
  · rw [if_neg hc] at ok; rw [if_neg hc] at k; exact g hc ok k
theorem b_icqw {c : Prop} {_ : Decidable c} {A B P : Prop} {v1 : Int} {w1 w2 : bW} {Q : Int → bW → Prop} (ok : if c then A else B) (k : Q v1 (if c then w1 else w2)) (f : c → A → Q v1 w1 → P) (g : ¬ c → B → Q v1 w2 → P) : P := by
  by_cases hc : c
  · rw [if_pos hc] at ok; rw [if_pos hc] at k; exact f hc ok k
  · rw [if_neg hc] at ok; rw [if_neg hc] at k; exact g hc ok k
theorem b_icq0 {c : Prop} {_ : Decidable c} {A B P K : Prop} (ok : if c then A else B) (k : K) (f : c → A → K → P) (g : ¬ c → B → K → P) : P := by
  by_cases hc : c
  · rw [if_pos hc] at ok; exact f hc ok k
  · rw [if_neg hc] at ok; exact g hc ok k
end BridgeLib
